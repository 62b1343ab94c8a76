section
-- ===== PART A: goes FIRST, ahead of the names: the tables' words, and 'selects' of the private methods out of them =====
/-- a private method of a class that the tables say can be made, by its rows of tables_1 -/
def lw_okq (q : MethodName × Nat) : Prop := (q.1.cls ≠ "java/lang/invoke/MethodHandle" ∧ q.1.cls ≠ "java/lang/invoke/VarHandle") ∧ Cond.instantiable q.1.cls q.2 ∈ tables_1 ∧ Cond.privateMethod q.1 ∈ tables_1 ∧ Cond.instanceMethod q.1 ∈ tables_1
theorem lw_p0 : lw_okq (⟨"TermIndex", "blockOfRank", "(I)I"⟩, 13) := ⟨⟨by decide +kernel, by decide +kernel⟩, List.mem_of_getElem? (i := 4) (by decide +kernel), List.mem_of_getElem? (i := 70) (by decide +kernel), List.mem_of_getElem? (i := 71) (by decide +kernel)⟩
theorem lw_p1 : lw_okq (⟨"TermIndex", "unpack", "(I)V"⟩, 13) := ⟨⟨by decide +kernel, by decide +kernel⟩, List.mem_of_getElem? (i := 4) (by decide +kernel), List.mem_of_getElem? (i := 74) (by decide +kernel), List.mem_of_getElem? (i := 75) (by decide +kernel)⟩
theorem lw_p2 : lw_okq (⟨"TermIndex", "termsBefore", "(I)I"⟩, 13) := ⟨⟨by decide +kernel, by decide +kernel⟩, List.mem_of_getElem? (i := 4) (by decide +kernel), List.mem_of_getElem? (i := 78) (by decide +kernel), List.mem_of_getElem? (i := 79) (by decide +kernel)⟩
theorem lw_p3 : lw_okq (⟨"TermIndex", "countLess", "(Z)I"⟩, 13) := ⟨⟨by decide +kernel, by decide +kernel⟩, List.mem_of_getElem? (i := 4) (by decide +kernel), List.mem_of_getElem? (i := 94) (by decide +kernel), List.mem_of_getElem? (i := 95) (by decide +kernel)⟩
theorem lw_p4 : lw_okq (⟨"TermIndex", "headIsLess", "(IZ)Z"⟩, 13) := ⟨⟨by decide +kernel, by decide +kernel⟩, List.mem_of_getElem? (i := 4) (by decide +kernel), List.mem_of_getElem? (i := 98) (by decide +kernel), List.mem_of_getElem? (i := 99) (by decide +kernel)⟩
theorem lw_p5 : lw_okq (⟨"TermIndex", "matched", "(II)I"⟩, 13) := ⟨⟨by decide +kernel, by decide +kernel⟩, List.mem_of_getElem? (i := 4) (by decide +kernel), List.mem_of_getElem? (i := 102) (by decide +kernel), List.mem_of_getElem? (i := 103) (by decide +kernel)⟩
theorem lw_p6 : lw_okq (⟨"TermIndex", "isLess", "(IIZ)Z"⟩, 13) := ⟨⟨by decide +kernel, by decide +kernel⟩, List.mem_of_getElem? (i := 4) (by decide +kernel), List.mem_of_getElem? (i := 106) (by decide +kernel), List.mem_of_getElem? (i := 107) (by decide +kernel)⟩
theorem lw_p7 : lw_okq (⟨"TermIndex", "scanBlock", "(IZ)I"⟩, 13) := ⟨⟨by decide +kernel, by decide +kernel⟩, List.mem_of_getElem? (i := 4) (by decide +kernel), List.mem_of_getElem? (i := 110) (by decide +kernel), List.mem_of_getElem? (i := 111) (by decide +kernel)⟩
theorem lw_p8 : lw_okq (⟨"TermIndex", "sharedWithKey", "(I)I"⟩, 13) := ⟨⟨by decide +kernel, by decide +kernel⟩, List.mem_of_getElem? (i := 4) (by decide +kernel), List.mem_of_getElem? (i := 114) (by decide +kernel), List.mem_of_getElem? (i := 115) (by decide +kernel)⟩
theorem lw_p9 : lw_okq (⟨"TermIndex", "openBlock", "(I)V"⟩, 13) := ⟨⟨by decide +kernel, by decide +kernel⟩, List.mem_of_getElem? (i := 4) (by decide +kernel), List.mem_of_getElem? (i := 118) (by decide +kernel), List.mem_of_getElem? (i := 119) (by decide +kernel)⟩
theorem lw_p10 : lw_okq (⟨"TermIndex", "putKeyInList", "(I)V"⟩, 13) := ⟨⟨by decide +kernel, by decide +kernel⟩, List.mem_of_getElem? (i := 4) (by decide +kernel), List.mem_of_getElem? (i := 122) (by decide +kernel), List.mem_of_getElem? (i := 123) (by decide +kernel)⟩
theorem lw_p11 : lw_okq (⟨"TermIndex", "copyInList", "(II)V"⟩, 13) := ⟨⟨by decide +kernel, by decide +kernel⟩, List.mem_of_getElem? (i := 4) (by decide +kernel), List.mem_of_getElem? (i := 126) (by decide +kernel), List.mem_of_getElem? (i := 127) (by decide +kernel)⟩
theorem lw_p12 : lw_okq (⟨"TermIndex", "storeList", "(II)V"⟩, 13) := ⟨⟨by decide +kernel, by decide +kernel⟩, List.mem_of_getElem? (i := 4) (by decide +kernel), List.mem_of_getElem? (i := 130) (by decide +kernel), List.mem_of_getElem? (i := 131) (by decide +kernel)⟩
theorem lw_p13 : lw_okq (⟨"TermIndex", "closeBlock", "(I)V"⟩, 13) := ⟨⟨by decide +kernel, by decide +kernel⟩, List.mem_of_getElem? (i := 4) (by decide +kernel), List.mem_of_getElem? (i := 134) (by decide +kernel), List.mem_of_getElem? (i := 135) (by decide +kernel)⟩
theorem lw_p14 : lw_okq (⟨"TermIndex", "pack", "(III)V"⟩, 13) := ⟨⟨by decide +kernel, by decide +kernel⟩, List.mem_of_getElem? (i := 4) (by decide +kernel), List.mem_of_getElem? (i := 138) (by decide +kernel), List.mem_of_getElem? (i := 139) (by decide +kernel)⟩
theorem lw_p15 : lw_okq (⟨"TermIndex", "sharedInList", "(II)I"⟩, 13) := ⟨⟨by decide +kernel, by decide +kernel⟩, List.mem_of_getElem? (i := 4) (by decide +kernel), List.mem_of_getElem? (i := 142) (by decide +kernel), List.mem_of_getElem? (i := 143) (by decide +kernel)⟩
def lw_privs_1 : List (MethodName × Nat) := [(⟨"TermIndex", "blockOfRank", "(I)I"⟩, 13), (⟨"TermIndex", "unpack", "(I)V"⟩, 13), (⟨"TermIndex", "termsBefore", "(I)I"⟩, 13), (⟨"TermIndex", "countLess", "(Z)I"⟩, 13), (⟨"TermIndex", "headIsLess", "(IZ)Z"⟩, 13), (⟨"TermIndex", "matched", "(II)I"⟩, 13), (⟨"TermIndex", "isLess", "(IIZ)Z"⟩, 13), (⟨"TermIndex", "scanBlock", "(IZ)I"⟩, 13), (⟨"TermIndex", "sharedWithKey", "(I)I"⟩, 13), (⟨"TermIndex", "openBlock", "(I)V"⟩, 13), (⟨"TermIndex", "putKeyInList", "(I)V"⟩, 13), (⟨"TermIndex", "copyInList", "(II)V"⟩, 13), (⟨"TermIndex", "storeList", "(II)V"⟩, 13), (⟨"TermIndex", "closeBlock", "(I)V"⟩, 13), (⟨"TermIndex", "pack", "(III)V"⟩, 13), (⟨"TermIndex", "sharedInList", "(II)I"⟩, 13)]
theorem lw_r1 : ∀ q ∈ lw_privs_1, lw_okq q := List.forall_mem_cons.mpr ⟨lw_p0, List.forall_mem_cons.mpr ⟨lw_p1, List.forall_mem_cons.mpr ⟨lw_p2, List.forall_mem_cons.mpr ⟨lw_p3, List.forall_mem_cons.mpr ⟨lw_p4, List.forall_mem_cons.mpr ⟨lw_p5, List.forall_mem_cons.mpr ⟨lw_p6, List.forall_mem_cons.mpr ⟨lw_p7, List.forall_mem_cons.mpr ⟨lw_p8, List.forall_mem_cons.mpr ⟨lw_p9, List.forall_mem_cons.mpr ⟨lw_p10, List.forall_mem_cons.mpr ⟨lw_p11, List.forall_mem_cons.mpr ⟨lw_p12, List.forall_mem_cons.mpr ⟨lw_p13, List.forall_mem_cons.mpr ⟨lw_p14, List.forall_mem_cons.mpr ⟨lw_p15, fun _ h => absurd h List.not_mem_nil⟩⟩⟩⟩⟩⟩⟩⟩⟩⟩⟩⟩⟩⟩⟩⟩
theorem lw_p16 : lw_okq (⟨"TermIndex", "takeFromList", "(I)V"⟩, 13) := ⟨⟨by decide +kernel, by decide +kernel⟩, List.mem_of_getElem? (i := 4) (by decide +kernel), List.mem_of_getElem? (i := 150) (by decide +kernel), List.mem_of_getElem? (i := 151) (by decide +kernel)⟩
theorem lw_p17 : lw_okq (⟨"TermIndex", "sharedAtRank", "(I)I"⟩, 13) := ⟨⟨by decide +kernel, by decide +kernel⟩, List.mem_of_getElem? (i := 4) (by decide +kernel), List.mem_of_getElem? (i := 171) (by decide +kernel), List.mem_of_getElem? (i := 172) (by decide +kernel)⟩
theorem lw_p18 : lw_okq (⟨"TermIndexModel", "rankOf", "(I)I"⟩, 5) := ⟨⟨by decide +kernel, by decide +kernel⟩, List.mem_of_getElem? (i := 175) (by decide +kernel), List.mem_of_getElem? (i := 213) (by decide +kernel), List.mem_of_getElem? (i := 214) (by decide +kernel)⟩
theorem lw_p19 : lw_okq (⟨"TermIndexModel", "less", "(II)Z"⟩, 5) := ⟨⟨by decide +kernel, by decide +kernel⟩, List.mem_of_getElem? (i := 175) (by decide +kernel), List.mem_of_getElem? (i := 217) (by decide +kernel), List.mem_of_getElem? (i := 218) (by decide +kernel)⟩
theorem lw_p20 : lw_okq (⟨"TermIndexModel", "same", "()I"⟩, 5) := ⟨⟨by decide +kernel, by decide +kernel⟩, List.mem_of_getElem? (i := 175) (by decide +kernel), List.mem_of_getElem? (i := 229) (by decide +kernel), List.mem_of_getElem? (i := 230) (by decide +kernel)⟩
theorem lw_p21 : lw_okq (⟨"TermIndexModel", "shared", "(I)I"⟩, 5) := ⟨⟨by decide +kernel, by decide +kernel⟩, List.mem_of_getElem? (i := 175) (by decide +kernel), List.mem_of_getElem? (i := 233) (by decide +kernel), List.mem_of_getElem? (i := 234) (by decide +kernel)⟩
theorem lw_p22 : lw_okq (⟨"TermIndexModel", "precedes", "(I)Z"⟩, 5) := ⟨⟨by decide +kernel, by decide +kernel⟩, List.mem_of_getElem? (i := 175) (by decide +kernel), List.mem_of_getElem? (i := 241) (by decide +kernel), List.mem_of_getElem? (i := 242) (by decide +kernel)⟩
def lw_privs_2 : List (MethodName × Nat) := [(⟨"TermIndex", "takeFromList", "(I)V"⟩, 13), (⟨"TermIndex", "sharedAtRank", "(I)I"⟩, 13), (⟨"TermIndexModel", "rankOf", "(I)I"⟩, 5), (⟨"TermIndexModel", "less", "(II)Z"⟩, 5), (⟨"TermIndexModel", "same", "()I"⟩, 5), (⟨"TermIndexModel", "shared", "(I)I"⟩, 5), (⟨"TermIndexModel", "precedes", "(I)Z"⟩, 5)]
theorem lw_r2 : ∀ q ∈ lw_privs_2, lw_okq q := List.forall_mem_cons.mpr ⟨lw_p16, List.forall_mem_cons.mpr ⟨lw_p17, List.forall_mem_cons.mpr ⟨lw_p18, List.forall_mem_cons.mpr ⟨lw_p19, List.forall_mem_cons.mpr ⟨lw_p20, List.forall_mem_cons.mpr ⟨lw_p21, List.forall_mem_cons.mpr ⟨lw_p22, fun _ h => absurd h List.not_mem_nil⟩⟩⟩⟩⟩⟩⟩
def lw_privs : List (MethodName × Nat) := lw_privs_1 ++ (lw_privs_2)
def lw_tbl : List Cond := k2_sels lw_privs ++ tables_1
theorem lw_privs_ok : ∀ q ∈ lw_privs, lw_okq q := by
  show ∀ q ∈ lw_privs_1 ++ (lw_privs_2), lw_okq q
  exact List.forall_mem_append.mpr ⟨lw_r1, lw_r2⟩
end
section
def tw_tbl : List Cond := lw_tbl.filter goodWord
theorem good_tbl : ∀ w ∈ tw_tbl, goodWord w = true := fun w hw => (List.mem_filter.mp hw).2
theorem tw_sub : ∀ w ∈ tw_tbl, w ∈ lw_tbl := fun w hw => (List.mem_filter.mp hw).1
theorem tw_mem {w : Cond} (h : w ∈ lw_tbl) (hg : goodWord w = true) : w ∈ tw_tbl := List.mem_filter.mpr ⟨h, hg⟩
def R_T : String := "TermIndex"
def F_T : u_T := fun k => match k with
  | 0 => ("TermIndex", "keyLength", "I", false)
  | 1 => ("TermIndex", "key", "[I", true)
  | 2 => ("TermIndex", "blocks", "I", false)
  | 3 => ("TermIndex", "slotOf", "[I", true)
  | 4 => ("TermIndex", "taken", "[Z", true)
  | 5 => ("TermIndex", "sizeOf", "[I", true)
  | 6 => ("TermIndex", "data", "[I", true)
  | 7 => ("TermIndex", "total", "I", false)
  | 8 => ("TermIndex", "foundBlock", "I", false)
  | 9 => ("TermIndex", "foundInside", "I", false)
  | 10 => ("TermIndex", "listed", "I", false)
  | 11 => ("TermIndex", "listLetters", "[I", true)
  | _ => ("TermIndex", "listLength", "[I", true)
def fy_T : Nat → FieldType := fun k => match k with
  | 0 => .int
  | 1 => .array .int
  | 2 => .int
  | 3 => .array .int
  | 4 => .array .boolean
  | 5 => .array .int
  | 6 => .array .int
  | 7 => .int
  | 8 => .int
  | 9 => .int
  | 10 => .int
  | 11 => .array .int
  | _ => .array .int
theorem n_T : ∀ a, a < 13 → ∀ b, b < 13 → a ≠ b → (F_T a).2.1 ≠ (F_T b).2.1 := by decide +kernel
theorem fy_T_ok : ∀ k, k < 13 → parseFieldDescriptor (F_T k).2.2.1 = some (fy_T k) := by decide +kernel
theorem i_T : ∀ w ∈ u_ws R_T F_T 13, w ∈ tw_tbl := by decide +kernel
def R_M : String := "TermIndexModel"
def F_M : u_T := fun k => match k with
  | 0 => ("TermIndexModel", "terms", "I", false)
  | 1 => ("TermIndexModel", "letters", "[I", true)
  | 2 => ("TermIndexModel", "length", "[I", true)
  | 3 => ("TermIndexModel", "key", "[I", true)
  | _ => ("TermIndexModel", "typed", "I", false)
def fy_M : Nat → FieldType := fun k => match k with
  | 0 => .int
  | 1 => .array .int
  | 2 => .array .int
  | 3 => .array .int
  | _ => .int
theorem n_M : ∀ a, a < 5 → ∀ b, b < 5 → a ≠ b → (F_M a).2.1 ≠ (F_M b).2.1 := by decide +kernel
theorem fy_M_ok : ∀ k, k < 5 → parseFieldDescriptor (F_M k).2.2.1 = some (fy_M k) := by decide +kernel
theorem i_M : ∀ w ∈ u_ws R_M F_M 5, w ∈ tw_tbl := by decide +kernel
abbrev classes : List vw_C := [(R_T, F_T, 13), (R_M, F_M, 5)]
abbrev b_T_init : ByteArray := prog_1_method_1_code
def y_T_init : MethodName := ⟨R_T, "<init>", "()V"⟩
abbrev b_T_type : ByteArray := prog_1_method_2_code
def y_T_type : MethodName := ⟨R_T, "type", "(I)I"⟩
abbrev b_T_back : ByteArray := prog_1_method_3_code
def y_T_back : MethodName := ⟨R_T, "back", "()I"⟩
abbrev b_T_erase : ByteArray := prog_1_method_4_code
def y_T_erase : MethodName := ⟨R_T, "erase", "()V"⟩
abbrev b_T_load : ByteArray := prog_1_method_5_code
def y_T_load : MethodName := ⟨R_T, "load", "(I)I"⟩
abbrev b_T_letter : ByteArray := prog_1_method_6_code
def y_T_letter : MethodName := ⟨R_T, "letter", "(I)I"⟩
abbrev b_T_insert : ByteArray := prog_1_method_7_code
def y_T_insert : MethodName := ⟨R_T, "insert", "()I"⟩
abbrev b_T_delete : ByteArray := prog_1_method_8_code
def y_T_delete : MethodName := ⟨R_T, "delete", "()I"⟩
abbrev b_T_size : ByteArray := prog_1_method_9_code
def y_T_size : MethodName := ⟨R_T, "size", "()I"⟩
abbrev b_T_before : ByteArray := prog_1_method_10_code
def y_T_before : MethodName := ⟨R_T, "before", "()I"⟩
abbrev b_T_held : ByteArray := prog_1_method_11_code
def y_T_held : MethodName := ⟨R_T, "held", "()Z"⟩
abbrev b_T_beginning : ByteArray := prog_1_method_12_code
def y_T_beginning : MethodName := ⟨R_T, "beginning", "()I"⟩
abbrev b_T_common : ByteArray := prog_1_method_13_code
def y_T_common : MethodName := ⟨R_T, "common", "()I"⟩
abbrev b_T_sharedAtRank : ByteArray := prog_1_method_14_code
def y_T_sharedAtRank : MethodName := ⟨R_T, "sharedAtRank", "(I)I"⟩
abbrev b_T_sharedWithKey : ByteArray := prog_1_method_15_code
def y_T_sharedWithKey : MethodName := ⟨R_T, "sharedWithKey", "(I)I"⟩
abbrev b_T_termsBefore : ByteArray := prog_1_method_16_code
def y_T_termsBefore : MethodName := ⟨R_T, "termsBefore", "(I)I"⟩
abbrev b_T_blockOfRank : ByteArray := prog_1_method_17_code
def y_T_blockOfRank : MethodName := ⟨R_T, "blockOfRank", "(I)I"⟩
abbrev b_T_countLess : ByteArray := prog_1_method_18_code
def y_T_countLess : MethodName := ⟨R_T, "countLess", "(Z)I"⟩
abbrev b_T_headIsLess : ByteArray := prog_1_method_19_code
def y_T_headIsLess : MethodName := ⟨R_T, "headIsLess", "(IZ)Z"⟩
abbrev b_T_matched : ByteArray := prog_1_method_20_code
def y_T_matched : MethodName := ⟨R_T, "matched", "(II)I"⟩
abbrev b_T_isLess : ByteArray := prog_1_method_21_code
def y_T_isLess : MethodName := ⟨R_T, "isLess", "(IIZ)Z"⟩
abbrev b_T_scanBlock : ByteArray := prog_1_method_22_code
def y_T_scanBlock : MethodName := ⟨R_T, "scanBlock", "(IZ)I"⟩
abbrev b_T_unpack : ByteArray := prog_1_method_23_code
def y_T_unpack : MethodName := ⟨R_T, "unpack", "(I)V"⟩
abbrev b_T_putKeyInList : ByteArray := prog_1_method_24_code
def y_T_putKeyInList : MethodName := ⟨R_T, "putKeyInList", "(I)V"⟩
abbrev b_T_takeFromList : ByteArray := prog_1_method_25_code
def y_T_takeFromList : MethodName := ⟨R_T, "takeFromList", "(I)V"⟩
abbrev b_T_copyInList : ByteArray := prog_1_method_26_code
def y_T_copyInList : MethodName := ⟨R_T, "copyInList", "(II)V"⟩
abbrev b_T_storeList : ByteArray := prog_1_method_27_code
def y_T_storeList : MethodName := ⟨R_T, "storeList", "(II)V"⟩
abbrev b_T_openBlock : ByteArray := prog_1_method_28_code
def y_T_openBlock : MethodName := ⟨R_T, "openBlock", "(I)V"⟩
abbrev b_T_closeBlock : ByteArray := prog_1_method_29_code
def y_T_closeBlock : MethodName := ⟨R_T, "closeBlock", "(I)V"⟩
abbrev b_T_pack : ByteArray := prog_1_method_30_code
def y_T_pack : MethodName := ⟨R_T, "pack", "(III)V"⟩
abbrev b_T_sharedInList : ByteArray := prog_1_method_31_code
def y_T_sharedInList : MethodName := ⟨R_T, "sharedInList", "(II)I"⟩
abbrev b_M_init : ByteArray := prog_3_method_1_code
def y_M_init : MethodName := ⟨R_M, "<init>", "()V"⟩
abbrev b_M_type : ByteArray := prog_3_method_2_code
def y_M_type : MethodName := ⟨R_M, "type", "(I)I"⟩
abbrev b_M_back : ByteArray := prog_3_method_3_code
def y_M_back : MethodName := ⟨R_M, "back", "()I"⟩
abbrev b_M_erase : ByteArray := prog_3_method_4_code
def y_M_erase : MethodName := ⟨R_M, "erase", "()V"⟩
abbrev b_M_shared : ByteArray := prog_3_method_5_code
def y_M_shared : MethodName := ⟨R_M, "shared", "(I)I"⟩
abbrev b_M_precedes : ByteArray := prog_3_method_6_code
def y_M_precedes : MethodName := ⟨R_M, "precedes", "(I)Z"⟩
abbrev b_M_load : ByteArray := prog_3_method_7_code
def y_M_load : MethodName := ⟨R_M, "load", "(I)I"⟩
abbrev b_M_less : ByteArray := prog_3_method_8_code
def y_M_less : MethodName := ⟨R_M, "less", "(II)Z"⟩
abbrev b_M_rankOf : ByteArray := prog_3_method_9_code
def y_M_rankOf : MethodName := ⟨R_M, "rankOf", "(I)I"⟩
abbrev b_M_letter : ByteArray := prog_3_method_10_code
def y_M_letter : MethodName := ⟨R_M, "letter", "(I)I"⟩
abbrev b_M_same : ByteArray := prog_3_method_11_code
def y_M_same : MethodName := ⟨R_M, "same", "()I"⟩
abbrev b_M_insert : ByteArray := prog_3_method_12_code
def y_M_insert : MethodName := ⟨R_M, "insert", "()I"⟩
abbrev b_M_delete : ByteArray := prog_3_method_13_code
def y_M_delete : MethodName := ⟨R_M, "delete", "()I"⟩
abbrev b_M_size : ByteArray := prog_3_method_14_code
def y_M_size : MethodName := ⟨R_M, "size", "()I"⟩
abbrev b_M_before : ByteArray := prog_3_method_15_code
def y_M_before : MethodName := ⟨R_M, "before", "()I"⟩
abbrev b_M_held : ByteArray := prog_3_method_16_code
def y_M_held : MethodName := ⟨R_M, "held", "()Z"⟩
abbrev b_M_beginning : ByteArray := prog_3_method_17_code
def y_M_beginning : MethodName := ⟨R_M, "beginning", "()I"⟩
abbrev b_M_common : ByteArray := prog_3_method_18_code
def y_M_common : MethodName := ⟨R_M, "common", "()I"⟩
theorem mf_T_kl : Cond.fieldLink R_T 32 "TermIndex" "keyLength" "I" ∈ tw_tbl := tw_mem (List.mem_append_right _ (List.mem_of_getElem? (i := 11) (by decide +kernel))) rfl
theorem mf_T_key : Cond.fieldLink R_T 7 "TermIndex" "key" "[I" ∈ tw_tbl := tw_mem (List.mem_append_right _ (List.mem_of_getElem? (i := 12) (by decide +kernel))) rfl
theorem mf_T_bl : Cond.fieldLink R_T 61 "TermIndex" "blocks" "I" ∈ tw_tbl := tw_mem (List.mem_append_right _ (List.mem_of_getElem? (i := 13) (by decide +kernel))) rfl
theorem mf_T_slot : Cond.fieldLink R_T 13 "TermIndex" "slotOf" "[I" ∈ tw_tbl := tw_mem (List.mem_append_right _ (List.mem_of_getElem? (i := 14) (by decide +kernel))) rfl
theorem mf_T_tak : Cond.fieldLink R_T 16 "TermIndex" "taken" "[Z" ∈ tw_tbl := tw_mem (List.mem_append_right _ (List.mem_of_getElem? (i := 15) (by decide +kernel))) rfl
theorem mf_T_siz : Cond.fieldLink R_T 20 "TermIndex" "sizeOf" "[I" ∈ tw_tbl := tw_mem (List.mem_append_right _ (List.mem_of_getElem? (i := 16) (by decide +kernel))) rfl
theorem mf_T_dat : Cond.fieldLink R_T 23 "TermIndex" "data" "[I" ∈ tw_tbl := tw_mem (List.mem_append_right _ (List.mem_of_getElem? (i := 17) (by decide +kernel))) rfl
theorem mf_T_tot : Cond.fieldLink R_T 36 "TermIndex" "total" "I" ∈ tw_tbl := tw_mem (List.mem_append_right _ (List.mem_of_getElem? (i := 18) (by decide +kernel))) rfl
theorem mf_T_fb : Cond.fieldLink R_T 67 "TermIndex" "foundBlock" "I" ∈ tw_tbl := tw_mem (List.mem_append_right _ (List.mem_of_getElem? (i := 19) (by decide +kernel))) rfl
theorem mf_T_fi : Cond.fieldLink R_T 70 "TermIndex" "foundInside" "I" ∈ tw_tbl := tw_mem (List.mem_append_right _ (List.mem_of_getElem? (i := 20) (by decide +kernel))) rfl
theorem mf_T_li : Cond.fieldLink R_T 43 "TermIndex" "listed" "I" ∈ tw_tbl := tw_mem (List.mem_append_right _ (List.mem_of_getElem? (i := 21) (by decide +kernel))) rfl
theorem mf_T_ll : Cond.fieldLink R_T 26 "TermIndex" "listLetters" "[I" ∈ tw_tbl := tw_mem (List.mem_append_right _ (List.mem_of_getElem? (i := 22) (by decide +kernel))) rfl
theorem mf_T_len : Cond.fieldLink R_T 29 "TermIndex" "listLength" "[I" ∈ tw_tbl := tw_mem (List.mem_append_right _ (List.mem_of_getElem? (i := 23) (by decide +kernel))) rfl
theorem mf_M_tm : Cond.fieldLink R_M 27 "TermIndexModel" "terms" "I" ∈ tw_tbl := tw_mem (List.mem_append_right _ (List.mem_of_getElem? (i := 180) (by decide +kernel))) rfl
theorem mf_M_let : Cond.fieldLink R_M 7 "TermIndexModel" "letters" "[I" ∈ tw_tbl := tw_mem (List.mem_append_right _ (List.mem_of_getElem? (i := 181) (by decide +kernel))) rfl
theorem mf_M_len : Cond.fieldLink R_M 13 "TermIndexModel" "length" "[I" ∈ tw_tbl := tw_mem (List.mem_append_right _ (List.mem_of_getElem? (i := 182) (by decide +kernel))) rfl
theorem mf_M_key : Cond.fieldLink R_M 16 "TermIndexModel" "key" "[I" ∈ tw_tbl := tw_mem (List.mem_append_right _ (List.mem_of_getElem? (i := 183) (by decide +kernel))) rfl
theorem mf_M_ty : Cond.fieldLink R_M 19 "TermIndexModel" "typed" "I" ∈ tw_tbl := tw_mem (List.mem_append_right _ (List.mem_of_getElem? (i := 184) (by decide +kernel))) rfl
/-- the words of a call -/
def cW (own : String) (idx : Nat) (C : String) (y : MethodName) (b : ByteArray) (n : Nat) (ret : Option FieldType) (nA : Nat) : Prop := Cond.methodLink own idx y ∈ tw_tbl ∧ Cond.instanceMethod y ∈ tw_tbl ∧ Cond.selects C y y ∈ tw_tbl ∧ Cond.initialized C ∈ tw_tbl ∧ Cond.code y b n ret ∈ tw_tbl ∧ (y.cls = C ∧ y.cls ≠ "java/lang/invoke/MethodHandle" ∧ y.cls ≠ "java/lang/invoke/VarHandle" ∧ (parseMethodDescriptor y.desc).map (fun d => d.parameters.length) = some nA)
theorem cw_L_T_type : cW "TermIndexLaw" 13 R_T y_T_type b_T_type 2 (some .int) 1 := ⟨tw_mem (List.mem_append_right _ (List.mem_of_getElem? (i := 53) (by decide +kernel))) rfl, tw_mem (List.mem_append_right _ (List.mem_of_getElem? (i := 54) (by decide +kernel))) rfl, tw_mem (List.mem_append_right _ (List.mem_of_getElem? (i := 55) (by decide +kernel))) rfl, tw_mem (List.mem_append_right _ (List.mem_of_getElem? (i := 1) (by decide +kernel))) rfl, tw_mem (List.mem_append_right _ (List.mem_of_getElem? (i := 56) (by decide +kernel))) rfl, by decide +kernel⟩
theorem cw_L_T_back : cW "TermIndexLaw" 18 R_T y_T_back b_T_back 1 (some .int) 0 := ⟨tw_mem (List.mem_append_right _ (List.mem_of_getElem? (i := 57) (by decide +kernel))) rfl, tw_mem (List.mem_append_right _ (List.mem_of_getElem? (i := 58) (by decide +kernel))) rfl, tw_mem (List.mem_append_right _ (List.mem_of_getElem? (i := 59) (by decide +kernel))) rfl, tw_mem (List.mem_append_right _ (List.mem_of_getElem? (i := 1) (by decide +kernel))) rfl, tw_mem (List.mem_append_right _ (List.mem_of_getElem? (i := 60) (by decide +kernel))) rfl, by decide +kernel⟩
theorem cw_L_T_erase : cW "TermIndexLaw" 23 R_T y_T_erase b_T_erase 1 (none) 0 := ⟨tw_mem (List.mem_append_right _ (List.mem_of_getElem? (i := 61) (by decide +kernel))) rfl, tw_mem (List.mem_append_right _ (List.mem_of_getElem? (i := 62) (by decide +kernel))) rfl, tw_mem (List.mem_append_right _ (List.mem_of_getElem? (i := 63) (by decide +kernel))) rfl, tw_mem (List.mem_append_right _ (List.mem_of_getElem? (i := 1) (by decide +kernel))) rfl, tw_mem (List.mem_append_right _ (List.mem_of_getElem? (i := 64) (by decide +kernel))) rfl, by decide +kernel⟩
theorem cw_L_T_load : cW "TermIndexLaw" 27 R_T y_T_load b_T_load 5 (some .int) 1 := ⟨tw_mem (List.mem_append_right _ (List.mem_of_getElem? (i := 65) (by decide +kernel))) rfl, tw_mem (List.mem_append_right _ (List.mem_of_getElem? (i := 66) (by decide +kernel))) rfl, tw_mem (List.mem_append_right _ (List.mem_of_getElem? (i := 67) (by decide +kernel))) rfl, tw_mem (List.mem_append_right _ (List.mem_of_getElem? (i := 1) (by decide +kernel))) rfl, tw_mem (List.mem_append_right _ (List.mem_of_getElem? (i := 68) (by decide +kernel))) rfl, by decide +kernel⟩
theorem cw_L_T_letter : cW "TermIndexLaw" 31 R_T y_T_letter b_T_letter 2 (some .int) 1 := ⟨tw_mem (List.mem_append_right _ (List.mem_of_getElem? (i := 81) (by decide +kernel))) rfl, tw_mem (List.mem_append_right _ (List.mem_of_getElem? (i := 82) (by decide +kernel))) rfl, tw_mem (List.mem_append_right _ (List.mem_of_getElem? (i := 83) (by decide +kernel))) rfl, tw_mem (List.mem_append_right _ (List.mem_of_getElem? (i := 1) (by decide +kernel))) rfl, tw_mem (List.mem_append_right _ (List.mem_of_getElem? (i := 84) (by decide +kernel))) rfl, by decide +kernel⟩
theorem cw_L_T_insert : cW "TermIndexLaw" 35 R_T y_T_insert b_T_insert 2 (some .int) 0 := ⟨tw_mem (List.mem_append_right _ (List.mem_of_getElem? (i := 85) (by decide +kernel))) rfl, tw_mem (List.mem_append_right _ (List.mem_of_getElem? (i := 86) (by decide +kernel))) rfl, tw_mem (List.mem_append_right _ (List.mem_of_getElem? (i := 87) (by decide +kernel))) rfl, tw_mem (List.mem_append_right _ (List.mem_of_getElem? (i := 1) (by decide +kernel))) rfl, tw_mem (List.mem_append_right _ (List.mem_of_getElem? (i := 88) (by decide +kernel))) rfl, by decide +kernel⟩
theorem cw_L_T_delete : cW "TermIndexLaw" 39 R_T y_T_delete b_T_delete 4 (some .int) 0 := ⟨tw_mem (List.mem_append_right _ (List.mem_of_getElem? (i := 145) (by decide +kernel))) rfl, tw_mem (List.mem_append_right _ (List.mem_of_getElem? (i := 146) (by decide +kernel))) rfl, tw_mem (List.mem_append_right _ (List.mem_of_getElem? (i := 147) (by decide +kernel))) rfl, tw_mem (List.mem_append_right _ (List.mem_of_getElem? (i := 1) (by decide +kernel))) rfl, tw_mem (List.mem_append_right _ (List.mem_of_getElem? (i := 148) (by decide +kernel))) rfl, by decide +kernel⟩
theorem cw_L_T_size : cW "TermIndexLaw" 43 R_T y_T_size b_T_size 1 (some .int) 0 := ⟨tw_mem (List.mem_append_right _ (List.mem_of_getElem? (i := 153) (by decide +kernel))) rfl, tw_mem (List.mem_append_right _ (List.mem_of_getElem? (i := 154) (by decide +kernel))) rfl, tw_mem (List.mem_append_right _ (List.mem_of_getElem? (i := 155) (by decide +kernel))) rfl, tw_mem (List.mem_append_right _ (List.mem_of_getElem? (i := 1) (by decide +kernel))) rfl, tw_mem (List.mem_append_right _ (List.mem_of_getElem? (i := 156) (by decide +kernel))) rfl, by decide +kernel⟩
theorem cw_L_T_before : cW "TermIndexLaw" 47 R_T y_T_before b_T_before 1 (some .int) 0 := ⟨tw_mem (List.mem_append_right _ (List.mem_of_getElem? (i := 157) (by decide +kernel))) rfl, tw_mem (List.mem_append_right _ (List.mem_of_getElem? (i := 158) (by decide +kernel))) rfl, tw_mem (List.mem_append_right _ (List.mem_of_getElem? (i := 159) (by decide +kernel))) rfl, tw_mem (List.mem_append_right _ (List.mem_of_getElem? (i := 1) (by decide +kernel))) rfl, tw_mem (List.mem_append_right _ (List.mem_of_getElem? (i := 160) (by decide +kernel))) rfl, by decide +kernel⟩
theorem cw_T_T_held : cW R_T 53 R_T y_T_held b_T_held 4 (some .boolean) 0 := ⟨tw_mem (List.mem_append_right _ (List.mem_of_getElem? (i := 89) (by decide +kernel))) rfl, tw_mem (List.mem_append_right _ (List.mem_of_getElem? (i := 90) (by decide +kernel))) rfl, tw_mem (List.mem_append_right _ (List.mem_of_getElem? (i := 91) (by decide +kernel))) rfl, tw_mem (List.mem_append_right _ (List.mem_of_getElem? (i := 1) (by decide +kernel))) rfl, tw_mem (List.mem_append_right _ (List.mem_of_getElem? (i := 92) (by decide +kernel))) rfl, by decide +kernel⟩
theorem cw_L_T_held : cW "TermIndexLaw" 51 R_T y_T_held b_T_held 4 (some .boolean) 0 := ⟨tw_mem (List.mem_append_right _ (List.mem_of_getElem? (i := 161) (by decide +kernel))) rfl, tw_mem (List.mem_append_right _ (List.mem_of_getElem? (i := 90) (by decide +kernel))) rfl, tw_mem (List.mem_append_right _ (List.mem_of_getElem? (i := 91) (by decide +kernel))) rfl, tw_mem (List.mem_append_right _ (List.mem_of_getElem? (i := 1) (by decide +kernel))) rfl, tw_mem (List.mem_append_right _ (List.mem_of_getElem? (i := 92) (by decide +kernel))) rfl, by decide +kernel⟩
theorem cw_L_T_beginning : cW "TermIndexLaw" 56 R_T y_T_beginning b_T_beginning 1 (some .int) 0 := ⟨tw_mem (List.mem_append_right _ (List.mem_of_getElem? (i := 162) (by decide +kernel))) rfl, tw_mem (List.mem_append_right _ (List.mem_of_getElem? (i := 163) (by decide +kernel))) rfl, tw_mem (List.mem_append_right _ (List.mem_of_getElem? (i := 164) (by decide +kernel))) rfl, tw_mem (List.mem_append_right _ (List.mem_of_getElem? (i := 1) (by decide +kernel))) rfl, tw_mem (List.mem_append_right _ (List.mem_of_getElem? (i := 165) (by decide +kernel))) rfl, by decide +kernel⟩
theorem cw_L_T_common : cW "TermIndexLaw" 60 R_T y_T_common b_T_common 4 (some .int) 0 := ⟨tw_mem (List.mem_append_right _ (List.mem_of_getElem? (i := 166) (by decide +kernel))) rfl, tw_mem (List.mem_append_right _ (List.mem_of_getElem? (i := 167) (by decide +kernel))) rfl, tw_mem (List.mem_append_right _ (List.mem_of_getElem? (i := 168) (by decide +kernel))) rfl, tw_mem (List.mem_append_right _ (List.mem_of_getElem? (i := 1) (by decide +kernel))) rfl, tw_mem (List.mem_append_right _ (List.mem_of_getElem? (i := 169) (by decide +kernel))) rfl, by decide +kernel⟩
theorem cw_T_T_sharedAtRank : cW R_T 86 R_T y_T_sharedAtRank b_T_sharedAtRank 4 (some .int) 1 := ⟨tw_mem (List.mem_append_right _ (List.mem_of_getElem? (i := 170) (by decide +kernel))) rfl, tw_mem (List.mem_append_right _ (List.mem_of_getElem? (i := 172) (by decide +kernel))) rfl, tw_mem (List.mem_append_left _ (List.mem_of_getElem? (i := 17) (by decide +kernel))) rfl, tw_mem (List.mem_append_right _ (List.mem_of_getElem? (i := 1) (by decide +kernel))) rfl, tw_mem (List.mem_append_right _ (List.mem_of_getElem? (i := 173) (by decide +kernel))) rfl, by decide +kernel⟩
theorem cw_T_T_sharedWithKey : cW R_T 83 R_T y_T_sharedWithKey b_T_sharedWithKey 3 (some .int) 1 := ⟨tw_mem (List.mem_append_right _ (List.mem_of_getElem? (i := 113) (by decide +kernel))) rfl, tw_mem (List.mem_append_right _ (List.mem_of_getElem? (i := 115) (by decide +kernel))) rfl, tw_mem (List.mem_append_left _ (List.mem_of_getElem? (i := 8) (by decide +kernel))) rfl, tw_mem (List.mem_append_right _ (List.mem_of_getElem? (i := 1) (by decide +kernel))) rfl, tw_mem (List.mem_append_right _ (List.mem_of_getElem? (i := 116) (by decide +kernel))) rfl, by decide +kernel⟩
theorem cw_T_T_termsBefore : cW R_T 50 R_T y_T_termsBefore b_T_termsBefore 4 (some .int) 1 := ⟨tw_mem (List.mem_append_right _ (List.mem_of_getElem? (i := 77) (by decide +kernel))) rfl, tw_mem (List.mem_append_right _ (List.mem_of_getElem? (i := 79) (by decide +kernel))) rfl, tw_mem (List.mem_append_left _ (List.mem_of_getElem? (i := 2) (by decide +kernel))) rfl, tw_mem (List.mem_append_right _ (List.mem_of_getElem? (i := 1) (by decide +kernel))) rfl, tw_mem (List.mem_append_right _ (List.mem_of_getElem? (i := 80) (by decide +kernel))) rfl, by decide +kernel⟩
theorem cw_T_T_blockOfRank : cW R_T 39 R_T y_T_blockOfRank b_T_blockOfRank 4 (some .int) 1 := ⟨tw_mem (List.mem_append_right _ (List.mem_of_getElem? (i := 69) (by decide +kernel))) rfl, tw_mem (List.mem_append_right _ (List.mem_of_getElem? (i := 71) (by decide +kernel))) rfl, tw_mem (List.mem_append_left _ (List.mem_of_getElem? (i := 0) (by decide +kernel))) rfl, tw_mem (List.mem_append_right _ (List.mem_of_getElem? (i := 1) (by decide +kernel))) rfl, tw_mem (List.mem_append_right _ (List.mem_of_getElem? (i := 72) (by decide +kernel))) rfl, by decide +kernel⟩
theorem cw_T_T_countLess : cW R_T 57 R_T y_T_countLess b_T_countLess 6 (some .int) 1 := ⟨tw_mem (List.mem_append_right _ (List.mem_of_getElem? (i := 93) (by decide +kernel))) rfl, tw_mem (List.mem_append_right _ (List.mem_of_getElem? (i := 95) (by decide +kernel))) rfl, tw_mem (List.mem_append_left _ (List.mem_of_getElem? (i := 3) (by decide +kernel))) rfl, tw_mem (List.mem_append_right _ (List.mem_of_getElem? (i := 1) (by decide +kernel))) rfl, tw_mem (List.mem_append_right _ (List.mem_of_getElem? (i := 96) (by decide +kernel))) rfl, by decide +kernel⟩
theorem cw_T_T_headIsLess : cW R_T 89 R_T y_T_headIsLess b_T_headIsLess 5 (some .boolean) 2 := ⟨tw_mem (List.mem_append_right _ (List.mem_of_getElem? (i := 97) (by decide +kernel))) rfl, tw_mem (List.mem_append_right _ (List.mem_of_getElem? (i := 99) (by decide +kernel))) rfl, tw_mem (List.mem_append_left _ (List.mem_of_getElem? (i := 4) (by decide +kernel))) rfl, tw_mem (List.mem_append_right _ (List.mem_of_getElem? (i := 1) (by decide +kernel))) rfl, tw_mem (List.mem_append_right _ (List.mem_of_getElem? (i := 100) (by decide +kernel))) rfl, by decide +kernel⟩
theorem cw_T_T_matched : cW R_T 97 R_T y_T_matched b_T_matched 5 (some .int) 2 := ⟨tw_mem (List.mem_append_right _ (List.mem_of_getElem? (i := 101) (by decide +kernel))) rfl, tw_mem (List.mem_append_right _ (List.mem_of_getElem? (i := 103) (by decide +kernel))) rfl, tw_mem (List.mem_append_left _ (List.mem_of_getElem? (i := 5) (by decide +kernel))) rfl, tw_mem (List.mem_append_right _ (List.mem_of_getElem? (i := 1) (by decide +kernel))) rfl, tw_mem (List.mem_append_right _ (List.mem_of_getElem? (i := 104) (by decide +kernel))) rfl, by decide +kernel⟩
theorem cw_T_T_isLess : cW R_T 101 R_T y_T_isLess b_T_isLess 4 (some .boolean) 3 := ⟨tw_mem (List.mem_append_right _ (List.mem_of_getElem? (i := 105) (by decide +kernel))) rfl, tw_mem (List.mem_append_right _ (List.mem_of_getElem? (i := 107) (by decide +kernel))) rfl, tw_mem (List.mem_append_left _ (List.mem_of_getElem? (i := 6) (by decide +kernel))) rfl, tw_mem (List.mem_append_right _ (List.mem_of_getElem? (i := 1) (by decide +kernel))) rfl, tw_mem (List.mem_append_right _ (List.mem_of_getElem? (i := 108) (by decide +kernel))) rfl, by decide +kernel⟩
theorem cw_T_T_scanBlock : cW R_T 93 R_T y_T_scanBlock b_T_scanBlock 7 (some .int) 2 := ⟨tw_mem (List.mem_append_right _ (List.mem_of_getElem? (i := 109) (by decide +kernel))) rfl, tw_mem (List.mem_append_right _ (List.mem_of_getElem? (i := 111) (by decide +kernel))) rfl, tw_mem (List.mem_append_left _ (List.mem_of_getElem? (i := 7) (by decide +kernel))) rfl, tw_mem (List.mem_append_right _ (List.mem_of_getElem? (i := 1) (by decide +kernel))) rfl, tw_mem (List.mem_append_right _ (List.mem_of_getElem? (i := 112) (by decide +kernel))) rfl, by decide +kernel⟩
theorem cw_T_T_unpack : cW R_T 46 R_T y_T_unpack b_T_unpack 6 (none) 1 := ⟨tw_mem (List.mem_append_right _ (List.mem_of_getElem? (i := 73) (by decide +kernel))) rfl, tw_mem (List.mem_append_right _ (List.mem_of_getElem? (i := 75) (by decide +kernel))) rfl, tw_mem (List.mem_append_left _ (List.mem_of_getElem? (i := 1) (by decide +kernel))) rfl, tw_mem (List.mem_append_right _ (List.mem_of_getElem? (i := 1) (by decide +kernel))) rfl, tw_mem (List.mem_append_right _ (List.mem_of_getElem? (i := 76) (by decide +kernel))) rfl, by decide +kernel⟩
theorem cw_T_T_putKeyInList : cW R_T 73 R_T y_T_putKeyInList b_T_putKeyInList 3 (none) 1 := ⟨tw_mem (List.mem_append_right _ (List.mem_of_getElem? (i := 121) (by decide +kernel))) rfl, tw_mem (List.mem_append_right _ (List.mem_of_getElem? (i := 123) (by decide +kernel))) rfl, tw_mem (List.mem_append_left _ (List.mem_of_getElem? (i := 10) (by decide +kernel))) rfl, tw_mem (List.mem_append_right _ (List.mem_of_getElem? (i := 1) (by decide +kernel))) rfl, tw_mem (List.mem_append_right _ (List.mem_of_getElem? (i := 124) (by decide +kernel))) rfl, by decide +kernel⟩
theorem cw_T_T_takeFromList : cW R_T 80 R_T y_T_takeFromList b_T_takeFromList 3 (none) 1 := ⟨tw_mem (List.mem_append_right _ (List.mem_of_getElem? (i := 149) (by decide +kernel))) rfl, tw_mem (List.mem_append_right _ (List.mem_of_getElem? (i := 151) (by decide +kernel))) rfl, tw_mem (List.mem_append_left _ (List.mem_of_getElem? (i := 16) (by decide +kernel))) rfl, tw_mem (List.mem_append_right _ (List.mem_of_getElem? (i := 1) (by decide +kernel))) rfl, tw_mem (List.mem_append_right _ (List.mem_of_getElem? (i := 152) (by decide +kernel))) rfl, by decide +kernel⟩
theorem cw_T_T_copyInList : cW R_T 105 R_T y_T_copyInList b_T_copyInList 4 (none) 2 := ⟨tw_mem (List.mem_append_right _ (List.mem_of_getElem? (i := 125) (by decide +kernel))) rfl, tw_mem (List.mem_append_right _ (List.mem_of_getElem? (i := 127) (by decide +kernel))) rfl, tw_mem (List.mem_append_left _ (List.mem_of_getElem? (i := 11) (by decide +kernel))) rfl, tw_mem (List.mem_append_right _ (List.mem_of_getElem? (i := 1) (by decide +kernel))) rfl, tw_mem (List.mem_append_right _ (List.mem_of_getElem? (i := 128) (by decide +kernel))) rfl, by decide +kernel⟩
theorem cw_T_T_storeList : cW R_T 76 R_T y_T_storeList b_T_storeList 5 (none) 2 := ⟨tw_mem (List.mem_append_right _ (List.mem_of_getElem? (i := 129) (by decide +kernel))) rfl, tw_mem (List.mem_append_right _ (List.mem_of_getElem? (i := 131) (by decide +kernel))) rfl, tw_mem (List.mem_append_left _ (List.mem_of_getElem? (i := 12) (by decide +kernel))) rfl, tw_mem (List.mem_append_right _ (List.mem_of_getElem? (i := 1) (by decide +kernel))) rfl, tw_mem (List.mem_append_right _ (List.mem_of_getElem? (i := 132) (by decide +kernel))) rfl, by decide +kernel⟩
theorem cw_T_T_openBlock : cW R_T 64 R_T y_T_openBlock b_T_openBlock 4 (none) 1 := ⟨tw_mem (List.mem_append_right _ (List.mem_of_getElem? (i := 117) (by decide +kernel))) rfl, tw_mem (List.mem_append_right _ (List.mem_of_getElem? (i := 119) (by decide +kernel))) rfl, tw_mem (List.mem_append_left _ (List.mem_of_getElem? (i := 9) (by decide +kernel))) rfl, tw_mem (List.mem_append_right _ (List.mem_of_getElem? (i := 1) (by decide +kernel))) rfl, tw_mem (List.mem_append_right _ (List.mem_of_getElem? (i := 120) (by decide +kernel))) rfl, by decide +kernel⟩
theorem cw_T_T_closeBlock : cW R_T 108 R_T y_T_closeBlock b_T_closeBlock 3 (none) 1 := ⟨tw_mem (List.mem_append_right _ (List.mem_of_getElem? (i := 133) (by decide +kernel))) rfl, tw_mem (List.mem_append_right _ (List.mem_of_getElem? (i := 135) (by decide +kernel))) rfl, tw_mem (List.mem_append_left _ (List.mem_of_getElem? (i := 13) (by decide +kernel))) rfl, tw_mem (List.mem_append_right _ (List.mem_of_getElem? (i := 1) (by decide +kernel))) rfl, tw_mem (List.mem_append_right _ (List.mem_of_getElem? (i := 136) (by decide +kernel))) rfl, by decide +kernel⟩
theorem cw_T_T_pack : cW R_T 111 R_T y_T_pack b_T_pack 9 (none) 3 := ⟨tw_mem (List.mem_append_right _ (List.mem_of_getElem? (i := 137) (by decide +kernel))) rfl, tw_mem (List.mem_append_right _ (List.mem_of_getElem? (i := 139) (by decide +kernel))) rfl, tw_mem (List.mem_append_left _ (List.mem_of_getElem? (i := 14) (by decide +kernel))) rfl, tw_mem (List.mem_append_right _ (List.mem_of_getElem? (i := 1) (by decide +kernel))) rfl, tw_mem (List.mem_append_right _ (List.mem_of_getElem? (i := 140) (by decide +kernel))) rfl, by decide +kernel⟩
theorem cw_T_T_sharedInList : cW R_T 115 R_T y_T_sharedInList b_T_sharedInList 4 (some .int) 2 := ⟨tw_mem (List.mem_append_right _ (List.mem_of_getElem? (i := 141) (by decide +kernel))) rfl, tw_mem (List.mem_append_right _ (List.mem_of_getElem? (i := 143) (by decide +kernel))) rfl, tw_mem (List.mem_append_left _ (List.mem_of_getElem? (i := 15) (by decide +kernel))) rfl, tw_mem (List.mem_append_right _ (List.mem_of_getElem? (i := 1) (by decide +kernel))) rfl, tw_mem (List.mem_append_right _ (List.mem_of_getElem? (i := 144) (by decide +kernel))) rfl, by decide +kernel⟩
theorem cw_L_M_type : cW "TermIndexLaw" 17 R_M y_M_type b_M_type 2 (some .int) 1 := ⟨tw_mem (List.mem_append_right _ (List.mem_of_getElem? (i := 196) (by decide +kernel))) rfl, tw_mem (List.mem_append_right _ (List.mem_of_getElem? (i := 197) (by decide +kernel))) rfl, tw_mem (List.mem_append_right _ (List.mem_of_getElem? (i := 198) (by decide +kernel))) rfl, tw_mem (List.mem_append_right _ (List.mem_of_getElem? (i := 2) (by decide +kernel))) rfl, tw_mem (List.mem_append_right _ (List.mem_of_getElem? (i := 199) (by decide +kernel))) rfl, by decide +kernel⟩
theorem cw_L_M_back : cW "TermIndexLaw" 22 R_M y_M_back b_M_back 1 (some .int) 0 := ⟨tw_mem (List.mem_append_right _ (List.mem_of_getElem? (i := 200) (by decide +kernel))) rfl, tw_mem (List.mem_append_right _ (List.mem_of_getElem? (i := 201) (by decide +kernel))) rfl, tw_mem (List.mem_append_right _ (List.mem_of_getElem? (i := 202) (by decide +kernel))) rfl, tw_mem (List.mem_append_right _ (List.mem_of_getElem? (i := 2) (by decide +kernel))) rfl, tw_mem (List.mem_append_right _ (List.mem_of_getElem? (i := 203) (by decide +kernel))) rfl, by decide +kernel⟩
theorem cw_L_M_erase : cW "TermIndexLaw" 26 R_M y_M_erase b_M_erase 1 (none) 0 := ⟨tw_mem (List.mem_append_right _ (List.mem_of_getElem? (i := 204) (by decide +kernel))) rfl, tw_mem (List.mem_append_right _ (List.mem_of_getElem? (i := 205) (by decide +kernel))) rfl, tw_mem (List.mem_append_right _ (List.mem_of_getElem? (i := 206) (by decide +kernel))) rfl, tw_mem (List.mem_append_right _ (List.mem_of_getElem? (i := 2) (by decide +kernel))) rfl, tw_mem (List.mem_append_right _ (List.mem_of_getElem? (i := 207) (by decide +kernel))) rfl, by decide +kernel⟩
theorem cw_M_M_shared : cW R_M 23 R_M y_M_shared b_M_shared 3 (some .int) 1 := ⟨tw_mem (List.mem_append_right _ (List.mem_of_getElem? (i := 232) (by decide +kernel))) rfl, tw_mem (List.mem_append_right _ (List.mem_of_getElem? (i := 234) (by decide +kernel))) rfl, tw_mem (List.mem_append_left _ (List.mem_of_getElem? (i := 21) (by decide +kernel))) rfl, tw_mem (List.mem_append_right _ (List.mem_of_getElem? (i := 2) (by decide +kernel))) rfl, tw_mem (List.mem_append_right _ (List.mem_of_getElem? (i := 235) (by decide +kernel))) rfl, by decide +kernel⟩
theorem cw_M_M_precedes : cW R_M 44 R_M y_M_precedes b_M_precedes 3 (some .boolean) 1 := ⟨tw_mem (List.mem_append_right _ (List.mem_of_getElem? (i := 240) (by decide +kernel))) rfl, tw_mem (List.mem_append_right _ (List.mem_of_getElem? (i := 242) (by decide +kernel))) rfl, tw_mem (List.mem_append_left _ (List.mem_of_getElem? (i := 22) (by decide +kernel))) rfl, tw_mem (List.mem_append_right _ (List.mem_of_getElem? (i := 2) (by decide +kernel))) rfl, tw_mem (List.mem_append_right _ (List.mem_of_getElem? (i := 243) (by decide +kernel))) rfl, by decide +kernel⟩
theorem cw_L_M_load : cW "TermIndexLaw" 30 R_M y_M_load b_M_load 4 (some .int) 1 := ⟨tw_mem (List.mem_append_right _ (List.mem_of_getElem? (i := 208) (by decide +kernel))) rfl, tw_mem (List.mem_append_right _ (List.mem_of_getElem? (i := 209) (by decide +kernel))) rfl, tw_mem (List.mem_append_right _ (List.mem_of_getElem? (i := 210) (by decide +kernel))) rfl, tw_mem (List.mem_append_right _ (List.mem_of_getElem? (i := 2) (by decide +kernel))) rfl, tw_mem (List.mem_append_right _ (List.mem_of_getElem? (i := 211) (by decide +kernel))) rfl, by decide +kernel⟩
theorem cw_M_M_less : cW R_M 33 R_M y_M_less b_M_less 4 (some .boolean) 2 := ⟨tw_mem (List.mem_append_right _ (List.mem_of_getElem? (i := 216) (by decide +kernel))) rfl, tw_mem (List.mem_append_right _ (List.mem_of_getElem? (i := 218) (by decide +kernel))) rfl, tw_mem (List.mem_append_left _ (List.mem_of_getElem? (i := 19) (by decide +kernel))) rfl, tw_mem (List.mem_append_right _ (List.mem_of_getElem? (i := 2) (by decide +kernel))) rfl, tw_mem (List.mem_append_right _ (List.mem_of_getElem? (i := 219) (by decide +kernel))) rfl, by decide +kernel⟩
theorem cw_M_M_rankOf : cW R_M 30 R_M y_M_rankOf b_M_rankOf 4 (some .int) 1 := ⟨tw_mem (List.mem_append_right _ (List.mem_of_getElem? (i := 212) (by decide +kernel))) rfl, tw_mem (List.mem_append_right _ (List.mem_of_getElem? (i := 214) (by decide +kernel))) rfl, tw_mem (List.mem_append_left _ (List.mem_of_getElem? (i := 18) (by decide +kernel))) rfl, tw_mem (List.mem_append_right _ (List.mem_of_getElem? (i := 2) (by decide +kernel))) rfl, tw_mem (List.mem_append_right _ (List.mem_of_getElem? (i := 215) (by decide +kernel))) rfl, by decide +kernel⟩
theorem cw_L_M_letter : cW "TermIndexLaw" 34 R_M y_M_letter b_M_letter 2 (some .int) 1 := ⟨tw_mem (List.mem_append_right _ (List.mem_of_getElem? (i := 220) (by decide +kernel))) rfl, tw_mem (List.mem_append_right _ (List.mem_of_getElem? (i := 221) (by decide +kernel))) rfl, tw_mem (List.mem_append_right _ (List.mem_of_getElem? (i := 222) (by decide +kernel))) rfl, tw_mem (List.mem_append_right _ (List.mem_of_getElem? (i := 2) (by decide +kernel))) rfl, tw_mem (List.mem_append_right _ (List.mem_of_getElem? (i := 223) (by decide +kernel))) rfl, by decide +kernel⟩
theorem cw_M_M_same : cW R_M 37 R_M y_M_same b_M_same 2 (some .int) 0 := ⟨tw_mem (List.mem_append_right _ (List.mem_of_getElem? (i := 228) (by decide +kernel))) rfl, tw_mem (List.mem_append_right _ (List.mem_of_getElem? (i := 230) (by decide +kernel))) rfl, tw_mem (List.mem_append_left _ (List.mem_of_getElem? (i := 20) (by decide +kernel))) rfl, tw_mem (List.mem_append_right _ (List.mem_of_getElem? (i := 2) (by decide +kernel))) rfl, tw_mem (List.mem_append_right _ (List.mem_of_getElem? (i := 231) (by decide +kernel))) rfl, by decide +kernel⟩
theorem cw_L_M_insert : cW "TermIndexLaw" 38 R_M y_M_insert b_M_insert 2 (some .int) 0 := ⟨tw_mem (List.mem_append_right _ (List.mem_of_getElem? (i := 224) (by decide +kernel))) rfl, tw_mem (List.mem_append_right _ (List.mem_of_getElem? (i := 225) (by decide +kernel))) rfl, tw_mem (List.mem_append_right _ (List.mem_of_getElem? (i := 226) (by decide +kernel))) rfl, tw_mem (List.mem_append_right _ (List.mem_of_getElem? (i := 2) (by decide +kernel))) rfl, tw_mem (List.mem_append_right _ (List.mem_of_getElem? (i := 227) (by decide +kernel))) rfl, by decide +kernel⟩
theorem cw_L_M_delete : cW "TermIndexLaw" 42 R_M y_M_delete b_M_delete 4 (some .int) 0 := ⟨tw_mem (List.mem_append_right _ (List.mem_of_getElem? (i := 244) (by decide +kernel))) rfl, tw_mem (List.mem_append_right _ (List.mem_of_getElem? (i := 245) (by decide +kernel))) rfl, tw_mem (List.mem_append_right _ (List.mem_of_getElem? (i := 246) (by decide +kernel))) rfl, tw_mem (List.mem_append_right _ (List.mem_of_getElem? (i := 2) (by decide +kernel))) rfl, tw_mem (List.mem_append_right _ (List.mem_of_getElem? (i := 247) (by decide +kernel))) rfl, by decide +kernel⟩
theorem cw_L_M_size : cW "TermIndexLaw" 46 R_M y_M_size b_M_size 1 (some .int) 0 := ⟨tw_mem (List.mem_append_right _ (List.mem_of_getElem? (i := 248) (by decide +kernel))) rfl, tw_mem (List.mem_append_right _ (List.mem_of_getElem? (i := 249) (by decide +kernel))) rfl, tw_mem (List.mem_append_right _ (List.mem_of_getElem? (i := 250) (by decide +kernel))) rfl, tw_mem (List.mem_append_right _ (List.mem_of_getElem? (i := 2) (by decide +kernel))) rfl, tw_mem (List.mem_append_right _ (List.mem_of_getElem? (i := 251) (by decide +kernel))) rfl, by decide +kernel⟩
theorem cw_M_M_before : cW R_M 41 R_M y_M_before b_M_before 3 (some .int) 0 := ⟨tw_mem (List.mem_append_right _ (List.mem_of_getElem? (i := 236) (by decide +kernel))) rfl, tw_mem (List.mem_append_right _ (List.mem_of_getElem? (i := 237) (by decide +kernel))) rfl, tw_mem (List.mem_append_right _ (List.mem_of_getElem? (i := 238) (by decide +kernel))) rfl, tw_mem (List.mem_append_right _ (List.mem_of_getElem? (i := 2) (by decide +kernel))) rfl, tw_mem (List.mem_append_right _ (List.mem_of_getElem? (i := 239) (by decide +kernel))) rfl, by decide +kernel⟩
theorem cw_L_M_before : cW "TermIndexLaw" 50 R_M y_M_before b_M_before 3 (some .int) 0 := ⟨tw_mem (List.mem_append_right _ (List.mem_of_getElem? (i := 252) (by decide +kernel))) rfl, tw_mem (List.mem_append_right _ (List.mem_of_getElem? (i := 237) (by decide +kernel))) rfl, tw_mem (List.mem_append_right _ (List.mem_of_getElem? (i := 238) (by decide +kernel))) rfl, tw_mem (List.mem_append_right _ (List.mem_of_getElem? (i := 2) (by decide +kernel))) rfl, tw_mem (List.mem_append_right _ (List.mem_of_getElem? (i := 239) (by decide +kernel))) rfl, by decide +kernel⟩
theorem cw_L_M_held : cW "TermIndexLaw" 55 R_M y_M_held b_M_held 1 (some .boolean) 0 := ⟨tw_mem (List.mem_append_right _ (List.mem_of_getElem? (i := 253) (by decide +kernel))) rfl, tw_mem (List.mem_append_right _ (List.mem_of_getElem? (i := 254) (by decide +kernel))) rfl, tw_mem (List.mem_append_right _ (List.mem_of_getElem? (i := 255) (by decide +kernel))) rfl, tw_mem (List.mem_append_right _ (List.mem_of_getElem? (i := 2) (by decide +kernel))) rfl, tw_mem (List.mem_append_right _ (List.mem_of_getElem? (i := 256) (by decide +kernel))) rfl, by decide +kernel⟩
theorem cw_L_M_beginning : cW "TermIndexLaw" 59 R_M y_M_beginning b_M_beginning 3 (some .int) 0 := ⟨tw_mem (List.mem_append_right _ (List.mem_of_getElem? (i := 257) (by decide +kernel))) rfl, tw_mem (List.mem_append_right _ (List.mem_of_getElem? (i := 258) (by decide +kernel))) rfl, tw_mem (List.mem_append_right _ (List.mem_of_getElem? (i := 259) (by decide +kernel))) rfl, tw_mem (List.mem_append_right _ (List.mem_of_getElem? (i := 2) (by decide +kernel))) rfl, tw_mem (List.mem_append_right _ (List.mem_of_getElem? (i := 260) (by decide +kernel))) rfl, by decide +kernel⟩
theorem cw_L_M_common : cW "TermIndexLaw" 63 R_M y_M_common b_M_common 4 (some .int) 0 := ⟨tw_mem (List.mem_append_right _ (List.mem_of_getElem? (i := 261) (by decide +kernel))) rfl, tw_mem (List.mem_append_right _ (List.mem_of_getElem? (i := 262) (by decide +kernel))) rfl, tw_mem (List.mem_append_right _ (List.mem_of_getElem? (i := 263) (by decide +kernel))) rfl, tw_mem (List.mem_append_right _ (List.mem_of_getElem? (i := 2) (by decide +kernel))) rfl, tw_mem (List.mem_append_right _ (List.mem_of_getElem? (i := 264) (by decide +kernel))) rfl, by decide +kernel⟩
end
section
theorem d_T_init_0 : decode b_T_init 0 = .ok (.aload_n 0, 1) := by decide +kernel
theorem d_T_init_1 : decode b_T_init 1 = .ok (.invokespecial 1, 3) := by decide +kernel
theorem d_T_init_4 : decode b_T_init 4 = .ok (.aload_n 0, 1) := by decide +kernel
theorem d_T_init_5 : decode b_T_init 5 = .ok (.bipush 6, 2) := by decide +kernel
theorem d_T_init_7 : decode b_T_init 7 = .ok (.newarray .int, 2) := by decide +kernel
theorem d_T_init_9 : decode b_T_init 9 = .ok (.putfield 7, 3) := by decide +kernel
theorem d_T_init_12 : decode b_T_init 12 = .ok (.aload_n 0, 1) := by decide +kernel
theorem d_T_init_13 : decode b_T_init 13 = .ok (.bipush 16, 2) := by decide +kernel
theorem d_T_init_15 : decode b_T_init 15 = .ok (.newarray .int, 2) := by decide +kernel
theorem d_T_init_17 : decode b_T_init 17 = .ok (.putfield 13, 3) := by decide +kernel
theorem d_T_init_20 : decode b_T_init 20 = .ok (.aload_n 0, 1) := by decide +kernel
theorem d_T_init_21 : decode b_T_init 21 = .ok (.bipush 16, 2) := by decide +kernel
theorem d_T_init_23 : decode b_T_init 23 = .ok (.newarray .boolean, 2) := by decide +kernel
theorem d_T_init_25 : decode b_T_init 25 = .ok (.putfield 16, 3) := by decide +kernel
theorem d_T_init_28 : decode b_T_init 28 = .ok (.aload_n 0, 1) := by decide +kernel
theorem d_T_init_29 : decode b_T_init 29 = .ok (.bipush 16, 2) := by decide +kernel
theorem d_T_init_31 : decode b_T_init 31 = .ok (.newarray .int, 2) := by decide +kernel
theorem d_T_init_33 : decode b_T_init 33 = .ok (.putfield 20, 3) := by decide +kernel
theorem d_T_init_36 : decode b_T_init 36 = .ok (.aload_n 0, 1) := by decide +kernel
theorem d_T_init_37 : decode b_T_init 37 = .ok (.sipush 768, 3) := by decide +kernel
theorem d_T_init_40 : decode b_T_init 40 = .ok (.newarray .int, 2) := by decide +kernel
theorem d_T_init_42 : decode b_T_init 42 = .ok (.putfield 23, 3) := by decide +kernel
theorem d_T_init_45 : decode b_T_init 45 = .ok (.aload_n 0, 1) := by decide +kernel
theorem d_T_init_46 : decode b_T_init 46 = .ok (.bipush 96, 2) := by decide +kernel
theorem d_T_init_48 : decode b_T_init 48 = .ok (.newarray .int, 2) := by decide +kernel
theorem d_T_init_50 : decode b_T_init 50 = .ok (.putfield 26, 3) := by decide +kernel
theorem d_T_init_53 : decode b_T_init 53 = .ok (.aload_n 0, 1) := by decide +kernel
theorem d_T_init_54 : decode b_T_init 54 = .ok (.bipush 16, 2) := by decide +kernel
theorem d_T_init_56 : decode b_T_init 56 = .ok (.newarray .int, 2) := by decide +kernel
theorem d_T_init_58 : decode b_T_init 58 = .ok (.putfield 29, 3) := by decide +kernel
theorem d_T_init_61 : decode b_T_init 61 = .ok (.return_, 1) := by decide +kernel
theorem d_T_type_0 : decode b_T_type 0 = .ok (.iload_n 1, 1) := by decide +kernel
theorem d_T_type_1 : decode b_T_type 1 = .ok (.ifCond .lt 18, 3) := by decide +kernel
theorem d_T_type_4 : decode b_T_type 4 = .ok (.iload_n 1, 1) := by decide +kernel
theorem d_T_type_5 : decode b_T_type 5 = .ok (.bipush 9, 2) := by decide +kernel
theorem d_T_type_7 : decode b_T_type 7 = .ok (.if_icmp .gt 12, 3) := by decide +kernel
theorem d_T_type_10 : decode b_T_type 10 = .ok (.aload_n 0, 1) := by decide +kernel
theorem d_T_type_11 : decode b_T_type 11 = .ok (.getfield 32, 3) := by decide +kernel
theorem d_T_type_14 : decode b_T_type 14 = .ok (.bipush 6, 2) := by decide +kernel
theorem d_T_type_16 : decode b_T_type 16 = .ok (.if_icmp .lt 5, 3) := by decide +kernel
theorem d_T_type_19 : decode b_T_type 19 = .ok (.iconst (-1), 1) := by decide +kernel
theorem d_T_type_20 : decode b_T_type 20 = .ok (.ireturn, 1) := by decide +kernel
theorem d_T_type_21 : decode b_T_type 21 = .ok (.aload_n 0, 1) := by decide +kernel
theorem d_T_type_22 : decode b_T_type 22 = .ok (.getfield 7, 3) := by decide +kernel
theorem d_T_type_25 : decode b_T_type 25 = .ok (.aload_n 0, 1) := by decide +kernel
theorem d_T_type_26 : decode b_T_type 26 = .ok (.getfield 32, 3) := by decide +kernel
theorem d_T_type_29 : decode b_T_type 29 = .ok (.iload_n 1, 1) := by decide +kernel
theorem d_T_type_30 : decode b_T_type 30 = .ok (.iastore, 1) := by decide +kernel
theorem d_T_type_31 : decode b_T_type 31 = .ok (.aload_n 0, 1) := by decide +kernel
theorem d_T_type_32 : decode b_T_type 32 = .ok (.dup, 1) := by decide +kernel
theorem d_T_type_33 : decode b_T_type 33 = .ok (.getfield 32, 3) := by decide +kernel
theorem d_T_type_36 : decode b_T_type 36 = .ok (.iconst 1, 1) := by decide +kernel
theorem d_T_type_37 : decode b_T_type 37 = .ok (.iadd, 1) := by decide +kernel
theorem d_T_type_38 : decode b_T_type 38 = .ok (.putfield 32, 3) := by decide +kernel
theorem d_T_type_41 : decode b_T_type 41 = .ok (.aload_n 0, 1) := by decide +kernel
theorem d_T_type_42 : decode b_T_type 42 = .ok (.getfield 32, 3) := by decide +kernel
theorem d_T_type_45 : decode b_T_type 45 = .ok (.ireturn, 1) := by decide +kernel
theorem d_T_back_0 : decode b_T_back 0 = .ok (.aload_n 0, 1) := by decide +kernel
theorem d_T_back_1 : decode b_T_back 1 = .ok (.getfield 32, 3) := by decide +kernel
theorem d_T_back_4 : decode b_T_back 4 = .ok (.ifCond .ne 5, 3) := by decide +kernel
theorem d_T_back_7 : decode b_T_back 7 = .ok (.iconst (-1), 1) := by decide +kernel
theorem d_T_back_8 : decode b_T_back 8 = .ok (.ireturn, 1) := by decide +kernel
theorem d_T_back_9 : decode b_T_back 9 = .ok (.aload_n 0, 1) := by decide +kernel
theorem d_T_back_10 : decode b_T_back 10 = .ok (.dup, 1) := by decide +kernel
theorem d_T_back_11 : decode b_T_back 11 = .ok (.getfield 32, 3) := by decide +kernel
theorem d_T_back_14 : decode b_T_back 14 = .ok (.iconst 1, 1) := by decide +kernel
theorem d_T_back_15 : decode b_T_back 15 = .ok (.isub, 1) := by decide +kernel
theorem d_T_back_16 : decode b_T_back 16 = .ok (.putfield 32, 3) := by decide +kernel
theorem d_T_back_19 : decode b_T_back 19 = .ok (.aload_n 0, 1) := by decide +kernel
theorem d_T_back_20 : decode b_T_back 20 = .ok (.getfield 7, 3) := by decide +kernel
theorem d_T_back_23 : decode b_T_back 23 = .ok (.aload_n 0, 1) := by decide +kernel
theorem d_T_back_24 : decode b_T_back 24 = .ok (.getfield 32, 3) := by decide +kernel
theorem d_T_back_27 : decode b_T_back 27 = .ok (.iaload, 1) := by decide +kernel
theorem d_T_back_28 : decode b_T_back 28 = .ok (.ireturn, 1) := by decide +kernel
theorem d_T_erase_0 : decode b_T_erase 0 = .ok (.aload_n 0, 1) := by decide +kernel
theorem d_T_erase_1 : decode b_T_erase 1 = .ok (.iconst 0, 1) := by decide +kernel
theorem d_T_erase_2 : decode b_T_erase 2 = .ok (.putfield 32, 3) := by decide +kernel
theorem d_T_erase_5 : decode b_T_erase 5 = .ok (.return_, 1) := by decide +kernel
theorem d_T_load_0 : decode b_T_load 0 = .ok (.iload_n 1, 1) := by decide +kernel
theorem d_T_load_1 : decode b_T_load 1 = .ok (.ifCond .lt 11, 3) := by decide +kernel
theorem d_T_load_4 : decode b_T_load 4 = .ok (.iload_n 1, 1) := by decide +kernel
theorem d_T_load_5 : decode b_T_load 5 = .ok (.aload_n 0, 1) := by decide +kernel
theorem d_T_load_6 : decode b_T_load 6 = .ok (.getfield 36, 3) := by decide +kernel
theorem d_T_load_9 : decode b_T_load 9 = .ok (.if_icmp .lt 5, 3) := by decide +kernel
theorem d_T_load_12 : decode b_T_load 12 = .ok (.iconst (-1), 1) := by decide +kernel
theorem d_T_load_13 : decode b_T_load 13 = .ok (.ireturn, 1) := by decide +kernel
theorem d_T_load_14 : decode b_T_load 14 = .ok (.aload_n 0, 1) := by decide +kernel
theorem d_T_load_15 : decode b_T_load 15 = .ok (.iload_n 1, 1) := by decide +kernel
theorem d_T_load_16 : decode b_T_load 16 = .ok (.invokevirtual 39, 3) := by decide +kernel
theorem d_T_load_19 : decode b_T_load 19 = .ok (.istore_n 2, 1) := by decide +kernel
theorem d_T_load_20 : decode b_T_load 20 = .ok (.aload_n 0, 1) := by decide +kernel
theorem d_T_load_21 : decode b_T_load 21 = .ok (.iconst 0, 1) := by decide +kernel
theorem d_T_load_22 : decode b_T_load 22 = .ok (.putfield 43, 3) := by decide +kernel
theorem d_T_load_25 : decode b_T_load 25 = .ok (.aload_n 0, 1) := by decide +kernel
theorem d_T_load_26 : decode b_T_load 26 = .ok (.iload_n 2, 1) := by decide +kernel
theorem d_T_load_27 : decode b_T_load 27 = .ok (.invokevirtual 46, 3) := by decide +kernel
theorem d_T_load_30 : decode b_T_load 30 = .ok (.iload_n 1, 1) := by decide +kernel
theorem d_T_load_31 : decode b_T_load 31 = .ok (.aload_n 0, 1) := by decide +kernel
theorem d_T_load_32 : decode b_T_load 32 = .ok (.iload_n 2, 1) := by decide +kernel
theorem d_T_load_33 : decode b_T_load 33 = .ok (.invokevirtual 50, 3) := by decide +kernel
theorem d_T_load_36 : decode b_T_load 36 = .ok (.isub, 1) := by decide +kernel
theorem d_T_load_37 : decode b_T_load 37 = .ok (.istore_n 3, 1) := by decide +kernel
theorem d_T_load_38 : decode b_T_load 38 = .ok (.aload_n 0, 1) := by decide +kernel
theorem d_T_load_39 : decode b_T_load 39 = .ok (.aload_n 0, 1) := by decide +kernel
theorem d_T_load_40 : decode b_T_load 40 = .ok (.getfield 29, 3) := by decide +kernel
theorem d_T_load_43 : decode b_T_load 43 = .ok (.iload_n 3, 1) := by decide +kernel
theorem d_T_load_44 : decode b_T_load 44 = .ok (.iaload, 1) := by decide +kernel
theorem d_T_load_45 : decode b_T_load 45 = .ok (.putfield 32, 3) := by decide +kernel
theorem d_T_load_48 : decode b_T_load 48 = .ok (.iconst 0, 1) := by decide +kernel
theorem d_T_load_49 : decode b_T_load 49 = .ok (.istore 4, 2) := by decide +kernel
theorem d_T_load_51 : decode b_T_load 51 = .ok (.iload 4, 2) := by decide +kernel
theorem d_T_load_53 : decode b_T_load 53 = .ok (.aload_n 0, 1) := by decide +kernel
theorem d_T_load_54 : decode b_T_load 54 = .ok (.getfield 32, 3) := by decide +kernel
theorem d_T_load_57 : decode b_T_load 57 = .ok (.if_icmp .ge 28, 3) := by decide +kernel
theorem d_T_load_60 : decode b_T_load 60 = .ok (.aload_n 0, 1) := by decide +kernel
theorem d_T_load_61 : decode b_T_load 61 = .ok (.getfield 7, 3) := by decide +kernel
theorem d_T_load_64 : decode b_T_load 64 = .ok (.iload 4, 2) := by decide +kernel
theorem d_T_load_66 : decode b_T_load 66 = .ok (.aload_n 0, 1) := by decide +kernel
theorem d_T_load_67 : decode b_T_load 67 = .ok (.getfield 26, 3) := by decide +kernel
theorem d_T_load_70 : decode b_T_load 70 = .ok (.bipush 6, 2) := by decide +kernel
theorem d_T_load_72 : decode b_T_load 72 = .ok (.iload_n 3, 1) := by decide +kernel
theorem d_T_load_73 : decode b_T_load 73 = .ok (.imul, 1) := by decide +kernel
theorem d_T_load_74 : decode b_T_load 74 = .ok (.iload 4, 2) := by decide +kernel
theorem d_T_load_76 : decode b_T_load 76 = .ok (.iadd, 1) := by decide +kernel
theorem d_T_load_77 : decode b_T_load 77 = .ok (.iaload, 1) := by decide +kernel
theorem d_T_load_78 : decode b_T_load 78 = .ok (.iastore, 1) := by decide +kernel
theorem d_T_load_79 : decode b_T_load 79 = .ok (.iinc 4 1, 3) := by decide +kernel
theorem d_T_load_82 : decode b_T_load 82 = .ok (.goto (-31), 3) := by decide +kernel
theorem d_T_load_85 : decode b_T_load 85 = .ok (.aload_n 0, 1) := by decide +kernel
theorem d_T_load_86 : decode b_T_load 86 = .ok (.getfield 32, 3) := by decide +kernel
theorem d_T_load_89 : decode b_T_load 89 = .ok (.ireturn, 1) := by decide +kernel
theorem d_T_letter_0 : decode b_T_letter 0 = .ok (.iload_n 1, 1) := by decide +kernel
theorem d_T_letter_1 : decode b_T_letter 1 = .ok (.ifCond .lt 11, 3) := by decide +kernel
theorem d_T_letter_4 : decode b_T_letter 4 = .ok (.iload_n 1, 1) := by decide +kernel
theorem d_T_letter_5 : decode b_T_letter 5 = .ok (.aload_n 0, 1) := by decide +kernel
theorem d_T_letter_6 : decode b_T_letter 6 = .ok (.getfield 32, 3) := by decide +kernel
theorem d_T_letter_9 : decode b_T_letter 9 = .ok (.if_icmp .lt 7, 3) := by decide +kernel
theorem d_T_letter_12 : decode b_T_letter 12 = .ok (.iconst (-1), 1) := by decide +kernel
theorem d_T_letter_13 : decode b_T_letter 13 = .ok (.goto 9, 3) := by decide +kernel
theorem d_T_letter_16 : decode b_T_letter 16 = .ok (.aload_n 0, 1) := by decide +kernel
theorem d_T_letter_17 : decode b_T_letter 17 = .ok (.getfield 7, 3) := by decide +kernel
theorem d_T_letter_20 : decode b_T_letter 20 = .ok (.iload_n 1, 1) := by decide +kernel
theorem d_T_letter_21 : decode b_T_letter 21 = .ok (.iaload, 1) := by decide +kernel
theorem d_T_letter_22 : decode b_T_letter 22 = .ok (.ireturn, 1) := by decide +kernel
theorem d_T_insert_0 : decode b_T_insert 0 = .ok (.aload_n 0, 1) := by decide +kernel
theorem d_T_insert_1 : decode b_T_insert 1 = .ok (.getfield 32, 3) := by decide +kernel
theorem d_T_insert_4 : decode b_T_insert 4 = .ok (.ifCond .eq 19, 3) := by decide +kernel
theorem d_T_insert_7 : decode b_T_insert 7 = .ok (.aload_n 0, 1) := by decide +kernel
theorem d_T_insert_8 : decode b_T_insert 8 = .ok (.getfield 36, 3) := by decide +kernel
theorem d_T_insert_11 : decode b_T_insert 11 = .ok (.bipush 40, 2) := by decide +kernel
theorem d_T_insert_13 : decode b_T_insert 13 = .ok (.if_icmp .ge 10, 3) := by decide +kernel
theorem d_T_insert_16 : decode b_T_insert 16 = .ok (.aload_n 0, 1) := by decide +kernel
theorem d_T_insert_17 : decode b_T_insert 17 = .ok (.invokevirtual 53, 3) := by decide +kernel
theorem d_T_insert_20 : decode b_T_insert 20 = .ok (.ifCond .eq 5, 3) := by decide +kernel
theorem d_T_insert_23 : decode b_T_insert 23 = .ok (.iconst (-1), 1) := by decide +kernel
theorem d_T_insert_24 : decode b_T_insert 24 = .ok (.ireturn, 1) := by decide +kernel
theorem d_T_insert_25 : decode b_T_insert 25 = .ok (.aload_n 0, 1) := by decide +kernel
theorem d_T_insert_26 : decode b_T_insert 26 = .ok (.iconst 0, 1) := by decide +kernel
theorem d_T_insert_27 : decode b_T_insert 27 = .ok (.invokevirtual 57, 3) := by decide +kernel
theorem d_T_insert_30 : decode b_T_insert 30 = .ok (.istore_n 1, 1) := by decide +kernel
theorem d_T_insert_31 : decode b_T_insert 31 = .ok (.aload_n 0, 1) := by decide +kernel
theorem d_T_insert_32 : decode b_T_insert 32 = .ok (.getfield 61, 3) := by decide +kernel
theorem d_T_insert_35 : decode b_T_insert 35 = .ok (.ifCond .ne 18, 3) := by decide +kernel
theorem d_T_insert_38 : decode b_T_insert 38 = .ok (.aload_n 0, 1) := by decide +kernel
theorem d_T_insert_39 : decode b_T_insert 39 = .ok (.iconst 0, 1) := by decide +kernel
theorem d_T_insert_40 : decode b_T_insert 40 = .ok (.invokevirtual 64, 3) := by decide +kernel
theorem d_T_insert_43 : decode b_T_insert 43 = .ok (.aload_n 0, 1) := by decide +kernel
theorem d_T_insert_44 : decode b_T_insert 44 = .ok (.iconst 0, 1) := by decide +kernel
theorem d_T_insert_45 : decode b_T_insert 45 = .ok (.putfield 67, 3) := by decide +kernel
theorem d_T_insert_48 : decode b_T_insert 48 = .ok (.aload_n 0, 1) := by decide +kernel
theorem d_T_insert_49 : decode b_T_insert 49 = .ok (.iconst 0, 1) := by decide +kernel
theorem d_T_insert_50 : decode b_T_insert 50 = .ok (.putfield 70, 3) := by decide +kernel
theorem d_T_insert_53 : decode b_T_insert 53 = .ok (.aload_n 0, 1) := by decide +kernel
theorem d_T_insert_54 : decode b_T_insert 54 = .ok (.iconst 0, 1) := by decide +kernel
theorem d_T_insert_55 : decode b_T_insert 55 = .ok (.putfield 43, 3) := by decide +kernel
theorem d_T_insert_58 : decode b_T_insert 58 = .ok (.aload_n 0, 1) := by decide +kernel
theorem d_T_insert_59 : decode b_T_insert 59 = .ok (.aload_n 0, 1) := by decide +kernel
theorem d_T_insert_60 : decode b_T_insert 60 = .ok (.getfield 67, 3) := by decide +kernel
theorem d_T_insert_63 : decode b_T_insert 63 = .ok (.invokevirtual 46, 3) := by decide +kernel
theorem d_T_insert_66 : decode b_T_insert 66 = .ok (.aload_n 0, 1) := by decide +kernel
theorem d_T_insert_67 : decode b_T_insert 67 = .ok (.aload_n 0, 1) := by decide +kernel
theorem d_T_insert_68 : decode b_T_insert 68 = .ok (.getfield 70, 3) := by decide +kernel
theorem d_T_insert_71 : decode b_T_insert 71 = .ok (.invokevirtual 73, 3) := by decide +kernel
theorem d_T_insert_74 : decode b_T_insert 74 = .ok (.aload_n 0, 1) := by decide +kernel
theorem d_T_insert_75 : decode b_T_insert 75 = .ok (.aload_n 0, 1) := by decide +kernel
theorem d_T_insert_76 : decode b_T_insert 76 = .ok (.getfield 67, 3) := by decide +kernel
theorem d_T_insert_79 : decode b_T_insert 79 = .ok (.iconst 1, 1) := by decide +kernel
theorem d_T_insert_80 : decode b_T_insert 80 = .ok (.invokevirtual 76, 3) := by decide +kernel
theorem d_T_insert_83 : decode b_T_insert 83 = .ok (.aload_n 0, 1) := by decide +kernel
theorem d_T_insert_84 : decode b_T_insert 84 = .ok (.dup, 1) := by decide +kernel
theorem d_T_insert_85 : decode b_T_insert 85 = .ok (.getfield 36, 3) := by decide +kernel
theorem d_T_insert_88 : decode b_T_insert 88 = .ok (.iconst 1, 1) := by decide +kernel
theorem d_T_insert_89 : decode b_T_insert 89 = .ok (.iadd, 1) := by decide +kernel
theorem d_T_insert_90 : decode b_T_insert 90 = .ok (.putfield 36, 3) := by decide +kernel
theorem d_T_insert_93 : decode b_T_insert 93 = .ok (.iload_n 1, 1) := by decide +kernel
theorem d_T_insert_94 : decode b_T_insert 94 = .ok (.ireturn, 1) := by decide +kernel
theorem d_T_delete_0 : decode b_T_delete 0 = .ok (.aload_n 0, 1) := by decide +kernel
theorem d_T_delete_1 : decode b_T_delete 1 = .ok (.invokevirtual 53, 3) := by decide +kernel
theorem d_T_delete_4 : decode b_T_delete 4 = .ok (.ifCond .ne 5, 3) := by decide +kernel
theorem d_T_delete_7 : decode b_T_delete 7 = .ok (.iconst (-1), 1) := by decide +kernel
theorem d_T_delete_8 : decode b_T_delete 8 = .ok (.ireturn, 1) := by decide +kernel
theorem d_T_delete_9 : decode b_T_delete 9 = .ok (.aload_n 0, 1) := by decide +kernel
theorem d_T_delete_10 : decode b_T_delete 10 = .ok (.iconst 0, 1) := by decide +kernel
theorem d_T_delete_11 : decode b_T_delete 11 = .ok (.invokevirtual 57, 3) := by decide +kernel
theorem d_T_delete_14 : decode b_T_delete 14 = .ok (.istore_n 1, 1) := by decide +kernel
theorem d_T_delete_15 : decode b_T_delete 15 = .ok (.aload_n 0, 1) := by decide +kernel
theorem d_T_delete_16 : decode b_T_delete 16 = .ok (.iload_n 1, 1) := by decide +kernel
theorem d_T_delete_17 : decode b_T_delete 17 = .ok (.invokevirtual 39, 3) := by decide +kernel
theorem d_T_delete_20 : decode b_T_delete 20 = .ok (.istore_n 2, 1) := by decide +kernel
theorem d_T_delete_21 : decode b_T_delete 21 = .ok (.aload_n 0, 1) := by decide +kernel
theorem d_T_delete_22 : decode b_T_delete 22 = .ok (.iconst 0, 1) := by decide +kernel
theorem d_T_delete_23 : decode b_T_delete 23 = .ok (.putfield 43, 3) := by decide +kernel
theorem d_T_delete_26 : decode b_T_delete 26 = .ok (.aload_n 0, 1) := by decide +kernel
theorem d_T_delete_27 : decode b_T_delete 27 = .ok (.iload_n 2, 1) := by decide +kernel
theorem d_T_delete_28 : decode b_T_delete 28 = .ok (.invokevirtual 46, 3) := by decide +kernel
theorem d_T_delete_31 : decode b_T_delete 31 = .ok (.iload_n 1, 1) := by decide +kernel
theorem d_T_delete_32 : decode b_T_delete 32 = .ok (.aload_n 0, 1) := by decide +kernel
theorem d_T_delete_33 : decode b_T_delete 33 = .ok (.iload_n 2, 1) := by decide +kernel
theorem d_T_delete_34 : decode b_T_delete 34 = .ok (.invokevirtual 50, 3) := by decide +kernel
theorem d_T_delete_37 : decode b_T_delete 37 = .ok (.isub, 1) := by decide +kernel
theorem d_T_delete_38 : decode b_T_delete 38 = .ok (.istore_n 3, 1) := by decide +kernel
theorem d_T_delete_39 : decode b_T_delete 39 = .ok (.aload_n 0, 1) := by decide +kernel
theorem d_T_delete_40 : decode b_T_delete 40 = .ok (.iload_n 3, 1) := by decide +kernel
theorem d_T_delete_41 : decode b_T_delete 41 = .ok (.invokevirtual 80, 3) := by decide +kernel
theorem d_T_delete_44 : decode b_T_delete 44 = .ok (.aload_n 0, 1) := by decide +kernel
theorem d_T_delete_45 : decode b_T_delete 45 = .ok (.dup, 1) := by decide +kernel
theorem d_T_delete_46 : decode b_T_delete 46 = .ok (.getfield 36, 3) := by decide +kernel
theorem d_T_delete_49 : decode b_T_delete 49 = .ok (.iconst 1, 1) := by decide +kernel
theorem d_T_delete_50 : decode b_T_delete 50 = .ok (.isub, 1) := by decide +kernel
theorem d_T_delete_51 : decode b_T_delete 51 = .ok (.putfield 36, 3) := by decide +kernel
theorem d_T_delete_54 : decode b_T_delete 54 = .ok (.aload_n 0, 1) := by decide +kernel
theorem d_T_delete_55 : decode b_T_delete 55 = .ok (.getfield 43, 3) := by decide +kernel
theorem d_T_delete_58 : decode b_T_delete 58 = .ok (.iconst 3, 1) := by decide +kernel
theorem d_T_delete_59 : decode b_T_delete 59 = .ok (.if_icmp .ge 11, 3) := by decide +kernel
theorem d_T_delete_62 : decode b_T_delete 62 = .ok (.aload_n 0, 1) := by decide +kernel
theorem d_T_delete_63 : decode b_T_delete 63 = .ok (.getfield 61, 3) := by decide +kernel
theorem d_T_delete_66 : decode b_T_delete 66 = .ok (.iconst 1, 1) := by decide +kernel
theorem d_T_delete_67 : decode b_T_delete 67 = .ok (.if_icmp .ne 12, 3) := by decide +kernel
theorem d_T_delete_70 : decode b_T_delete 70 = .ok (.aload_n 0, 1) := by decide +kernel
theorem d_T_delete_71 : decode b_T_delete 71 = .ok (.iload_n 2, 1) := by decide +kernel
theorem d_T_delete_72 : decode b_T_delete 72 = .ok (.iconst 1, 1) := by decide +kernel
theorem d_T_delete_73 : decode b_T_delete 73 = .ok (.invokevirtual 76, 3) := by decide +kernel
theorem d_T_delete_76 : decode b_T_delete 76 = .ok (.goto 69, 3) := by decide +kernel
theorem d_T_delete_79 : decode b_T_delete 79 = .ok (.iload_n 2, 1) := by decide +kernel
theorem d_T_delete_80 : decode b_T_delete 80 = .ok (.iconst 1, 1) := by decide +kernel
theorem d_T_delete_81 : decode b_T_delete 81 = .ok (.iadd, 1) := by decide +kernel
theorem d_T_delete_82 : decode b_T_delete 82 = .ok (.aload_n 0, 1) := by decide +kernel
theorem d_T_delete_83 : decode b_T_delete 83 = .ok (.getfield 61, 3) := by decide +kernel
theorem d_T_delete_86 : decode b_T_delete 86 = .ok (.if_icmp .ge 19, 3) := by decide +kernel
theorem d_T_delete_89 : decode b_T_delete 89 = .ok (.aload_n 0, 1) := by decide +kernel
theorem d_T_delete_90 : decode b_T_delete 90 = .ok (.iload_n 2, 1) := by decide +kernel
theorem d_T_delete_91 : decode b_T_delete 91 = .ok (.iconst 1, 1) := by decide +kernel
theorem d_T_delete_92 : decode b_T_delete 92 = .ok (.iadd, 1) := by decide +kernel
theorem d_T_delete_93 : decode b_T_delete 93 = .ok (.invokevirtual 46, 3) := by decide +kernel
theorem d_T_delete_96 : decode b_T_delete 96 = .ok (.aload_n 0, 1) := by decide +kernel
theorem d_T_delete_97 : decode b_T_delete 97 = .ok (.iload_n 2, 1) := by decide +kernel
theorem d_T_delete_98 : decode b_T_delete 98 = .ok (.iconst 2, 1) := by decide +kernel
theorem d_T_delete_99 : decode b_T_delete 99 = .ok (.invokevirtual 76, 3) := by decide +kernel
theorem d_T_delete_102 : decode b_T_delete 102 = .ok (.goto 43, 3) := by decide +kernel
theorem d_T_delete_105 : decode b_T_delete 105 = .ok (.aload_n 0, 1) := by decide +kernel
theorem d_T_delete_106 : decode b_T_delete 106 = .ok (.iconst 0, 1) := by decide +kernel
theorem d_T_delete_107 : decode b_T_delete 107 = .ok (.putfield 43, 3) := by decide +kernel
theorem d_T_delete_110 : decode b_T_delete 110 = .ok (.aload_n 0, 1) := by decide +kernel
theorem d_T_delete_111 : decode b_T_delete 111 = .ok (.iload_n 2, 1) := by decide +kernel
theorem d_T_delete_112 : decode b_T_delete 112 = .ok (.iconst 1, 1) := by decide +kernel
theorem d_T_delete_113 : decode b_T_delete 113 = .ok (.isub, 1) := by decide +kernel
theorem d_T_delete_114 : decode b_T_delete 114 = .ok (.invokevirtual 46, 3) := by decide +kernel
theorem d_T_delete_117 : decode b_T_delete 117 = .ok (.aload_n 0, 1) := by decide +kernel
theorem d_T_delete_118 : decode b_T_delete 118 = .ok (.iload_n 2, 1) := by decide +kernel
theorem d_T_delete_119 : decode b_T_delete 119 = .ok (.invokevirtual 46, 3) := by decide +kernel
theorem d_T_delete_122 : decode b_T_delete 122 = .ok (.iload_n 1, 1) := by decide +kernel
theorem d_T_delete_123 : decode b_T_delete 123 = .ok (.aload_n 0, 1) := by decide +kernel
theorem d_T_delete_124 : decode b_T_delete 124 = .ok (.iload_n 2, 1) := by decide +kernel
theorem d_T_delete_125 : decode b_T_delete 125 = .ok (.iconst 1, 1) := by decide +kernel
theorem d_T_delete_126 : decode b_T_delete 126 = .ok (.isub, 1) := by decide +kernel
theorem d_T_delete_127 : decode b_T_delete 127 = .ok (.invokevirtual 50, 3) := by decide +kernel
theorem d_T_delete_130 : decode b_T_delete 130 = .ok (.isub, 1) := by decide +kernel
theorem d_T_delete_131 : decode b_T_delete 131 = .ok (.istore_n 3, 1) := by decide +kernel
theorem d_T_delete_132 : decode b_T_delete 132 = .ok (.aload_n 0, 1) := by decide +kernel
theorem d_T_delete_133 : decode b_T_delete 133 = .ok (.iload_n 3, 1) := by decide +kernel
theorem d_T_delete_134 : decode b_T_delete 134 = .ok (.invokevirtual 80, 3) := by decide +kernel
theorem d_T_delete_137 : decode b_T_delete 137 = .ok (.aload_n 0, 1) := by decide +kernel
theorem d_T_delete_138 : decode b_T_delete 138 = .ok (.iload_n 2, 1) := by decide +kernel
theorem d_T_delete_139 : decode b_T_delete 139 = .ok (.iconst 1, 1) := by decide +kernel
theorem d_T_delete_140 : decode b_T_delete 140 = .ok (.isub, 1) := by decide +kernel
theorem d_T_delete_141 : decode b_T_delete 141 = .ok (.iconst 2, 1) := by decide +kernel
theorem d_T_delete_142 : decode b_T_delete 142 = .ok (.invokevirtual 76, 3) := by decide +kernel
theorem d_T_delete_145 : decode b_T_delete 145 = .ok (.iload_n 1, 1) := by decide +kernel
theorem d_T_delete_146 : decode b_T_delete 146 = .ok (.ireturn, 1) := by decide +kernel
theorem d_T_size_0 : decode b_T_size 0 = .ok (.aload_n 0, 1) := by decide +kernel
theorem d_T_size_1 : decode b_T_size 1 = .ok (.getfield 36, 3) := by decide +kernel
theorem d_T_size_4 : decode b_T_size 4 = .ok (.ireturn, 1) := by decide +kernel
theorem d_T_before_0 : decode b_T_before 0 = .ok (.aload_n 0, 1) := by decide +kernel
theorem d_T_before_1 : decode b_T_before 1 = .ok (.iconst 0, 1) := by decide +kernel
theorem d_T_before_2 : decode b_T_before 2 = .ok (.invokevirtual 57, 3) := by decide +kernel
theorem d_T_before_5 : decode b_T_before 5 = .ok (.ireturn, 1) := by decide +kernel
theorem d_T_held_0 : decode b_T_held 0 = .ok (.aload_n 0, 1) := by decide +kernel
theorem d_T_held_1 : decode b_T_held 1 = .ok (.iconst 0, 1) := by decide +kernel
theorem d_T_held_2 : decode b_T_held 2 = .ok (.invokevirtual 57, 3) := by decide +kernel
theorem d_T_held_5 : decode b_T_held 5 = .ok (.istore_n 1, 1) := by decide +kernel
theorem d_T_held_6 : decode b_T_held 6 = .ok (.aload_n 0, 1) := by decide +kernel
theorem d_T_held_7 : decode b_T_held 7 = .ok (.getfield 32, 3) := by decide +kernel
theorem d_T_held_10 : decode b_T_held 10 = .ok (.ifCond .eq 11, 3) := by decide +kernel
theorem d_T_held_13 : decode b_T_held 13 = .ok (.iload_n 1, 1) := by decide +kernel
theorem d_T_held_14 : decode b_T_held 14 = .ok (.aload_n 0, 1) := by decide +kernel
theorem d_T_held_15 : decode b_T_held 15 = .ok (.getfield 36, 3) := by decide +kernel
theorem d_T_held_18 : decode b_T_held 18 = .ok (.if_icmp .lt 5, 3) := by decide +kernel
theorem d_T_held_21 : decode b_T_held 21 = .ok (.iconst 0, 1) := by decide +kernel
theorem d_T_held_22 : decode b_T_held 22 = .ok (.ireturn, 1) := by decide +kernel
theorem d_T_held_23 : decode b_T_held 23 = .ok (.aload_n 0, 1) := by decide +kernel
theorem d_T_held_24 : decode b_T_held 24 = .ok (.iload_n 1, 1) := by decide +kernel
theorem d_T_held_25 : decode b_T_held 25 = .ok (.invokevirtual 39, 3) := by decide +kernel
theorem d_T_held_28 : decode b_T_held 28 = .ok (.istore_n 2, 1) := by decide +kernel
theorem d_T_held_29 : decode b_T_held 29 = .ok (.aload_n 0, 1) := by decide +kernel
theorem d_T_held_30 : decode b_T_held 30 = .ok (.iconst 0, 1) := by decide +kernel
theorem d_T_held_31 : decode b_T_held 31 = .ok (.putfield 43, 3) := by decide +kernel
theorem d_T_held_34 : decode b_T_held 34 = .ok (.aload_n 0, 1) := by decide +kernel
theorem d_T_held_35 : decode b_T_held 35 = .ok (.iload_n 2, 1) := by decide +kernel
theorem d_T_held_36 : decode b_T_held 36 = .ok (.invokevirtual 46, 3) := by decide +kernel
theorem d_T_held_39 : decode b_T_held 39 = .ok (.iload_n 1, 1) := by decide +kernel
theorem d_T_held_40 : decode b_T_held 40 = .ok (.aload_n 0, 1) := by decide +kernel
theorem d_T_held_41 : decode b_T_held 41 = .ok (.iload_n 2, 1) := by decide +kernel
theorem d_T_held_42 : decode b_T_held 42 = .ok (.invokevirtual 50, 3) := by decide +kernel
theorem d_T_held_45 : decode b_T_held 45 = .ok (.isub, 1) := by decide +kernel
theorem d_T_held_46 : decode b_T_held 46 = .ok (.istore_n 3, 1) := by decide +kernel
theorem d_T_held_47 : decode b_T_held 47 = .ok (.aload_n 0, 1) := by decide +kernel
theorem d_T_held_48 : decode b_T_held 48 = .ok (.getfield 29, 3) := by decide +kernel
theorem d_T_held_51 : decode b_T_held 51 = .ok (.iload_n 3, 1) := by decide +kernel
theorem d_T_held_52 : decode b_T_held 52 = .ok (.iaload, 1) := by decide +kernel
theorem d_T_held_53 : decode b_T_held 53 = .ok (.aload_n 0, 1) := by decide +kernel
theorem d_T_held_54 : decode b_T_held 54 = .ok (.getfield 32, 3) := by decide +kernel
theorem d_T_held_57 : decode b_T_held 57 = .ok (.if_icmp .ne 19, 3) := by decide +kernel
theorem d_T_held_60 : decode b_T_held 60 = .ok (.aload_n 0, 1) := by decide +kernel
theorem d_T_held_61 : decode b_T_held 61 = .ok (.iload_n 3, 1) := by decide +kernel
theorem d_T_held_62 : decode b_T_held 62 = .ok (.invokevirtual 83, 3) := by decide +kernel
theorem d_T_held_65 : decode b_T_held 65 = .ok (.aload_n 0, 1) := by decide +kernel
theorem d_T_held_66 : decode b_T_held 66 = .ok (.getfield 32, 3) := by decide +kernel
theorem d_T_held_69 : decode b_T_held 69 = .ok (.if_icmp .ne 7, 3) := by decide +kernel
theorem d_T_held_72 : decode b_T_held 72 = .ok (.iconst 1, 1) := by decide +kernel
theorem d_T_held_73 : decode b_T_held 73 = .ok (.goto 4, 3) := by decide +kernel
theorem d_T_held_76 : decode b_T_held 76 = .ok (.iconst 0, 1) := by decide +kernel
theorem d_T_held_77 : decode b_T_held 77 = .ok (.ireturn, 1) := by decide +kernel
theorem d_T_beginning_0 : decode b_T_beginning 0 = .ok (.aload_n 0, 1) := by decide +kernel
theorem d_T_beginning_1 : decode b_T_beginning 1 = .ok (.iconst 1, 1) := by decide +kernel
theorem d_T_beginning_2 : decode b_T_beginning 2 = .ok (.invokevirtual 57, 3) := by decide +kernel
theorem d_T_beginning_5 : decode b_T_beginning 5 = .ok (.aload_n 0, 1) := by decide +kernel
theorem d_T_beginning_6 : decode b_T_beginning 6 = .ok (.iconst 0, 1) := by decide +kernel
theorem d_T_beginning_7 : decode b_T_beginning 7 = .ok (.invokevirtual 57, 3) := by decide +kernel
theorem d_T_beginning_10 : decode b_T_beginning 10 = .ok (.isub, 1) := by decide +kernel
theorem d_T_beginning_11 : decode b_T_beginning 11 = .ok (.ireturn, 1) := by decide +kernel
theorem d_T_common_0 : decode b_T_common 0 = .ok (.aload_n 0, 1) := by decide +kernel
theorem d_T_common_1 : decode b_T_common 1 = .ok (.getfield 36, 3) := by decide +kernel
theorem d_T_common_4 : decode b_T_common 4 = .ok (.ifCond .ne 5, 3) := by decide +kernel
theorem d_T_common_7 : decode b_T_common 7 = .ok (.iconst (-1), 1) := by decide +kernel
theorem d_T_common_8 : decode b_T_common 8 = .ok (.ireturn, 1) := by decide +kernel
theorem d_T_common_9 : decode b_T_common 9 = .ok (.aload_n 0, 1) := by decide +kernel
theorem d_T_common_10 : decode b_T_common 10 = .ok (.iconst 0, 1) := by decide +kernel
theorem d_T_common_11 : decode b_T_common 11 = .ok (.invokevirtual 57, 3) := by decide +kernel
theorem d_T_common_14 : decode b_T_common 14 = .ok (.istore_n 1, 1) := by decide +kernel
theorem d_T_common_15 : decode b_T_common 15 = .ok (.iload_n 1, 1) := by decide +kernel
theorem d_T_common_16 : decode b_T_common 16 = .ok (.ifCond .le 13, 3) := by decide +kernel
theorem d_T_common_19 : decode b_T_common 19 = .ok (.aload_n 0, 1) := by decide +kernel
theorem d_T_common_20 : decode b_T_common 20 = .ok (.iload_n 1, 1) := by decide +kernel
theorem d_T_common_21 : decode b_T_common 21 = .ok (.iconst 1, 1) := by decide +kernel
theorem d_T_common_22 : decode b_T_common 22 = .ok (.isub, 1) := by decide +kernel
theorem d_T_common_23 : decode b_T_common 23 = .ok (.invokevirtual 86, 3) := by decide +kernel
theorem d_T_common_26 : decode b_T_common 26 = .ok (.goto 4, 3) := by decide +kernel
theorem d_T_common_29 : decode b_T_common 29 = .ok (.iconst 0, 1) := by decide +kernel
theorem d_T_common_30 : decode b_T_common 30 = .ok (.istore_n 2, 1) := by decide +kernel
theorem d_T_common_31 : decode b_T_common 31 = .ok (.iload_n 1, 1) := by decide +kernel
theorem d_T_common_32 : decode b_T_common 32 = .ok (.aload_n 0, 1) := by decide +kernel
theorem d_T_common_33 : decode b_T_common 33 = .ok (.getfield 36, 3) := by decide +kernel
theorem d_T_common_36 : decode b_T_common 36 = .ok (.if_icmp .ge 11, 3) := by decide +kernel
theorem d_T_common_39 : decode b_T_common 39 = .ok (.aload_n 0, 1) := by decide +kernel
theorem d_T_common_40 : decode b_T_common 40 = .ok (.iload_n 1, 1) := by decide +kernel
theorem d_T_common_41 : decode b_T_common 41 = .ok (.invokevirtual 86, 3) := by decide +kernel
theorem d_T_common_44 : decode b_T_common 44 = .ok (.goto 4, 3) := by decide +kernel
theorem d_T_common_47 : decode b_T_common 47 = .ok (.iconst 0, 1) := by decide +kernel
theorem d_T_common_48 : decode b_T_common 48 = .ok (.istore_n 3, 1) := by decide +kernel
theorem d_T_common_49 : decode b_T_common 49 = .ok (.iload_n 2, 1) := by decide +kernel
theorem d_T_common_50 : decode b_T_common 50 = .ok (.iload_n 3, 1) := by decide +kernel
theorem d_T_common_51 : decode b_T_common 51 = .ok (.if_icmp .le 7, 3) := by decide +kernel
theorem d_T_common_54 : decode b_T_common 54 = .ok (.iload_n 2, 1) := by decide +kernel
theorem d_T_common_55 : decode b_T_common 55 = .ok (.goto 4, 3) := by decide +kernel
theorem d_T_common_58 : decode b_T_common 58 = .ok (.iload_n 3, 1) := by decide +kernel
theorem d_T_common_59 : decode b_T_common 59 = .ok (.ireturn, 1) := by decide +kernel
theorem d_T_sharedAtRank_0 : decode b_T_sharedAtRank 0 = .ok (.aload_n 0, 1) := by decide +kernel
theorem d_T_sharedAtRank_1 : decode b_T_sharedAtRank 1 = .ok (.iload_n 1, 1) := by decide +kernel
theorem d_T_sharedAtRank_2 : decode b_T_sharedAtRank 2 = .ok (.invokevirtual 39, 3) := by decide +kernel
theorem d_T_sharedAtRank_5 : decode b_T_sharedAtRank 5 = .ok (.istore_n 2, 1) := by decide +kernel
theorem d_T_sharedAtRank_6 : decode b_T_sharedAtRank 6 = .ok (.aload_n 0, 1) := by decide +kernel
theorem d_T_sharedAtRank_7 : decode b_T_sharedAtRank 7 = .ok (.iconst 0, 1) := by decide +kernel
theorem d_T_sharedAtRank_8 : decode b_T_sharedAtRank 8 = .ok (.putfield 43, 3) := by decide +kernel
theorem d_T_sharedAtRank_11 : decode b_T_sharedAtRank 11 = .ok (.aload_n 0, 1) := by decide +kernel
theorem d_T_sharedAtRank_12 : decode b_T_sharedAtRank 12 = .ok (.iload_n 2, 1) := by decide +kernel
theorem d_T_sharedAtRank_13 : decode b_T_sharedAtRank 13 = .ok (.invokevirtual 46, 3) := by decide +kernel
theorem d_T_sharedAtRank_16 : decode b_T_sharedAtRank 16 = .ok (.iload_n 1, 1) := by decide +kernel
theorem d_T_sharedAtRank_17 : decode b_T_sharedAtRank 17 = .ok (.aload_n 0, 1) := by decide +kernel
theorem d_T_sharedAtRank_18 : decode b_T_sharedAtRank 18 = .ok (.iload_n 2, 1) := by decide +kernel
theorem d_T_sharedAtRank_19 : decode b_T_sharedAtRank 19 = .ok (.invokevirtual 50, 3) := by decide +kernel
theorem d_T_sharedAtRank_22 : decode b_T_sharedAtRank 22 = .ok (.isub, 1) := by decide +kernel
theorem d_T_sharedAtRank_23 : decode b_T_sharedAtRank 23 = .ok (.istore_n 3, 1) := by decide +kernel
theorem d_T_sharedAtRank_24 : decode b_T_sharedAtRank 24 = .ok (.aload_n 0, 1) := by decide +kernel
theorem d_T_sharedAtRank_25 : decode b_T_sharedAtRank 25 = .ok (.iload_n 3, 1) := by decide +kernel
theorem d_T_sharedAtRank_26 : decode b_T_sharedAtRank 26 = .ok (.invokevirtual 83, 3) := by decide +kernel
theorem d_T_sharedAtRank_29 : decode b_T_sharedAtRank 29 = .ok (.ireturn, 1) := by decide +kernel
theorem d_T_sharedWithKey_0 : decode b_T_sharedWithKey 0 = .ok (.iconst 0, 1) := by decide +kernel
theorem d_T_sharedWithKey_1 : decode b_T_sharedWithKey 1 = .ok (.istore_n 2, 1) := by decide +kernel
theorem d_T_sharedWithKey_2 : decode b_T_sharedWithKey 2 = .ok (.iload_n 2, 1) := by decide +kernel
theorem d_T_sharedWithKey_3 : decode b_T_sharedWithKey 3 = .ok (.aload_n 0, 1) := by decide +kernel
theorem d_T_sharedWithKey_4 : decode b_T_sharedWithKey 4 = .ok (.getfield 32, 3) := by decide +kernel
theorem d_T_sharedWithKey_7 : decode b_T_sharedWithKey 7 = .ok (.if_icmp .ge 39, 3) := by decide +kernel
theorem d_T_sharedWithKey_10 : decode b_T_sharedWithKey 10 = .ok (.iload_n 2, 1) := by decide +kernel
theorem d_T_sharedWithKey_11 : decode b_T_sharedWithKey 11 = .ok (.aload_n 0, 1) := by decide +kernel
theorem d_T_sharedWithKey_12 : decode b_T_sharedWithKey 12 = .ok (.getfield 29, 3) := by decide +kernel
theorem d_T_sharedWithKey_15 : decode b_T_sharedWithKey 15 = .ok (.iload_n 1, 1) := by decide +kernel
theorem d_T_sharedWithKey_16 : decode b_T_sharedWithKey 16 = .ok (.iaload, 1) := by decide +kernel
theorem d_T_sharedWithKey_17 : decode b_T_sharedWithKey 17 = .ok (.if_icmp .ge 29, 3) := by decide +kernel
theorem d_T_sharedWithKey_20 : decode b_T_sharedWithKey 20 = .ok (.aload_n 0, 1) := by decide +kernel
theorem d_T_sharedWithKey_21 : decode b_T_sharedWithKey 21 = .ok (.getfield 26, 3) := by decide +kernel
theorem d_T_sharedWithKey_24 : decode b_T_sharedWithKey 24 = .ok (.bipush 6, 2) := by decide +kernel
theorem d_T_sharedWithKey_26 : decode b_T_sharedWithKey 26 = .ok (.iload_n 1, 1) := by decide +kernel
theorem d_T_sharedWithKey_27 : decode b_T_sharedWithKey 27 = .ok (.imul, 1) := by decide +kernel
theorem d_T_sharedWithKey_28 : decode b_T_sharedWithKey 28 = .ok (.iload_n 2, 1) := by decide +kernel
theorem d_T_sharedWithKey_29 : decode b_T_sharedWithKey 29 = .ok (.iadd, 1) := by decide +kernel
theorem d_T_sharedWithKey_30 : decode b_T_sharedWithKey 30 = .ok (.iaload, 1) := by decide +kernel
theorem d_T_sharedWithKey_31 : decode b_T_sharedWithKey 31 = .ok (.aload_n 0, 1) := by decide +kernel
theorem d_T_sharedWithKey_32 : decode b_T_sharedWithKey 32 = .ok (.getfield 7, 3) := by decide +kernel
theorem d_T_sharedWithKey_35 : decode b_T_sharedWithKey 35 = .ok (.iload_n 2, 1) := by decide +kernel
theorem d_T_sharedWithKey_36 : decode b_T_sharedWithKey 36 = .ok (.iaload, 1) := by decide +kernel
theorem d_T_sharedWithKey_37 : decode b_T_sharedWithKey 37 = .ok (.if_icmp .ne 9, 3) := by decide +kernel
theorem d_T_sharedWithKey_40 : decode b_T_sharedWithKey 40 = .ok (.iinc 2 1, 3) := by decide +kernel
theorem d_T_sharedWithKey_43 : decode b_T_sharedWithKey 43 = .ok (.goto (-41), 3) := by decide +kernel
theorem d_T_sharedWithKey_46 : decode b_T_sharedWithKey 46 = .ok (.iload_n 2, 1) := by decide +kernel
theorem d_T_sharedWithKey_47 : decode b_T_sharedWithKey 47 = .ok (.ireturn, 1) := by decide +kernel
theorem d_T_termsBefore_0 : decode b_T_termsBefore 0 = .ok (.iconst 0, 1) := by decide +kernel
theorem d_T_termsBefore_1 : decode b_T_termsBefore 1 = .ok (.istore_n 2, 1) := by decide +kernel
theorem d_T_termsBefore_2 : decode b_T_termsBefore 2 = .ok (.iconst 0, 1) := by decide +kernel
theorem d_T_termsBefore_3 : decode b_T_termsBefore 3 = .ok (.istore_n 3, 1) := by decide +kernel
theorem d_T_termsBefore_4 : decode b_T_termsBefore 4 = .ok (.iload_n 3, 1) := by decide +kernel
theorem d_T_termsBefore_5 : decode b_T_termsBefore 5 = .ok (.iload_n 1, 1) := by decide +kernel
theorem d_T_termsBefore_6 : decode b_T_termsBefore 6 = .ok (.if_icmp .ge 23, 3) := by decide +kernel
theorem d_T_termsBefore_9 : decode b_T_termsBefore 9 = .ok (.iload_n 2, 1) := by decide +kernel
theorem d_T_termsBefore_10 : decode b_T_termsBefore 10 = .ok (.aload_n 0, 1) := by decide +kernel
theorem d_T_termsBefore_11 : decode b_T_termsBefore 11 = .ok (.getfield 20, 3) := by decide +kernel
theorem d_T_termsBefore_14 : decode b_T_termsBefore 14 = .ok (.aload_n 0, 1) := by decide +kernel
theorem d_T_termsBefore_15 : decode b_T_termsBefore 15 = .ok (.getfield 13, 3) := by decide +kernel
theorem d_T_termsBefore_18 : decode b_T_termsBefore 18 = .ok (.iload_n 3, 1) := by decide +kernel
theorem d_T_termsBefore_19 : decode b_T_termsBefore 19 = .ok (.iaload, 1) := by decide +kernel
theorem d_T_termsBefore_20 : decode b_T_termsBefore 20 = .ok (.iaload, 1) := by decide +kernel
end
section
theorem d_T_termsBefore_21 : decode b_T_termsBefore 21 = .ok (.iadd, 1) := by decide +kernel
theorem d_T_termsBefore_22 : decode b_T_termsBefore 22 = .ok (.istore_n 2, 1) := by decide +kernel
theorem d_T_termsBefore_23 : decode b_T_termsBefore 23 = .ok (.iinc 3 1, 3) := by decide +kernel
theorem d_T_termsBefore_26 : decode b_T_termsBefore 26 = .ok (.goto (-22), 3) := by decide +kernel
theorem d_T_termsBefore_29 : decode b_T_termsBefore 29 = .ok (.iload_n 2, 1) := by decide +kernel
theorem d_T_termsBefore_30 : decode b_T_termsBefore 30 = .ok (.ireturn, 1) := by decide +kernel
theorem d_T_blockOfRank_0 : decode b_T_blockOfRank 0 = .ok (.iconst 0, 1) := by decide +kernel
theorem d_T_blockOfRank_1 : decode b_T_blockOfRank 1 = .ok (.istore_n 2, 1) := by decide +kernel
theorem d_T_blockOfRank_2 : decode b_T_blockOfRank 2 = .ok (.iconst 0, 1) := by decide +kernel
theorem d_T_blockOfRank_3 : decode b_T_blockOfRank 3 = .ok (.istore_n 3, 1) := by decide +kernel
theorem d_T_blockOfRank_4 : decode b_T_blockOfRank 4 = .ok (.iload_n 3, 1) := by decide +kernel
theorem d_T_blockOfRank_5 : decode b_T_blockOfRank 5 = .ok (.aload_n 0, 1) := by decide +kernel
theorem d_T_blockOfRank_6 : decode b_T_blockOfRank 6 = .ok (.getfield 61, 3) := by decide +kernel
theorem d_T_blockOfRank_9 : decode b_T_blockOfRank 9 = .ok (.if_icmp .ge 30, 3) := by decide +kernel
theorem d_T_blockOfRank_12 : decode b_T_blockOfRank 12 = .ok (.iload_n 2, 1) := by decide +kernel
theorem d_T_blockOfRank_13 : decode b_T_blockOfRank 13 = .ok (.aload_n 0, 1) := by decide +kernel
theorem d_T_blockOfRank_14 : decode b_T_blockOfRank 14 = .ok (.getfield 20, 3) := by decide +kernel
theorem d_T_blockOfRank_17 : decode b_T_blockOfRank 17 = .ok (.aload_n 0, 1) := by decide +kernel
theorem d_T_blockOfRank_18 : decode b_T_blockOfRank 18 = .ok (.getfield 13, 3) := by decide +kernel
theorem d_T_blockOfRank_21 : decode b_T_blockOfRank 21 = .ok (.iload_n 3, 1) := by decide +kernel
theorem d_T_blockOfRank_22 : decode b_T_blockOfRank 22 = .ok (.iaload, 1) := by decide +kernel
theorem d_T_blockOfRank_23 : decode b_T_blockOfRank 23 = .ok (.iaload, 1) := by decide +kernel
theorem d_T_blockOfRank_24 : decode b_T_blockOfRank 24 = .ok (.iadd, 1) := by decide +kernel
theorem d_T_blockOfRank_25 : decode b_T_blockOfRank 25 = .ok (.istore_n 2, 1) := by decide +kernel
theorem d_T_blockOfRank_26 : decode b_T_blockOfRank 26 = .ok (.iload_n 1, 1) := by decide +kernel
theorem d_T_blockOfRank_27 : decode b_T_blockOfRank 27 = .ok (.iload_n 2, 1) := by decide +kernel
theorem d_T_blockOfRank_28 : decode b_T_blockOfRank 28 = .ok (.if_icmp .ge 5, 3) := by decide +kernel
theorem d_T_blockOfRank_31 : decode b_T_blockOfRank 31 = .ok (.iload_n 3, 1) := by decide +kernel
theorem d_T_blockOfRank_32 : decode b_T_blockOfRank 32 = .ok (.ireturn, 1) := by decide +kernel
theorem d_T_blockOfRank_33 : decode b_T_blockOfRank 33 = .ok (.iinc 3 1, 3) := by decide +kernel
theorem d_T_blockOfRank_36 : decode b_T_blockOfRank 36 = .ok (.goto (-32), 3) := by decide +kernel
theorem d_T_blockOfRank_39 : decode b_T_blockOfRank 39 = .ok (.iconst 0, 1) := by decide +kernel
theorem d_T_blockOfRank_40 : decode b_T_blockOfRank 40 = .ok (.ireturn, 1) := by decide +kernel
theorem d_T_countLess_0 : decode b_T_countLess 0 = .ok (.iconst 0, 1) := by decide +kernel
theorem d_T_countLess_1 : decode b_T_countLess 1 = .ok (.istore_n 2, 1) := by decide +kernel
theorem d_T_countLess_2 : decode b_T_countLess 2 = .ok (.aload_n 0, 1) := by decide +kernel
theorem d_T_countLess_3 : decode b_T_countLess 3 = .ok (.getfield 61, 3) := by decide +kernel
theorem d_T_countLess_6 : decode b_T_countLess 6 = .ok (.istore_n 3, 1) := by decide +kernel
theorem d_T_countLess_7 : decode b_T_countLess 7 = .ok (.iconst 0, 1) := by decide +kernel
theorem d_T_countLess_8 : decode b_T_countLess 8 = .ok (.istore 4, 2) := by decide +kernel
theorem d_T_countLess_10 : decode b_T_countLess 10 = .ok (.iload 4, 2) := by decide +kernel
theorem d_T_countLess_12 : decode b_T_countLess 12 = .ok (.iconst 5, 1) := by decide +kernel
theorem d_T_countLess_13 : decode b_T_countLess 13 = .ok (.if_icmp .ge 42, 3) := by decide +kernel
theorem d_T_countLess_16 : decode b_T_countLess 16 = .ok (.iload_n 2, 1) := by decide +kernel
theorem d_T_countLess_17 : decode b_T_countLess 17 = .ok (.iload_n 3, 1) := by decide +kernel
theorem d_T_countLess_18 : decode b_T_countLess 18 = .ok (.if_icmp .ge 37, 3) := by decide +kernel
theorem d_T_countLess_21 : decode b_T_countLess 21 = .ok (.iload_n 2, 1) := by decide +kernel
theorem d_T_countLess_22 : decode b_T_countLess 22 = .ok (.iload_n 3, 1) := by decide +kernel
theorem d_T_countLess_23 : decode b_T_countLess 23 = .ok (.iadd, 1) := by decide +kernel
theorem d_T_countLess_24 : decode b_T_countLess 24 = .ok (.iconst 2, 1) := by decide +kernel
theorem d_T_countLess_25 : decode b_T_countLess 25 = .ok (.idiv, 1) := by decide +kernel
theorem d_T_countLess_26 : decode b_T_countLess 26 = .ok (.istore 5, 2) := by decide +kernel
theorem d_T_countLess_28 : decode b_T_countLess 28 = .ok (.aload_n 0, 1) := by decide +kernel
theorem d_T_countLess_29 : decode b_T_countLess 29 = .ok (.iload 5, 2) := by decide +kernel
theorem d_T_countLess_31 : decode b_T_countLess 31 = .ok (.iload_n 1, 1) := by decide +kernel
theorem d_T_countLess_32 : decode b_T_countLess 32 = .ok (.invokevirtual 89, 3) := by decide +kernel
theorem d_T_countLess_35 : decode b_T_countLess 35 = .ok (.ifCond .eq 11, 3) := by decide +kernel
theorem d_T_countLess_38 : decode b_T_countLess 38 = .ok (.iload 5, 2) := by decide +kernel
theorem d_T_countLess_40 : decode b_T_countLess 40 = .ok (.iconst 1, 1) := by decide +kernel
theorem d_T_countLess_41 : decode b_T_countLess 41 = .ok (.iadd, 1) := by decide +kernel
theorem d_T_countLess_42 : decode b_T_countLess 42 = .ok (.istore_n 2, 1) := by decide +kernel
theorem d_T_countLess_43 : decode b_T_countLess 43 = .ok (.goto 6, 3) := by decide +kernel
theorem d_T_countLess_46 : decode b_T_countLess 46 = .ok (.iload 5, 2) := by decide +kernel
theorem d_T_countLess_48 : decode b_T_countLess 48 = .ok (.istore_n 3, 1) := by decide +kernel
theorem d_T_countLess_49 : decode b_T_countLess 49 = .ok (.iinc 4 1, 3) := by decide +kernel
theorem d_T_countLess_52 : decode b_T_countLess 52 = .ok (.goto (-42), 3) := by decide +kernel
theorem d_T_countLess_55 : decode b_T_countLess 55 = .ok (.aload_n 0, 1) := by decide +kernel
theorem d_T_countLess_56 : decode b_T_countLess 56 = .ok (.iload_n 2, 1) := by decide +kernel
theorem d_T_countLess_57 : decode b_T_countLess 57 = .ok (.ifCond .le 9, 3) := by decide +kernel
theorem d_T_countLess_60 : decode b_T_countLess 60 = .ok (.iload_n 2, 1) := by decide +kernel
theorem d_T_countLess_61 : decode b_T_countLess 61 = .ok (.iconst 1, 1) := by decide +kernel
theorem d_T_countLess_62 : decode b_T_countLess 62 = .ok (.isub, 1) := by decide +kernel
theorem d_T_countLess_63 : decode b_T_countLess 63 = .ok (.goto 4, 3) := by decide +kernel
theorem d_T_countLess_66 : decode b_T_countLess 66 = .ok (.iconst 0, 1) := by decide +kernel
theorem d_T_countLess_67 : decode b_T_countLess 67 = .ok (.putfield 67, 3) := by decide +kernel
theorem d_T_countLess_70 : decode b_T_countLess 70 = .ok (.aload_n 0, 1) := by decide +kernel
theorem d_T_countLess_71 : decode b_T_countLess 71 = .ok (.iload_n 2, 1) := by decide +kernel
theorem d_T_countLess_72 : decode b_T_countLess 72 = .ok (.ifCond .le 19, 3) := by decide +kernel
theorem d_T_countLess_75 : decode b_T_countLess 75 = .ok (.aload_n 0, 1) := by decide +kernel
theorem d_T_countLess_76 : decode b_T_countLess 76 = .ok (.aload_n 0, 1) := by decide +kernel
theorem d_T_countLess_77 : decode b_T_countLess 77 = .ok (.getfield 13, 3) := by decide +kernel
theorem d_T_countLess_80 : decode b_T_countLess 80 = .ok (.iload_n 2, 1) := by decide +kernel
theorem d_T_countLess_81 : decode b_T_countLess 81 = .ok (.iconst 1, 1) := by decide +kernel
theorem d_T_countLess_82 : decode b_T_countLess 82 = .ok (.isub, 1) := by decide +kernel
theorem d_T_countLess_83 : decode b_T_countLess 83 = .ok (.iaload, 1) := by decide +kernel
theorem d_T_countLess_84 : decode b_T_countLess 84 = .ok (.iload_n 1, 1) := by decide +kernel
theorem d_T_countLess_85 : decode b_T_countLess 85 = .ok (.invokevirtual 93, 3) := by decide +kernel
theorem d_T_countLess_88 : decode b_T_countLess 88 = .ok (.goto 4, 3) := by decide +kernel
theorem d_T_countLess_91 : decode b_T_countLess 91 = .ok (.iconst 0, 1) := by decide +kernel
theorem d_T_countLess_92 : decode b_T_countLess 92 = .ok (.putfield 70, 3) := by decide +kernel
theorem d_T_countLess_95 : decode b_T_countLess 95 = .ok (.aload_n 0, 1) := by decide +kernel
theorem d_T_countLess_96 : decode b_T_countLess 96 = .ok (.aload_n 0, 1) := by decide +kernel
theorem d_T_countLess_97 : decode b_T_countLess 97 = .ok (.getfield 67, 3) := by decide +kernel
theorem d_T_countLess_100 : decode b_T_countLess 100 = .ok (.invokevirtual 50, 3) := by decide +kernel
theorem d_T_countLess_103 : decode b_T_countLess 103 = .ok (.aload_n 0, 1) := by decide +kernel
theorem d_T_countLess_104 : decode b_T_countLess 104 = .ok (.getfield 70, 3) := by decide +kernel
theorem d_T_countLess_107 : decode b_T_countLess 107 = .ok (.iadd, 1) := by decide +kernel
theorem d_T_countLess_108 : decode b_T_countLess 108 = .ok (.ireturn, 1) := by decide +kernel
theorem d_T_headIsLess_0 : decode b_T_headIsLess 0 = .ok (.bipush 48, 2) := by decide +kernel
theorem d_T_headIsLess_2 : decode b_T_headIsLess 2 = .ok (.aload_n 0, 1) := by decide +kernel
theorem d_T_headIsLess_3 : decode b_T_headIsLess 3 = .ok (.getfield 13, 3) := by decide +kernel
theorem d_T_headIsLess_6 : decode b_T_headIsLess 6 = .ok (.iload_n 1, 1) := by decide +kernel
theorem d_T_headIsLess_7 : decode b_T_headIsLess 7 = .ok (.iaload, 1) := by decide +kernel
theorem d_T_headIsLess_8 : decode b_T_headIsLess 8 = .ok (.imul, 1) := by decide +kernel
theorem d_T_headIsLess_9 : decode b_T_headIsLess 9 = .ok (.istore_n 3, 1) := by decide +kernel
theorem d_T_headIsLess_10 : decode b_T_headIsLess 10 = .ok (.aload_n 0, 1) := by decide +kernel
theorem d_T_headIsLess_11 : decode b_T_headIsLess 11 = .ok (.iload_n 3, 1) := by decide +kernel
theorem d_T_headIsLess_12 : decode b_T_headIsLess 12 = .ok (.iconst 0, 1) := by decide +kernel
theorem d_T_headIsLess_13 : decode b_T_headIsLess 13 = .ok (.invokevirtual 97, 3) := by decide +kernel
theorem d_T_headIsLess_16 : decode b_T_headIsLess 16 = .ok (.istore 4, 2) := by decide +kernel
theorem d_T_headIsLess_18 : decode b_T_headIsLess 18 = .ok (.aload_n 0, 1) := by decide +kernel
theorem d_T_headIsLess_19 : decode b_T_headIsLess 19 = .ok (.iload_n 3, 1) := by decide +kernel
theorem d_T_headIsLess_20 : decode b_T_headIsLess 20 = .ok (.iload 4, 2) := by decide +kernel
theorem d_T_headIsLess_22 : decode b_T_headIsLess 22 = .ok (.iload_n 2, 1) := by decide +kernel
theorem d_T_headIsLess_23 : decode b_T_headIsLess 23 = .ok (.invokevirtual 101, 3) := by decide +kernel
theorem d_T_headIsLess_26 : decode b_T_headIsLess 26 = .ok (.ireturn, 1) := by decide +kernel
theorem d_T_matched_0 : decode b_T_matched 0 = .ok (.iload_n 2, 1) := by decide +kernel
theorem d_T_matched_1 : decode b_T_matched 1 = .ok (.istore_n 3, 1) := by decide +kernel
theorem d_T_matched_2 : decode b_T_matched 2 = .ok (.aload_n 0, 1) := by decide +kernel
theorem d_T_matched_3 : decode b_T_matched 3 = .ok (.getfield 23, 3) := by decide +kernel
theorem d_T_matched_6 : decode b_T_matched 6 = .ok (.iload_n 1, 1) := by decide +kernel
theorem d_T_matched_7 : decode b_T_matched 7 = .ok (.iaload, 1) := by decide +kernel
theorem d_T_matched_8 : decode b_T_matched 8 = .ok (.aload_n 0, 1) := by decide +kernel
theorem d_T_matched_9 : decode b_T_matched 9 = .ok (.getfield 23, 3) := by decide +kernel
theorem d_T_matched_12 : decode b_T_matched 12 = .ok (.iload_n 1, 1) := by decide +kernel
theorem d_T_matched_13 : decode b_T_matched 13 = .ok (.iconst 1, 1) := by decide +kernel
theorem d_T_matched_14 : decode b_T_matched 14 = .ok (.iadd, 1) := by decide +kernel
theorem d_T_matched_15 : decode b_T_matched 15 = .ok (.iaload, 1) := by decide +kernel
theorem d_T_matched_16 : decode b_T_matched 16 = .ok (.iadd, 1) := by decide +kernel
theorem d_T_matched_17 : decode b_T_matched 17 = .ok (.istore 4, 2) := by decide +kernel
theorem d_T_matched_19 : decode b_T_matched 19 = .ok (.iload_n 3, 1) := by decide +kernel
theorem d_T_matched_20 : decode b_T_matched 20 = .ok (.aload_n 0, 1) := by decide +kernel
theorem d_T_matched_21 : decode b_T_matched 21 = .ok (.getfield 32, 3) := by decide +kernel
theorem d_T_matched_24 : decode b_T_matched 24 = .ok (.if_icmp .ge 41, 3) := by decide +kernel
theorem d_T_matched_27 : decode b_T_matched 27 = .ok (.iload_n 3, 1) := by decide +kernel
theorem d_T_matched_28 : decode b_T_matched 28 = .ok (.iload 4, 2) := by decide +kernel
theorem d_T_matched_30 : decode b_T_matched 30 = .ok (.if_icmp .ge 35, 3) := by decide +kernel
theorem d_T_matched_33 : decode b_T_matched 33 = .ok (.aload_n 0, 1) := by decide +kernel
theorem d_T_matched_34 : decode b_T_matched 34 = .ok (.getfield 23, 3) := by decide +kernel
theorem d_T_matched_37 : decode b_T_matched 37 = .ok (.iload_n 1, 1) := by decide +kernel
theorem d_T_matched_38 : decode b_T_matched 38 = .ok (.iconst 2, 1) := by decide +kernel
theorem d_T_matched_39 : decode b_T_matched 39 = .ok (.iadd, 1) := by decide +kernel
theorem d_T_matched_40 : decode b_T_matched 40 = .ok (.iload_n 3, 1) := by decide +kernel
theorem d_T_matched_41 : decode b_T_matched 41 = .ok (.iadd, 1) := by decide +kernel
theorem d_T_matched_42 : decode b_T_matched 42 = .ok (.aload_n 0, 1) := by decide +kernel
theorem d_T_matched_43 : decode b_T_matched 43 = .ok (.getfield 23, 3) := by decide +kernel
theorem d_T_matched_46 : decode b_T_matched 46 = .ok (.iload_n 1, 1) := by decide +kernel
theorem d_T_matched_47 : decode b_T_matched 47 = .ok (.iaload, 1) := by decide +kernel
theorem d_T_matched_48 : decode b_T_matched 48 = .ok (.isub, 1) := by decide +kernel
theorem d_T_matched_49 : decode b_T_matched 49 = .ok (.iaload, 1) := by decide +kernel
theorem d_T_matched_50 : decode b_T_matched 50 = .ok (.aload_n 0, 1) := by decide +kernel
theorem d_T_matched_51 : decode b_T_matched 51 = .ok (.getfield 7, 3) := by decide +kernel
theorem d_T_matched_54 : decode b_T_matched 54 = .ok (.iload_n 3, 1) := by decide +kernel
theorem d_T_matched_55 : decode b_T_matched 55 = .ok (.iaload, 1) := by decide +kernel
theorem d_T_matched_56 : decode b_T_matched 56 = .ok (.if_icmp .ne 9, 3) := by decide +kernel
theorem d_T_matched_59 : decode b_T_matched 59 = .ok (.iinc 3 1, 3) := by decide +kernel
theorem d_T_matched_62 : decode b_T_matched 62 = .ok (.goto (-43), 3) := by decide +kernel
theorem d_T_matched_65 : decode b_T_matched 65 = .ok (.iload_n 3, 1) := by decide +kernel
theorem d_T_matched_66 : decode b_T_matched 66 = .ok (.ireturn, 1) := by decide +kernel
theorem d_T_isLess_0 : decode b_T_isLess 0 = .ok (.iload_n 2, 1) := by decide +kernel
theorem d_T_isLess_1 : decode b_T_isLess 1 = .ok (.aload_n 0, 1) := by decide +kernel
theorem d_T_isLess_2 : decode b_T_isLess 2 = .ok (.getfield 32, 3) := by decide +kernel
theorem d_T_isLess_5 : decode b_T_isLess 5 = .ok (.if_icmp .ne 5, 3) := by decide +kernel
theorem d_T_isLess_8 : decode b_T_isLess 8 = .ok (.iload_n 3, 1) := by decide +kernel
theorem d_T_isLess_9 : decode b_T_isLess 9 = .ok (.ireturn, 1) := by decide +kernel
theorem d_T_isLess_10 : decode b_T_isLess 10 = .ok (.iload_n 2, 1) := by decide +kernel
theorem d_T_isLess_11 : decode b_T_isLess 11 = .ok (.aload_n 0, 1) := by decide +kernel
theorem d_T_isLess_12 : decode b_T_isLess 12 = .ok (.getfield 23, 3) := by decide +kernel
theorem d_T_isLess_15 : decode b_T_isLess 15 = .ok (.iload_n 1, 1) := by decide +kernel
theorem d_T_isLess_16 : decode b_T_isLess 16 = .ok (.iaload, 1) := by decide +kernel
theorem d_T_isLess_17 : decode b_T_isLess 17 = .ok (.aload_n 0, 1) := by decide +kernel
theorem d_T_isLess_18 : decode b_T_isLess 18 = .ok (.getfield 23, 3) := by decide +kernel
theorem d_T_isLess_21 : decode b_T_isLess 21 = .ok (.iload_n 1, 1) := by decide +kernel
theorem d_T_isLess_22 : decode b_T_isLess 22 = .ok (.iconst 1, 1) := by decide +kernel
theorem d_T_isLess_23 : decode b_T_isLess 23 = .ok (.iadd, 1) := by decide +kernel
theorem d_T_isLess_24 : decode b_T_isLess 24 = .ok (.iaload, 1) := by decide +kernel
theorem d_T_isLess_25 : decode b_T_isLess 25 = .ok (.iadd, 1) := by decide +kernel
theorem d_T_isLess_26 : decode b_T_isLess 26 = .ok (.if_icmp .eq 29, 3) := by decide +kernel
theorem d_T_isLess_29 : decode b_T_isLess 29 = .ok (.aload_n 0, 1) := by decide +kernel
theorem d_T_isLess_30 : decode b_T_isLess 30 = .ok (.getfield 23, 3) := by decide +kernel
theorem d_T_isLess_33 : decode b_T_isLess 33 = .ok (.iload_n 1, 1) := by decide +kernel
theorem d_T_isLess_34 : decode b_T_isLess 34 = .ok (.iconst 2, 1) := by decide +kernel
theorem d_T_isLess_35 : decode b_T_isLess 35 = .ok (.iadd, 1) := by decide +kernel
theorem d_T_isLess_36 : decode b_T_isLess 36 = .ok (.iload_n 2, 1) := by decide +kernel
theorem d_T_isLess_37 : decode b_T_isLess 37 = .ok (.iadd, 1) := by decide +kernel
theorem d_T_isLess_38 : decode b_T_isLess 38 = .ok (.aload_n 0, 1) := by decide +kernel
theorem d_T_isLess_39 : decode b_T_isLess 39 = .ok (.getfield 23, 3) := by decide +kernel
theorem d_T_isLess_42 : decode b_T_isLess 42 = .ok (.iload_n 1, 1) := by decide +kernel
theorem d_T_isLess_43 : decode b_T_isLess 43 = .ok (.iaload, 1) := by decide +kernel
theorem d_T_isLess_44 : decode b_T_isLess 44 = .ok (.isub, 1) := by decide +kernel
theorem d_T_isLess_45 : decode b_T_isLess 45 = .ok (.iaload, 1) := by decide +kernel
theorem d_T_isLess_46 : decode b_T_isLess 46 = .ok (.aload_n 0, 1) := by decide +kernel
theorem d_T_isLess_47 : decode b_T_isLess 47 = .ok (.getfield 7, 3) := by decide +kernel
theorem d_T_isLess_50 : decode b_T_isLess 50 = .ok (.iload_n 2, 1) := by decide +kernel
theorem d_T_isLess_51 : decode b_T_isLess 51 = .ok (.iaload, 1) := by decide +kernel
theorem d_T_isLess_52 : decode b_T_isLess 52 = .ok (.if_icmp .ge 7, 3) := by decide +kernel
theorem d_T_isLess_55 : decode b_T_isLess 55 = .ok (.iconst 1, 1) := by decide +kernel
theorem d_T_isLess_56 : decode b_T_isLess 56 = .ok (.goto 4, 3) := by decide +kernel
theorem d_T_isLess_59 : decode b_T_isLess 59 = .ok (.iconst 0, 1) := by decide +kernel
theorem d_T_isLess_60 : decode b_T_isLess 60 = .ok (.ireturn, 1) := by decide +kernel
theorem d_T_scanBlock_0 : decode b_T_scanBlock 0 = .ok (.bipush 48, 2) := by decide +kernel
theorem d_T_scanBlock_2 : decode b_T_scanBlock 2 = .ok (.iload_n 1, 1) := by decide +kernel
theorem d_T_scanBlock_3 : decode b_T_scanBlock 3 = .ok (.imul, 1) := by decide +kernel
theorem d_T_scanBlock_4 : decode b_T_scanBlock 4 = .ok (.istore_n 3, 1) := by decide +kernel
theorem d_T_scanBlock_5 : decode b_T_scanBlock 5 = .ok (.aload_n 0, 1) := by decide +kernel
theorem d_T_scanBlock_6 : decode b_T_scanBlock 6 = .ok (.iload_n 3, 1) := by decide +kernel
theorem d_T_scanBlock_7 : decode b_T_scanBlock 7 = .ok (.iconst 0, 1) := by decide +kernel
theorem d_T_scanBlock_8 : decode b_T_scanBlock 8 = .ok (.invokevirtual 97, 3) := by decide +kernel
theorem d_T_scanBlock_11 : decode b_T_scanBlock 11 = .ok (.istore 4, 2) := by decide +kernel
theorem d_T_scanBlock_13 : decode b_T_scanBlock 13 = .ok (.iconst 1, 1) := by decide +kernel
theorem d_T_scanBlock_14 : decode b_T_scanBlock 14 = .ok (.istore 5, 2) := by decide +kernel
theorem d_T_scanBlock_16 : decode b_T_scanBlock 16 = .ok (.iconst 1, 1) := by decide +kernel
theorem d_T_scanBlock_17 : decode b_T_scanBlock 17 = .ok (.istore 6, 2) := by decide +kernel
theorem d_T_scanBlock_19 : decode b_T_scanBlock 19 = .ok (.iload 6, 2) := by decide +kernel
theorem d_T_scanBlock_21 : decode b_T_scanBlock 21 = .ok (.aload_n 0, 1) := by decide +kernel
theorem d_T_scanBlock_22 : decode b_T_scanBlock 22 = .ok (.getfield 20, 3) := by decide +kernel
theorem d_T_scanBlock_25 : decode b_T_scanBlock 25 = .ok (.iload_n 1, 1) := by decide +kernel
theorem d_T_scanBlock_26 : decode b_T_scanBlock 26 = .ok (.iaload, 1) := by decide +kernel
theorem d_T_scanBlock_27 : decode b_T_scanBlock 27 = .ok (.if_icmp .ge 73, 3) := by decide +kernel
theorem d_T_scanBlock_30 : decode b_T_scanBlock 30 = .ok (.iload_n 3, 1) := by decide +kernel
theorem d_T_scanBlock_31 : decode b_T_scanBlock 31 = .ok (.iconst 2, 1) := by decide +kernel
theorem d_T_scanBlock_32 : decode b_T_scanBlock 32 = .ok (.aload_n 0, 1) := by decide +kernel
theorem d_T_scanBlock_33 : decode b_T_scanBlock 33 = .ok (.getfield 23, 3) := by decide +kernel
theorem d_T_scanBlock_36 : decode b_T_scanBlock 36 = .ok (.iload_n 3, 1) := by decide +kernel
theorem d_T_scanBlock_37 : decode b_T_scanBlock 37 = .ok (.iconst 1, 1) := by decide +kernel
theorem d_T_scanBlock_38 : decode b_T_scanBlock 38 = .ok (.iadd, 1) := by decide +kernel
theorem d_T_scanBlock_39 : decode b_T_scanBlock 39 = .ok (.iaload, 1) := by decide +kernel
theorem d_T_scanBlock_40 : decode b_T_scanBlock 40 = .ok (.iadd, 1) := by decide +kernel
theorem d_T_scanBlock_41 : decode b_T_scanBlock 41 = .ok (.iadd, 1) := by decide +kernel
theorem d_T_scanBlock_42 : decode b_T_scanBlock 42 = .ok (.istore_n 3, 1) := by decide +kernel
theorem d_T_scanBlock_43 : decode b_T_scanBlock 43 = .ok (.aload_n 0, 1) := by decide +kernel
theorem d_T_scanBlock_44 : decode b_T_scanBlock 44 = .ok (.getfield 23, 3) := by decide +kernel
theorem d_T_scanBlock_47 : decode b_T_scanBlock 47 = .ok (.iload_n 3, 1) := by decide +kernel
theorem d_T_scanBlock_48 : decode b_T_scanBlock 48 = .ok (.iaload, 1) := by decide +kernel
theorem d_T_scanBlock_49 : decode b_T_scanBlock 49 = .ok (.iload 4, 2) := by decide +kernel
theorem d_T_scanBlock_51 : decode b_T_scanBlock 51 = .ok (.if_icmp .ge 6, 3) := by decide +kernel
theorem d_T_scanBlock_54 : decode b_T_scanBlock 54 = .ok (.iload 5, 2) := by decide +kernel
theorem d_T_scanBlock_56 : decode b_T_scanBlock 56 = .ok (.ireturn, 1) := by decide +kernel
theorem d_T_scanBlock_57 : decode b_T_scanBlock 57 = .ok (.aload_n 0, 1) := by decide +kernel
theorem d_T_scanBlock_58 : decode b_T_scanBlock 58 = .ok (.getfield 23, 3) := by decide +kernel
theorem d_T_scanBlock_61 : decode b_T_scanBlock 61 = .ok (.iload_n 3, 1) := by decide +kernel
theorem d_T_scanBlock_62 : decode b_T_scanBlock 62 = .ok (.iaload, 1) := by decide +kernel
theorem d_T_scanBlock_63 : decode b_T_scanBlock 63 = .ok (.iload 4, 2) := by decide +kernel
theorem d_T_scanBlock_65 : decode b_T_scanBlock 65 = .ok (.if_icmp .ne 26, 3) := by decide +kernel
theorem d_T_scanBlock_68 : decode b_T_scanBlock 68 = .ok (.aload_n 0, 1) := by decide +kernel
theorem d_T_scanBlock_69 : decode b_T_scanBlock 69 = .ok (.iload_n 3, 1) := by decide +kernel
theorem d_T_scanBlock_70 : decode b_T_scanBlock 70 = .ok (.iload 4, 2) := by decide +kernel
theorem d_T_scanBlock_72 : decode b_T_scanBlock 72 = .ok (.invokevirtual 97, 3) := by decide +kernel
theorem d_T_scanBlock_75 : decode b_T_scanBlock 75 = .ok (.istore 4, 2) := by decide +kernel
theorem d_T_scanBlock_77 : decode b_T_scanBlock 77 = .ok (.aload_n 0, 1) := by decide +kernel
theorem d_T_scanBlock_78 : decode b_T_scanBlock 78 = .ok (.iload_n 3, 1) := by decide +kernel
theorem d_T_scanBlock_79 : decode b_T_scanBlock 79 = .ok (.iload 4, 2) := by decide +kernel
theorem d_T_scanBlock_81 : decode b_T_scanBlock 81 = .ok (.iload_n 2, 1) := by decide +kernel
theorem d_T_scanBlock_82 : decode b_T_scanBlock 82 = .ok (.invokevirtual 101, 3) := by decide +kernel
theorem d_T_scanBlock_85 : decode b_T_scanBlock 85 = .ok (.ifCond .ne 6, 3) := by decide +kernel
theorem d_T_scanBlock_88 : decode b_T_scanBlock 88 = .ok (.iload 5, 2) := by decide +kernel
theorem d_T_scanBlock_90 : decode b_T_scanBlock 90 = .ok (.ireturn, 1) := by decide +kernel
theorem d_T_scanBlock_91 : decode b_T_scanBlock 91 = .ok (.iinc 5 1, 3) := by decide +kernel
theorem d_T_scanBlock_94 : decode b_T_scanBlock 94 = .ok (.iinc 6 1, 3) := by decide +kernel
theorem d_T_scanBlock_97 : decode b_T_scanBlock 97 = .ok (.goto (-78), 3) := by decide +kernel
theorem d_T_scanBlock_100 : decode b_T_scanBlock 100 = .ok (.iload 5, 2) := by decide +kernel
theorem d_T_scanBlock_102 : decode b_T_scanBlock 102 = .ok (.ireturn, 1) := by decide +kernel
theorem d_T_unpack_0 : decode b_T_unpack 0 = .ok (.bipush 48, 2) := by decide +kernel
theorem d_T_unpack_2 : decode b_T_unpack 2 = .ok (.aload_n 0, 1) := by decide +kernel
theorem d_T_unpack_3 : decode b_T_unpack 3 = .ok (.getfield 13, 3) := by decide +kernel
theorem d_T_unpack_6 : decode b_T_unpack 6 = .ok (.iload_n 1, 1) := by decide +kernel
theorem d_T_unpack_7 : decode b_T_unpack 7 = .ok (.iaload, 1) := by decide +kernel
theorem d_T_unpack_8 : decode b_T_unpack 8 = .ok (.imul, 1) := by decide +kernel
theorem d_T_unpack_9 : decode b_T_unpack 9 = .ok (.istore_n 2, 1) := by decide +kernel
theorem d_T_unpack_10 : decode b_T_unpack 10 = .ok (.iconst 0, 1) := by decide +kernel
theorem d_T_unpack_11 : decode b_T_unpack 11 = .ok (.istore_n 3, 1) := by decide +kernel
theorem d_T_unpack_12 : decode b_T_unpack 12 = .ok (.iconst 0, 1) := by decide +kernel
theorem d_T_unpack_13 : decode b_T_unpack 13 = .ok (.istore 4, 2) := by decide +kernel
theorem d_T_unpack_15 : decode b_T_unpack 15 = .ok (.iload 4, 2) := by decide +kernel
theorem d_T_unpack_17 : decode b_T_unpack 17 = .ok (.aload_n 0, 1) := by decide +kernel
theorem d_T_unpack_18 : decode b_T_unpack 18 = .ok (.getfield 20, 3) := by decide +kernel
theorem d_T_unpack_21 : decode b_T_unpack 21 = .ok (.aload_n 0, 1) := by decide +kernel
theorem d_T_unpack_22 : decode b_T_unpack 22 = .ok (.getfield 13, 3) := by decide +kernel
theorem d_T_unpack_25 : decode b_T_unpack 25 = .ok (.iload_n 1, 1) := by decide +kernel
theorem d_T_unpack_26 : decode b_T_unpack 26 = .ok (.iaload, 1) := by decide +kernel
theorem d_T_unpack_27 : decode b_T_unpack 27 = .ok (.iaload, 1) := by decide +kernel
theorem d_T_unpack_28 : decode b_T_unpack 28 = .ok (.if_icmp .ge 163, 3) := by decide +kernel
theorem d_T_unpack_31 : decode b_T_unpack 31 = .ok (.iconst 0, 1) := by decide +kernel
theorem d_T_unpack_32 : decode b_T_unpack 32 = .ok (.istore 5, 2) := by decide +kernel
theorem d_T_unpack_34 : decode b_T_unpack 34 = .ok (.iload 5, 2) := by decide +kernel
theorem d_T_unpack_36 : decode b_T_unpack 36 = .ok (.aload_n 0, 1) := by decide +kernel
theorem d_T_unpack_37 : decode b_T_unpack 37 = .ok (.getfield 23, 3) := by decide +kernel
theorem d_T_unpack_40 : decode b_T_unpack 40 = .ok (.iload_n 2, 1) := by decide +kernel
theorem d_T_unpack_41 : decode b_T_unpack 41 = .ok (.iaload, 1) := by decide +kernel
theorem d_T_unpack_42 : decode b_T_unpack 42 = .ok (.if_icmp .ge 33, 3) := by decide +kernel
theorem d_T_unpack_45 : decode b_T_unpack 45 = .ok (.aload_n 0, 1) := by decide +kernel
theorem d_T_unpack_46 : decode b_T_unpack 46 = .ok (.getfield 26, 3) := by decide +kernel
theorem d_T_unpack_49 : decode b_T_unpack 49 = .ok (.bipush 6, 2) := by decide +kernel
theorem d_T_unpack_51 : decode b_T_unpack 51 = .ok (.aload_n 0, 1) := by decide +kernel
theorem d_T_unpack_52 : decode b_T_unpack 52 = .ok (.getfield 43, 3) := by decide +kernel
theorem d_T_unpack_55 : decode b_T_unpack 55 = .ok (.imul, 1) := by decide +kernel
theorem d_T_unpack_56 : decode b_T_unpack 56 = .ok (.iload 5, 2) := by decide +kernel
theorem d_T_unpack_58 : decode b_T_unpack 58 = .ok (.iadd, 1) := by decide +kernel
theorem d_T_unpack_59 : decode b_T_unpack 59 = .ok (.aload_n 0, 1) := by decide +kernel
theorem d_T_unpack_60 : decode b_T_unpack 60 = .ok (.getfield 26, 3) := by decide +kernel
theorem d_T_unpack_63 : decode b_T_unpack 63 = .ok (.iload_n 3, 1) := by decide +kernel
theorem d_T_unpack_64 : decode b_T_unpack 64 = .ok (.iload 5, 2) := by decide +kernel
theorem d_T_unpack_66 : decode b_T_unpack 66 = .ok (.iadd, 1) := by decide +kernel
theorem d_T_unpack_67 : decode b_T_unpack 67 = .ok (.iaload, 1) := by decide +kernel
theorem d_T_unpack_68 : decode b_T_unpack 68 = .ok (.iastore, 1) := by decide +kernel
theorem d_T_unpack_69 : decode b_T_unpack 69 = .ok (.iinc 5 1, 3) := by decide +kernel
theorem d_T_unpack_72 : decode b_T_unpack 72 = .ok (.goto (-38), 3) := by decide +kernel
theorem d_T_unpack_75 : decode b_T_unpack 75 = .ok (.iconst 0, 1) := by decide +kernel
theorem d_T_unpack_76 : decode b_T_unpack 76 = .ok (.istore 5, 2) := by decide +kernel
theorem d_T_unpack_78 : decode b_T_unpack 78 = .ok (.iload 5, 2) := by decide +kernel
theorem d_T_unpack_80 : decode b_T_unpack 80 = .ok (.aload_n 0, 1) := by decide +kernel
theorem d_T_unpack_81 : decode b_T_unpack 81 = .ok (.getfield 23, 3) := by decide +kernel
theorem d_T_unpack_84 : decode b_T_unpack 84 = .ok (.iload_n 2, 1) := by decide +kernel
theorem d_T_unpack_85 : decode b_T_unpack 85 = .ok (.iconst 1, 1) := by decide +kernel
theorem d_T_unpack_86 : decode b_T_unpack 86 = .ok (.iadd, 1) := by decide +kernel
theorem d_T_unpack_87 : decode b_T_unpack 87 = .ok (.iaload, 1) := by decide +kernel
theorem d_T_unpack_88 : decode b_T_unpack 88 = .ok (.if_icmp .ge 42, 3) := by decide +kernel
theorem d_T_unpack_91 : decode b_T_unpack 91 = .ok (.aload_n 0, 1) := by decide +kernel
theorem d_T_unpack_92 : decode b_T_unpack 92 = .ok (.getfield 26, 3) := by decide +kernel
theorem d_T_unpack_95 : decode b_T_unpack 95 = .ok (.bipush 6, 2) := by decide +kernel
theorem d_T_unpack_97 : decode b_T_unpack 97 = .ok (.aload_n 0, 1) := by decide +kernel
theorem d_T_unpack_98 : decode b_T_unpack 98 = .ok (.getfield 43, 3) := by decide +kernel
theorem d_T_unpack_101 : decode b_T_unpack 101 = .ok (.imul, 1) := by decide +kernel
theorem d_T_unpack_102 : decode b_T_unpack 102 = .ok (.aload_n 0, 1) := by decide +kernel
theorem d_T_unpack_103 : decode b_T_unpack 103 = .ok (.getfield 23, 3) := by decide +kernel
theorem d_T_unpack_106 : decode b_T_unpack 106 = .ok (.iload_n 2, 1) := by decide +kernel
theorem d_T_unpack_107 : decode b_T_unpack 107 = .ok (.iaload, 1) := by decide +kernel
theorem d_T_unpack_108 : decode b_T_unpack 108 = .ok (.iadd, 1) := by decide +kernel
theorem d_T_unpack_109 : decode b_T_unpack 109 = .ok (.iload 5, 2) := by decide +kernel
theorem d_T_unpack_111 : decode b_T_unpack 111 = .ok (.iadd, 1) := by decide +kernel
theorem d_T_unpack_112 : decode b_T_unpack 112 = .ok (.aload_n 0, 1) := by decide +kernel
theorem d_T_unpack_113 : decode b_T_unpack 113 = .ok (.getfield 23, 3) := by decide +kernel
theorem d_T_unpack_116 : decode b_T_unpack 116 = .ok (.iload_n 2, 1) := by decide +kernel
theorem d_T_unpack_117 : decode b_T_unpack 117 = .ok (.iconst 2, 1) := by decide +kernel
theorem d_T_unpack_118 : decode b_T_unpack 118 = .ok (.iadd, 1) := by decide +kernel
theorem d_T_unpack_119 : decode b_T_unpack 119 = .ok (.iload 5, 2) := by decide +kernel
theorem d_T_unpack_121 : decode b_T_unpack 121 = .ok (.iadd, 1) := by decide +kernel
theorem d_T_unpack_122 : decode b_T_unpack 122 = .ok (.iaload, 1) := by decide +kernel
theorem d_T_unpack_123 : decode b_T_unpack 123 = .ok (.iastore, 1) := by decide +kernel
theorem d_T_unpack_124 : decode b_T_unpack 124 = .ok (.iinc 5 1, 3) := by decide +kernel
theorem d_T_unpack_127 : decode b_T_unpack 127 = .ok (.goto (-49), 3) := by decide +kernel
theorem d_T_unpack_130 : decode b_T_unpack 130 = .ok (.aload_n 0, 1) := by decide +kernel
theorem d_T_unpack_131 : decode b_T_unpack 131 = .ok (.getfield 29, 3) := by decide +kernel
theorem d_T_unpack_134 : decode b_T_unpack 134 = .ok (.aload_n 0, 1) := by decide +kernel
theorem d_T_unpack_135 : decode b_T_unpack 135 = .ok (.getfield 43, 3) := by decide +kernel
theorem d_T_unpack_138 : decode b_T_unpack 138 = .ok (.aload_n 0, 1) := by decide +kernel
theorem d_T_unpack_139 : decode b_T_unpack 139 = .ok (.getfield 23, 3) := by decide +kernel
theorem d_T_unpack_142 : decode b_T_unpack 142 = .ok (.iload_n 2, 1) := by decide +kernel
theorem d_T_unpack_143 : decode b_T_unpack 143 = .ok (.iaload, 1) := by decide +kernel
theorem d_T_unpack_144 : decode b_T_unpack 144 = .ok (.aload_n 0, 1) := by decide +kernel
theorem d_T_unpack_145 : decode b_T_unpack 145 = .ok (.getfield 23, 3) := by decide +kernel
theorem d_T_unpack_148 : decode b_T_unpack 148 = .ok (.iload_n 2, 1) := by decide +kernel
theorem d_T_unpack_149 : decode b_T_unpack 149 = .ok (.iconst 1, 1) := by decide +kernel
theorem d_T_unpack_150 : decode b_T_unpack 150 = .ok (.iadd, 1) := by decide +kernel
theorem d_T_unpack_151 : decode b_T_unpack 151 = .ok (.iaload, 1) := by decide +kernel
theorem d_T_unpack_152 : decode b_T_unpack 152 = .ok (.iadd, 1) := by decide +kernel
theorem d_T_unpack_153 : decode b_T_unpack 153 = .ok (.iastore, 1) := by decide +kernel
theorem d_T_unpack_154 : decode b_T_unpack 154 = .ok (.bipush 6, 2) := by decide +kernel
theorem d_T_unpack_156 : decode b_T_unpack 156 = .ok (.aload_n 0, 1) := by decide +kernel
theorem d_T_unpack_157 : decode b_T_unpack 157 = .ok (.getfield 43, 3) := by decide +kernel
theorem d_T_unpack_160 : decode b_T_unpack 160 = .ok (.imul, 1) := by decide +kernel
theorem d_T_unpack_161 : decode b_T_unpack 161 = .ok (.istore_n 3, 1) := by decide +kernel
theorem d_T_unpack_162 : decode b_T_unpack 162 = .ok (.aload_n 0, 1) := by decide +kernel
theorem d_T_unpack_163 : decode b_T_unpack 163 = .ok (.dup, 1) := by decide +kernel
theorem d_T_unpack_164 : decode b_T_unpack 164 = .ok (.getfield 43, 3) := by decide +kernel
theorem d_T_unpack_167 : decode b_T_unpack 167 = .ok (.iconst 1, 1) := by decide +kernel
theorem d_T_unpack_168 : decode b_T_unpack 168 = .ok (.iadd, 1) := by decide +kernel
theorem d_T_unpack_169 : decode b_T_unpack 169 = .ok (.putfield 43, 3) := by decide +kernel
theorem d_T_unpack_172 : decode b_T_unpack 172 = .ok (.iload_n 2, 1) := by decide +kernel
theorem d_T_unpack_173 : decode b_T_unpack 173 = .ok (.iconst 2, 1) := by decide +kernel
theorem d_T_unpack_174 : decode b_T_unpack 174 = .ok (.aload_n 0, 1) := by decide +kernel
theorem d_T_unpack_175 : decode b_T_unpack 175 = .ok (.getfield 23, 3) := by decide +kernel
theorem d_T_unpack_178 : decode b_T_unpack 178 = .ok (.iload_n 2, 1) := by decide +kernel
theorem d_T_unpack_179 : decode b_T_unpack 179 = .ok (.iconst 1, 1) := by decide +kernel
theorem d_T_unpack_180 : decode b_T_unpack 180 = .ok (.iadd, 1) := by decide +kernel
theorem d_T_unpack_181 : decode b_T_unpack 181 = .ok (.iaload, 1) := by decide +kernel
theorem d_T_unpack_182 : decode b_T_unpack 182 = .ok (.iadd, 1) := by decide +kernel
theorem d_T_unpack_183 : decode b_T_unpack 183 = .ok (.iadd, 1) := by decide +kernel
theorem d_T_unpack_184 : decode b_T_unpack 184 = .ok (.istore_n 2, 1) := by decide +kernel
theorem d_T_unpack_185 : decode b_T_unpack 185 = .ok (.iinc 4 1, 3) := by decide +kernel
theorem d_T_unpack_188 : decode b_T_unpack 188 = .ok (.goto (-173), 3) := by decide +kernel
theorem d_T_unpack_191 : decode b_T_unpack 191 = .ok (.return_, 1) := by decide +kernel
theorem d_T_putKeyInList_0 : decode b_T_putKeyInList 0 = .ok (.aload_n 0, 1) := by decide +kernel
theorem d_T_putKeyInList_1 : decode b_T_putKeyInList 1 = .ok (.getfield 43, 3) := by decide +kernel
theorem d_T_putKeyInList_4 : decode b_T_putKeyInList 4 = .ok (.istore_n 2, 1) := by decide +kernel
theorem d_T_putKeyInList_5 : decode b_T_putKeyInList 5 = .ok (.iload_n 2, 1) := by decide +kernel
theorem d_T_putKeyInList_6 : decode b_T_putKeyInList 6 = .ok (.iload_n 1, 1) := by decide +kernel
theorem d_T_putKeyInList_7 : decode b_T_putKeyInList 7 = .ok (.if_icmp .le 17, 3) := by decide +kernel
theorem d_T_putKeyInList_10 : decode b_T_putKeyInList 10 = .ok (.aload_n 0, 1) := by decide +kernel
theorem d_T_putKeyInList_11 : decode b_T_putKeyInList 11 = .ok (.iload_n 2, 1) := by decide +kernel
theorem d_T_putKeyInList_12 : decode b_T_putKeyInList 12 = .ok (.iconst 1, 1) := by decide +kernel
theorem d_T_putKeyInList_13 : decode b_T_putKeyInList 13 = .ok (.isub, 1) := by decide +kernel
theorem d_T_putKeyInList_14 : decode b_T_putKeyInList 14 = .ok (.iload_n 2, 1) := by decide +kernel
theorem d_T_putKeyInList_15 : decode b_T_putKeyInList 15 = .ok (.invokevirtual 105, 3) := by decide +kernel
theorem d_T_putKeyInList_18 : decode b_T_putKeyInList 18 = .ok (.iinc 2 (-1), 3) := by decide +kernel
theorem d_T_putKeyInList_21 : decode b_T_putKeyInList 21 = .ok (.goto (-16), 3) := by decide +kernel
theorem d_T_putKeyInList_24 : decode b_T_putKeyInList 24 = .ok (.iconst 0, 1) := by decide +kernel
theorem d_T_putKeyInList_25 : decode b_T_putKeyInList 25 = .ok (.istore_n 2, 1) := by decide +kernel
theorem d_T_putKeyInList_26 : decode b_T_putKeyInList 26 = .ok (.iload_n 2, 1) := by decide +kernel
theorem d_T_putKeyInList_27 : decode b_T_putKeyInList 27 = .ok (.aload_n 0, 1) := by decide +kernel
theorem d_T_putKeyInList_28 : decode b_T_putKeyInList 28 = .ok (.getfield 32, 3) := by decide +kernel
theorem d_T_putKeyInList_31 : decode b_T_putKeyInList 31 = .ok (.if_icmp .ge 26, 3) := by decide +kernel
theorem d_T_putKeyInList_34 : decode b_T_putKeyInList 34 = .ok (.aload_n 0, 1) := by decide +kernel
theorem d_T_putKeyInList_35 : decode b_T_putKeyInList 35 = .ok (.getfield 26, 3) := by decide +kernel
theorem d_T_putKeyInList_38 : decode b_T_putKeyInList 38 = .ok (.bipush 6, 2) := by decide +kernel
theorem d_T_putKeyInList_40 : decode b_T_putKeyInList 40 = .ok (.iload_n 1, 1) := by decide +kernel
theorem d_T_putKeyInList_41 : decode b_T_putKeyInList 41 = .ok (.imul, 1) := by decide +kernel
theorem d_T_putKeyInList_42 : decode b_T_putKeyInList 42 = .ok (.iload_n 2, 1) := by decide +kernel
theorem d_T_putKeyInList_43 : decode b_T_putKeyInList 43 = .ok (.iadd, 1) := by decide +kernel
theorem d_T_putKeyInList_44 : decode b_T_putKeyInList 44 = .ok (.aload_n 0, 1) := by decide +kernel
theorem d_T_putKeyInList_45 : decode b_T_putKeyInList 45 = .ok (.getfield 7, 3) := by decide +kernel
theorem d_T_putKeyInList_48 : decode b_T_putKeyInList 48 = .ok (.iload_n 2, 1) := by decide +kernel
theorem d_T_putKeyInList_49 : decode b_T_putKeyInList 49 = .ok (.iaload, 1) := by decide +kernel
theorem d_T_putKeyInList_50 : decode b_T_putKeyInList 50 = .ok (.iastore, 1) := by decide +kernel
theorem d_T_putKeyInList_51 : decode b_T_putKeyInList 51 = .ok (.iinc 2 1, 3) := by decide +kernel
theorem d_T_putKeyInList_54 : decode b_T_putKeyInList 54 = .ok (.goto (-28), 3) := by decide +kernel
theorem d_T_putKeyInList_57 : decode b_T_putKeyInList 57 = .ok (.aload_n 0, 1) := by decide +kernel
theorem d_T_putKeyInList_58 : decode b_T_putKeyInList 58 = .ok (.getfield 29, 3) := by decide +kernel
theorem d_T_putKeyInList_61 : decode b_T_putKeyInList 61 = .ok (.iload_n 1, 1) := by decide +kernel
theorem d_T_putKeyInList_62 : decode b_T_putKeyInList 62 = .ok (.aload_n 0, 1) := by decide +kernel
theorem d_T_putKeyInList_63 : decode b_T_putKeyInList 63 = .ok (.getfield 32, 3) := by decide +kernel
theorem d_T_putKeyInList_66 : decode b_T_putKeyInList 66 = .ok (.iastore, 1) := by decide +kernel
theorem d_T_putKeyInList_67 : decode b_T_putKeyInList 67 = .ok (.aload_n 0, 1) := by decide +kernel
theorem d_T_putKeyInList_68 : decode b_T_putKeyInList 68 = .ok (.dup, 1) := by decide +kernel
theorem d_T_putKeyInList_69 : decode b_T_putKeyInList 69 = .ok (.getfield 43, 3) := by decide +kernel
theorem d_T_putKeyInList_72 : decode b_T_putKeyInList 72 = .ok (.iconst 1, 1) := by decide +kernel
theorem d_T_putKeyInList_73 : decode b_T_putKeyInList 73 = .ok (.iadd, 1) := by decide +kernel
theorem d_T_putKeyInList_74 : decode b_T_putKeyInList 74 = .ok (.putfield 43, 3) := by decide +kernel
theorem d_T_putKeyInList_77 : decode b_T_putKeyInList 77 = .ok (.return_, 1) := by decide +kernel
theorem d_T_takeFromList_0 : decode b_T_takeFromList 0 = .ok (.iload_n 1, 1) := by decide +kernel
theorem d_T_takeFromList_1 : decode b_T_takeFromList 1 = .ok (.istore_n 2, 1) := by decide +kernel
theorem d_T_takeFromList_2 : decode b_T_takeFromList 2 = .ok (.iload_n 2, 1) := by decide +kernel
theorem d_T_takeFromList_3 : decode b_T_takeFromList 3 = .ok (.iconst 1, 1) := by decide +kernel
theorem d_T_takeFromList_4 : decode b_T_takeFromList 4 = .ok (.iadd, 1) := by decide +kernel
theorem d_T_takeFromList_5 : decode b_T_takeFromList 5 = .ok (.aload_n 0, 1) := by decide +kernel
theorem d_T_takeFromList_6 : decode b_T_takeFromList 6 = .ok (.getfield 43, 3) := by decide +kernel
theorem d_T_takeFromList_9 : decode b_T_takeFromList 9 = .ok (.if_icmp .ge 17, 3) := by decide +kernel
theorem d_T_takeFromList_12 : decode b_T_takeFromList 12 = .ok (.aload_n 0, 1) := by decide +kernel
theorem d_T_takeFromList_13 : decode b_T_takeFromList 13 = .ok (.iload_n 2, 1) := by decide +kernel
theorem d_T_takeFromList_14 : decode b_T_takeFromList 14 = .ok (.iconst 1, 1) := by decide +kernel
theorem d_T_takeFromList_15 : decode b_T_takeFromList 15 = .ok (.iadd, 1) := by decide +kernel
theorem d_T_takeFromList_16 : decode b_T_takeFromList 16 = .ok (.iload_n 2, 1) := by decide +kernel
theorem d_T_takeFromList_17 : decode b_T_takeFromList 17 = .ok (.invokevirtual 105, 3) := by decide +kernel
theorem d_T_takeFromList_20 : decode b_T_takeFromList 20 = .ok (.iinc 2 1, 3) := by decide +kernel
theorem d_T_takeFromList_23 : decode b_T_takeFromList 23 = .ok (.goto (-21), 3) := by decide +kernel
theorem d_T_takeFromList_26 : decode b_T_takeFromList 26 = .ok (.aload_n 0, 1) := by decide +kernel
theorem d_T_takeFromList_27 : decode b_T_takeFromList 27 = .ok (.dup, 1) := by decide +kernel
theorem d_T_takeFromList_28 : decode b_T_takeFromList 28 = .ok (.getfield 43, 3) := by decide +kernel
theorem d_T_takeFromList_31 : decode b_T_takeFromList 31 = .ok (.iconst 1, 1) := by decide +kernel
theorem d_T_takeFromList_32 : decode b_T_takeFromList 32 = .ok (.isub, 1) := by decide +kernel
end
section
theorem d_T_takeFromList_33 : decode b_T_takeFromList 33 = .ok (.putfield 43, 3) := by decide +kernel
theorem d_T_takeFromList_36 : decode b_T_takeFromList 36 = .ok (.return_, 1) := by decide +kernel
theorem d_T_copyInList_0 : decode b_T_copyInList 0 = .ok (.iconst 0, 1) := by decide +kernel
theorem d_T_copyInList_1 : decode b_T_copyInList 1 = .ok (.istore_n 3, 1) := by decide +kernel
theorem d_T_copyInList_2 : decode b_T_copyInList 2 = .ok (.iload_n 3, 1) := by decide +kernel
theorem d_T_copyInList_3 : decode b_T_copyInList 3 = .ok (.aload_n 0, 1) := by decide +kernel
theorem d_T_copyInList_4 : decode b_T_copyInList 4 = .ok (.getfield 29, 3) := by decide +kernel
theorem d_T_copyInList_7 : decode b_T_copyInList 7 = .ok (.iload_n 1, 1) := by decide +kernel
theorem d_T_copyInList_8 : decode b_T_copyInList 8 = .ok (.iaload, 1) := by decide +kernel
theorem d_T_copyInList_9 : decode b_T_copyInList 9 = .ok (.if_icmp .ge 31, 3) := by decide +kernel
theorem d_T_copyInList_12 : decode b_T_copyInList 12 = .ok (.aload_n 0, 1) := by decide +kernel
theorem d_T_copyInList_13 : decode b_T_copyInList 13 = .ok (.getfield 26, 3) := by decide +kernel
theorem d_T_copyInList_16 : decode b_T_copyInList 16 = .ok (.bipush 6, 2) := by decide +kernel
theorem d_T_copyInList_18 : decode b_T_copyInList 18 = .ok (.iload_n 2, 1) := by decide +kernel
theorem d_T_copyInList_19 : decode b_T_copyInList 19 = .ok (.imul, 1) := by decide +kernel
theorem d_T_copyInList_20 : decode b_T_copyInList 20 = .ok (.iload_n 3, 1) := by decide +kernel
theorem d_T_copyInList_21 : decode b_T_copyInList 21 = .ok (.iadd, 1) := by decide +kernel
theorem d_T_copyInList_22 : decode b_T_copyInList 22 = .ok (.aload_n 0, 1) := by decide +kernel
theorem d_T_copyInList_23 : decode b_T_copyInList 23 = .ok (.getfield 26, 3) := by decide +kernel
theorem d_T_copyInList_26 : decode b_T_copyInList 26 = .ok (.bipush 6, 2) := by decide +kernel
theorem d_T_copyInList_28 : decode b_T_copyInList 28 = .ok (.iload_n 1, 1) := by decide +kernel
theorem d_T_copyInList_29 : decode b_T_copyInList 29 = .ok (.imul, 1) := by decide +kernel
theorem d_T_copyInList_30 : decode b_T_copyInList 30 = .ok (.iload_n 3, 1) := by decide +kernel
theorem d_T_copyInList_31 : decode b_T_copyInList 31 = .ok (.iadd, 1) := by decide +kernel
theorem d_T_copyInList_32 : decode b_T_copyInList 32 = .ok (.iaload, 1) := by decide +kernel
theorem d_T_copyInList_33 : decode b_T_copyInList 33 = .ok (.iastore, 1) := by decide +kernel
theorem d_T_copyInList_34 : decode b_T_copyInList 34 = .ok (.iinc 3 1, 3) := by decide +kernel
theorem d_T_copyInList_37 : decode b_T_copyInList 37 = .ok (.goto (-35), 3) := by decide +kernel
theorem d_T_copyInList_40 : decode b_T_copyInList 40 = .ok (.aload_n 0, 1) := by decide +kernel
theorem d_T_copyInList_41 : decode b_T_copyInList 41 = .ok (.getfield 29, 3) := by decide +kernel
theorem d_T_copyInList_44 : decode b_T_copyInList 44 = .ok (.iload_n 2, 1) := by decide +kernel
theorem d_T_copyInList_45 : decode b_T_copyInList 45 = .ok (.aload_n 0, 1) := by decide +kernel
theorem d_T_copyInList_46 : decode b_T_copyInList 46 = .ok (.getfield 29, 3) := by decide +kernel
theorem d_T_copyInList_49 : decode b_T_copyInList 49 = .ok (.iload_n 1, 1) := by decide +kernel
theorem d_T_copyInList_50 : decode b_T_copyInList 50 = .ok (.iaload, 1) := by decide +kernel
theorem d_T_copyInList_51 : decode b_T_copyInList 51 = .ok (.iastore, 1) := by decide +kernel
theorem d_T_copyInList_52 : decode b_T_copyInList 52 = .ok (.return_, 1) := by decide +kernel
theorem d_T_storeList_0 : decode b_T_storeList 0 = .ok (.aload_n 0, 1) := by decide +kernel
theorem d_T_storeList_1 : decode b_T_storeList 1 = .ok (.getfield 43, 3) := by decide +kernel
theorem d_T_storeList_4 : decode b_T_storeList 4 = .ok (.ifCond .ne 7, 3) := by decide +kernel
theorem d_T_storeList_7 : decode b_T_storeList 7 = .ok (.iconst 0, 1) := by decide +kernel
theorem d_T_storeList_8 : decode b_T_storeList 8 = .ok (.goto 17, 3) := by decide +kernel
theorem d_T_storeList_11 : decode b_T_storeList 11 = .ok (.aload_n 0, 1) := by decide +kernel
theorem d_T_storeList_12 : decode b_T_storeList 12 = .ok (.getfield 43, 3) := by decide +kernel
theorem d_T_storeList_15 : decode b_T_storeList 15 = .ok (.bipush 6, 2) := by decide +kernel
theorem d_T_storeList_17 : decode b_T_storeList 17 = .ok (.if_icmp .gt 7, 3) := by decide +kernel
theorem d_T_storeList_20 : decode b_T_storeList 20 = .ok (.iconst 1, 1) := by decide +kernel
theorem d_T_storeList_21 : decode b_T_storeList 21 = .ok (.goto 4, 3) := by decide +kernel
theorem d_T_storeList_24 : decode b_T_storeList 24 = .ok (.iconst 2, 1) := by decide +kernel
theorem d_T_storeList_25 : decode b_T_storeList 25 = .ok (.istore_n 3, 1) := by decide +kernel
theorem d_T_storeList_26 : decode b_T_storeList 26 = .ok (.iload_n 2, 1) := by decide +kernel
theorem d_T_storeList_27 : decode b_T_storeList 27 = .ok (.iload_n 3, 1) := by decide +kernel
theorem d_T_storeList_28 : decode b_T_storeList 28 = .ok (.if_icmp .le 8, 3) := by decide +kernel
theorem d_T_storeList_31 : decode b_T_storeList 31 = .ok (.aload_n 0, 1) := by decide +kernel
theorem d_T_storeList_32 : decode b_T_storeList 32 = .ok (.iload_n 1, 1) := by decide +kernel
theorem d_T_storeList_33 : decode b_T_storeList 33 = .ok (.invokevirtual 108, 3) := by decide +kernel
theorem d_T_storeList_36 : decode b_T_storeList 36 = .ok (.iload_n 2, 1) := by decide +kernel
theorem d_T_storeList_37 : decode b_T_storeList 37 = .ok (.iconst 1, 1) := by decide +kernel
theorem d_T_storeList_38 : decode b_T_storeList 38 = .ok (.isub, 1) := by decide +kernel
theorem d_T_storeList_39 : decode b_T_storeList 39 = .ok (.iload_n 3, 1) := by decide +kernel
theorem d_T_storeList_40 : decode b_T_storeList 40 = .ok (.if_icmp .le 8, 3) := by decide +kernel
theorem d_T_storeList_43 : decode b_T_storeList 43 = .ok (.aload_n 0, 1) := by decide +kernel
theorem d_T_storeList_44 : decode b_T_storeList 44 = .ok (.iload_n 1, 1) := by decide +kernel
theorem d_T_storeList_45 : decode b_T_storeList 45 = .ok (.invokevirtual 108, 3) := by decide +kernel
theorem d_T_storeList_48 : decode b_T_storeList 48 = .ok (.iload_n 3, 1) := by decide +kernel
theorem d_T_storeList_49 : decode b_T_storeList 49 = .ok (.iload_n 2, 1) := by decide +kernel
theorem d_T_storeList_50 : decode b_T_storeList 50 = .ok (.if_icmp .le 10, 3) := by decide +kernel
theorem d_T_storeList_53 : decode b_T_storeList 53 = .ok (.aload_n 0, 1) := by decide +kernel
theorem d_T_storeList_54 : decode b_T_storeList 54 = .ok (.iload_n 1, 1) := by decide +kernel
theorem d_T_storeList_55 : decode b_T_storeList 55 = .ok (.iconst 1, 1) := by decide +kernel
theorem d_T_storeList_56 : decode b_T_storeList 56 = .ok (.iadd, 1) := by decide +kernel
theorem d_T_storeList_57 : decode b_T_storeList 57 = .ok (.invokevirtual 64, 3) := by decide +kernel
theorem d_T_storeList_60 : decode b_T_storeList 60 = .ok (.iload_n 3, 1) := by decide +kernel
theorem d_T_storeList_61 : decode b_T_storeList 61 = .ok (.iconst 1, 1) := by decide +kernel
theorem d_T_storeList_62 : decode b_T_storeList 62 = .ok (.if_icmp .ne 16, 3) := by decide +kernel
theorem d_T_storeList_65 : decode b_T_storeList 65 = .ok (.aload_n 0, 1) := by decide +kernel
theorem d_T_storeList_66 : decode b_T_storeList 66 = .ok (.iload_n 1, 1) := by decide +kernel
theorem d_T_storeList_67 : decode b_T_storeList 67 = .ok (.iconst 0, 1) := by decide +kernel
theorem d_T_storeList_68 : decode b_T_storeList 68 = .ok (.aload_n 0, 1) := by decide +kernel
theorem d_T_storeList_69 : decode b_T_storeList 69 = .ok (.getfield 43, 3) := by decide +kernel
theorem d_T_storeList_72 : decode b_T_storeList 72 = .ok (.invokevirtual 111, 3) := by decide +kernel
theorem d_T_storeList_75 : decode b_T_storeList 75 = .ok (.goto 39, 3) := by decide +kernel
theorem d_T_storeList_78 : decode b_T_storeList 78 = .ok (.iload_n 3, 1) := by decide +kernel
theorem d_T_storeList_79 : decode b_T_storeList 79 = .ok (.iconst 2, 1) := by decide +kernel
theorem d_T_storeList_80 : decode b_T_storeList 80 = .ok (.if_icmp .ne 34, 3) := by decide +kernel
theorem d_T_storeList_83 : decode b_T_storeList 83 = .ok (.aload_n 0, 1) := by decide +kernel
theorem d_T_storeList_84 : decode b_T_storeList 84 = .ok (.getfield 43, 3) := by decide +kernel
theorem d_T_storeList_87 : decode b_T_storeList 87 = .ok (.iconst 1, 1) := by decide +kernel
theorem d_T_storeList_88 : decode b_T_storeList 88 = .ok (.iadd, 1) := by decide +kernel
theorem d_T_storeList_89 : decode b_T_storeList 89 = .ok (.iconst 2, 1) := by decide +kernel
theorem d_T_storeList_90 : decode b_T_storeList 90 = .ok (.idiv, 1) := by decide +kernel
theorem d_T_storeList_91 : decode b_T_storeList 91 = .ok (.istore 4, 2) := by decide +kernel
theorem d_T_storeList_93 : decode b_T_storeList 93 = .ok (.aload_n 0, 1) := by decide +kernel
theorem d_T_storeList_94 : decode b_T_storeList 94 = .ok (.iload_n 1, 1) := by decide +kernel
theorem d_T_storeList_95 : decode b_T_storeList 95 = .ok (.iconst 0, 1) := by decide +kernel
theorem d_T_storeList_96 : decode b_T_storeList 96 = .ok (.iload 4, 2) := by decide +kernel
theorem d_T_storeList_98 : decode b_T_storeList 98 = .ok (.invokevirtual 111, 3) := by decide +kernel
theorem d_T_storeList_101 : decode b_T_storeList 101 = .ok (.aload_n 0, 1) := by decide +kernel
theorem d_T_storeList_102 : decode b_T_storeList 102 = .ok (.iload_n 1, 1) := by decide +kernel
theorem d_T_storeList_103 : decode b_T_storeList 103 = .ok (.iconst 1, 1) := by decide +kernel
theorem d_T_storeList_104 : decode b_T_storeList 104 = .ok (.iadd, 1) := by decide +kernel
theorem d_T_storeList_105 : decode b_T_storeList 105 = .ok (.iload 4, 2) := by decide +kernel
theorem d_T_storeList_107 : decode b_T_storeList 107 = .ok (.aload_n 0, 1) := by decide +kernel
theorem d_T_storeList_108 : decode b_T_storeList 108 = .ok (.getfield 43, 3) := by decide +kernel
theorem d_T_storeList_111 : decode b_T_storeList 111 = .ok (.invokevirtual 111, 3) := by decide +kernel
theorem d_T_storeList_114 : decode b_T_storeList 114 = .ok (.return_, 1) := by decide +kernel
theorem d_T_openBlock_0 : decode b_T_openBlock 0 = .ok (.iconst 0, 1) := by decide +kernel
theorem d_T_openBlock_1 : decode b_T_openBlock 1 = .ok (.istore_n 2, 1) := by decide +kernel
theorem d_T_openBlock_2 : decode b_T_openBlock 2 = .ok (.bipush 15, 2) := by decide +kernel
theorem d_T_openBlock_4 : decode b_T_openBlock 4 = .ok (.istore_n 3, 1) := by decide +kernel
theorem d_T_openBlock_5 : decode b_T_openBlock 5 = .ok (.iload_n 3, 1) := by decide +kernel
theorem d_T_openBlock_6 : decode b_T_openBlock 6 = .ok (.ifCond .lt 20, 3) := by decide +kernel
theorem d_T_openBlock_9 : decode b_T_openBlock 9 = .ok (.aload_n 0, 1) := by decide +kernel
theorem d_T_openBlock_10 : decode b_T_openBlock 10 = .ok (.getfield 16, 3) := by decide +kernel
theorem d_T_openBlock_13 : decode b_T_openBlock 13 = .ok (.iload_n 3, 1) := by decide +kernel
theorem d_T_openBlock_14 : decode b_T_openBlock 14 = .ok (.baload, 1) := by decide +kernel
theorem d_T_openBlock_15 : decode b_T_openBlock 15 = .ok (.ifCond .ne 5, 3) := by decide +kernel
theorem d_T_openBlock_18 : decode b_T_openBlock 18 = .ok (.iload_n 3, 1) := by decide +kernel
theorem d_T_openBlock_19 : decode b_T_openBlock 19 = .ok (.istore_n 2, 1) := by decide +kernel
theorem d_T_openBlock_20 : decode b_T_openBlock 20 = .ok (.iinc 3 (-1), 3) := by decide +kernel
theorem d_T_openBlock_23 : decode b_T_openBlock 23 = .ok (.goto (-18), 3) := by decide +kernel
theorem d_T_openBlock_26 : decode b_T_openBlock 26 = .ok (.aload_n 0, 1) := by decide +kernel
theorem d_T_openBlock_27 : decode b_T_openBlock 27 = .ok (.getfield 16, 3) := by decide +kernel
theorem d_T_openBlock_30 : decode b_T_openBlock 30 = .ok (.iload_n 2, 1) := by decide +kernel
theorem d_T_openBlock_31 : decode b_T_openBlock 31 = .ok (.iconst 1, 1) := by decide +kernel
theorem d_T_openBlock_32 : decode b_T_openBlock 32 = .ok (.bastore, 1) := by decide +kernel
theorem d_T_openBlock_33 : decode b_T_openBlock 33 = .ok (.aload_n 0, 1) := by decide +kernel
theorem d_T_openBlock_34 : decode b_T_openBlock 34 = .ok (.getfield 20, 3) := by decide +kernel
theorem d_T_openBlock_37 : decode b_T_openBlock 37 = .ok (.iload_n 2, 1) := by decide +kernel
theorem d_T_openBlock_38 : decode b_T_openBlock 38 = .ok (.iconst 0, 1) := by decide +kernel
theorem d_T_openBlock_39 : decode b_T_openBlock 39 = .ok (.iastore, 1) := by decide +kernel
theorem d_T_openBlock_40 : decode b_T_openBlock 40 = .ok (.aload_n 0, 1) := by decide +kernel
theorem d_T_openBlock_41 : decode b_T_openBlock 41 = .ok (.getfield 61, 3) := by decide +kernel
theorem d_T_openBlock_44 : decode b_T_openBlock 44 = .ok (.istore_n 3, 1) := by decide +kernel
theorem d_T_openBlock_45 : decode b_T_openBlock 45 = .ok (.iload_n 3, 1) := by decide +kernel
theorem d_T_openBlock_46 : decode b_T_openBlock 46 = .ok (.iload_n 1, 1) := by decide +kernel
theorem d_T_openBlock_47 : decode b_T_openBlock 47 = .ok (.if_icmp .le 23, 3) := by decide +kernel
theorem d_T_openBlock_50 : decode b_T_openBlock 50 = .ok (.aload_n 0, 1) := by decide +kernel
theorem d_T_openBlock_51 : decode b_T_openBlock 51 = .ok (.getfield 13, 3) := by decide +kernel
theorem d_T_openBlock_54 : decode b_T_openBlock 54 = .ok (.iload_n 3, 1) := by decide +kernel
theorem d_T_openBlock_55 : decode b_T_openBlock 55 = .ok (.aload_n 0, 1) := by decide +kernel
theorem d_T_openBlock_56 : decode b_T_openBlock 56 = .ok (.getfield 13, 3) := by decide +kernel
theorem d_T_openBlock_59 : decode b_T_openBlock 59 = .ok (.iload_n 3, 1) := by decide +kernel
theorem d_T_openBlock_60 : decode b_T_openBlock 60 = .ok (.iconst 1, 1) := by decide +kernel
theorem d_T_openBlock_61 : decode b_T_openBlock 61 = .ok (.isub, 1) := by decide +kernel
theorem d_T_openBlock_62 : decode b_T_openBlock 62 = .ok (.iaload, 1) := by decide +kernel
theorem d_T_openBlock_63 : decode b_T_openBlock 63 = .ok (.iastore, 1) := by decide +kernel
theorem d_T_openBlock_64 : decode b_T_openBlock 64 = .ok (.iinc 3 (-1), 3) := by decide +kernel
theorem d_T_openBlock_67 : decode b_T_openBlock 67 = .ok (.goto (-22), 3) := by decide +kernel
theorem d_T_openBlock_70 : decode b_T_openBlock 70 = .ok (.aload_n 0, 1) := by decide +kernel
theorem d_T_openBlock_71 : decode b_T_openBlock 71 = .ok (.getfield 13, 3) := by decide +kernel
theorem d_T_openBlock_74 : decode b_T_openBlock 74 = .ok (.iload_n 1, 1) := by decide +kernel
theorem d_T_openBlock_75 : decode b_T_openBlock 75 = .ok (.iload_n 2, 1) := by decide +kernel
theorem d_T_openBlock_76 : decode b_T_openBlock 76 = .ok (.iastore, 1) := by decide +kernel
theorem d_T_openBlock_77 : decode b_T_openBlock 77 = .ok (.aload_n 0, 1) := by decide +kernel
theorem d_T_openBlock_78 : decode b_T_openBlock 78 = .ok (.dup, 1) := by decide +kernel
theorem d_T_openBlock_79 : decode b_T_openBlock 79 = .ok (.getfield 61, 3) := by decide +kernel
theorem d_T_openBlock_82 : decode b_T_openBlock 82 = .ok (.iconst 1, 1) := by decide +kernel
theorem d_T_openBlock_83 : decode b_T_openBlock 83 = .ok (.iadd, 1) := by decide +kernel
theorem d_T_openBlock_84 : decode b_T_openBlock 84 = .ok (.putfield 61, 3) := by decide +kernel
theorem d_T_openBlock_87 : decode b_T_openBlock 87 = .ok (.return_, 1) := by decide +kernel
theorem d_T_closeBlock_0 : decode b_T_closeBlock 0 = .ok (.aload_n 0, 1) := by decide +kernel
theorem d_T_closeBlock_1 : decode b_T_closeBlock 1 = .ok (.getfield 16, 3) := by decide +kernel
theorem d_T_closeBlock_4 : decode b_T_closeBlock 4 = .ok (.aload_n 0, 1) := by decide +kernel
theorem d_T_closeBlock_5 : decode b_T_closeBlock 5 = .ok (.getfield 13, 3) := by decide +kernel
theorem d_T_closeBlock_8 : decode b_T_closeBlock 8 = .ok (.iload_n 1, 1) := by decide +kernel
theorem d_T_closeBlock_9 : decode b_T_closeBlock 9 = .ok (.iaload, 1) := by decide +kernel
theorem d_T_closeBlock_10 : decode b_T_closeBlock 10 = .ok (.iconst 0, 1) := by decide +kernel
theorem d_T_closeBlock_11 : decode b_T_closeBlock 11 = .ok (.bastore, 1) := by decide +kernel
theorem d_T_closeBlock_12 : decode b_T_closeBlock 12 = .ok (.iload_n 1, 1) := by decide +kernel
theorem d_T_closeBlock_13 : decode b_T_closeBlock 13 = .ok (.istore_n 2, 1) := by decide +kernel
theorem d_T_closeBlock_14 : decode b_T_closeBlock 14 = .ok (.iload_n 2, 1) := by decide +kernel
theorem d_T_closeBlock_15 : decode b_T_closeBlock 15 = .ok (.iconst 1, 1) := by decide +kernel
theorem d_T_closeBlock_16 : decode b_T_closeBlock 16 = .ok (.iadd, 1) := by decide +kernel
theorem d_T_closeBlock_17 : decode b_T_closeBlock 17 = .ok (.aload_n 0, 1) := by decide +kernel
theorem d_T_closeBlock_18 : decode b_T_closeBlock 18 = .ok (.getfield 61, 3) := by decide +kernel
theorem d_T_closeBlock_21 : decode b_T_closeBlock 21 = .ok (.if_icmp .ge 23, 3) := by decide +kernel
theorem d_T_closeBlock_24 : decode b_T_closeBlock 24 = .ok (.aload_n 0, 1) := by decide +kernel
theorem d_T_closeBlock_25 : decode b_T_closeBlock 25 = .ok (.getfield 13, 3) := by decide +kernel
theorem d_T_closeBlock_28 : decode b_T_closeBlock 28 = .ok (.iload_n 2, 1) := by decide +kernel
theorem d_T_closeBlock_29 : decode b_T_closeBlock 29 = .ok (.aload_n 0, 1) := by decide +kernel
theorem d_T_closeBlock_30 : decode b_T_closeBlock 30 = .ok (.getfield 13, 3) := by decide +kernel
theorem d_T_closeBlock_33 : decode b_T_closeBlock 33 = .ok (.iload_n 2, 1) := by decide +kernel
theorem d_T_closeBlock_34 : decode b_T_closeBlock 34 = .ok (.iconst 1, 1) := by decide +kernel
theorem d_T_closeBlock_35 : decode b_T_closeBlock 35 = .ok (.iadd, 1) := by decide +kernel
theorem d_T_closeBlock_36 : decode b_T_closeBlock 36 = .ok (.iaload, 1) := by decide +kernel
theorem d_T_closeBlock_37 : decode b_T_closeBlock 37 = .ok (.iastore, 1) := by decide +kernel
theorem d_T_closeBlock_38 : decode b_T_closeBlock 38 = .ok (.iinc 2 1, 3) := by decide +kernel
theorem d_T_closeBlock_41 : decode b_T_closeBlock 41 = .ok (.goto (-27), 3) := by decide +kernel
theorem d_T_closeBlock_44 : decode b_T_closeBlock 44 = .ok (.aload_n 0, 1) := by decide +kernel
theorem d_T_closeBlock_45 : decode b_T_closeBlock 45 = .ok (.dup, 1) := by decide +kernel
theorem d_T_closeBlock_46 : decode b_T_closeBlock 46 = .ok (.getfield 61, 3) := by decide +kernel
theorem d_T_closeBlock_49 : decode b_T_closeBlock 49 = .ok (.iconst 1, 1) := by decide +kernel
theorem d_T_closeBlock_50 : decode b_T_closeBlock 50 = .ok (.isub, 1) := by decide +kernel
theorem d_T_closeBlock_51 : decode b_T_closeBlock 51 = .ok (.putfield 61, 3) := by decide +kernel
theorem d_T_closeBlock_54 : decode b_T_closeBlock 54 = .ok (.return_, 1) := by decide +kernel
theorem d_T_pack_0 : decode b_T_pack 0 = .ok (.aload_n 0, 1) := by decide +kernel
theorem d_T_pack_1 : decode b_T_pack 1 = .ok (.getfield 13, 3) := by decide +kernel
theorem d_T_pack_4 : decode b_T_pack 4 = .ok (.iload_n 1, 1) := by decide +kernel
theorem d_T_pack_5 : decode b_T_pack 5 = .ok (.iaload, 1) := by decide +kernel
theorem d_T_pack_6 : decode b_T_pack 6 = .ok (.istore 4, 2) := by decide +kernel
theorem d_T_pack_8 : decode b_T_pack 8 = .ok (.bipush 48, 2) := by decide +kernel
theorem d_T_pack_10 : decode b_T_pack 10 = .ok (.iload 4, 2) := by decide +kernel
theorem d_T_pack_12 : decode b_T_pack 12 = .ok (.imul, 1) := by decide +kernel
theorem d_T_pack_13 : decode b_T_pack 13 = .ok (.istore 5, 2) := by decide +kernel
theorem d_T_pack_15 : decode b_T_pack 15 = .ok (.iload_n 2, 1) := by decide +kernel
theorem d_T_pack_16 : decode b_T_pack 16 = .ok (.istore 6, 2) := by decide +kernel
theorem d_T_pack_18 : decode b_T_pack 18 = .ok (.iload 6, 2) := by decide +kernel
theorem d_T_pack_20 : decode b_T_pack 20 = .ok (.iload_n 3, 1) := by decide +kernel
theorem d_T_pack_21 : decode b_T_pack 21 = .ok (.if_icmp .ge 126, 3) := by decide +kernel
theorem d_T_pack_24 : decode b_T_pack 24 = .ok (.iload 6, 2) := by decide +kernel
theorem d_T_pack_26 : decode b_T_pack 26 = .ok (.iload_n 2, 1) := by decide +kernel
theorem d_T_pack_27 : decode b_T_pack 27 = .ok (.if_icmp .ne 7, 3) := by decide +kernel
theorem d_T_pack_30 : decode b_T_pack 30 = .ok (.iconst 0, 1) := by decide +kernel
theorem d_T_pack_31 : decode b_T_pack 31 = .ok (.goto 13, 3) := by decide +kernel
theorem d_T_pack_34 : decode b_T_pack 34 = .ok (.aload_n 0, 1) := by decide +kernel
theorem d_T_pack_35 : decode b_T_pack 35 = .ok (.iload 6, 2) := by decide +kernel
theorem d_T_pack_37 : decode b_T_pack 37 = .ok (.iconst 1, 1) := by decide +kernel
theorem d_T_pack_38 : decode b_T_pack 38 = .ok (.isub, 1) := by decide +kernel
theorem d_T_pack_39 : decode b_T_pack 39 = .ok (.iload 6, 2) := by decide +kernel
theorem d_T_pack_41 : decode b_T_pack 41 = .ok (.invokevirtual 115, 3) := by decide +kernel
theorem d_T_pack_44 : decode b_T_pack 44 = .ok (.istore 7, 2) := by decide +kernel
theorem d_T_pack_46 : decode b_T_pack 46 = .ok (.aload_n 0, 1) := by decide +kernel
theorem d_T_pack_47 : decode b_T_pack 47 = .ok (.getfield 23, 3) := by decide +kernel
theorem d_T_pack_50 : decode b_T_pack 50 = .ok (.iload 5, 2) := by decide +kernel
theorem d_T_pack_52 : decode b_T_pack 52 = .ok (.iload 7, 2) := by decide +kernel
theorem d_T_pack_54 : decode b_T_pack 54 = .ok (.iastore, 1) := by decide +kernel
theorem d_T_pack_55 : decode b_T_pack 55 = .ok (.aload_n 0, 1) := by decide +kernel
theorem d_T_pack_56 : decode b_T_pack 56 = .ok (.getfield 23, 3) := by decide +kernel
theorem d_T_pack_59 : decode b_T_pack 59 = .ok (.iload 5, 2) := by decide +kernel
theorem d_T_pack_61 : decode b_T_pack 61 = .ok (.iconst 1, 1) := by decide +kernel
theorem d_T_pack_62 : decode b_T_pack 62 = .ok (.iadd, 1) := by decide +kernel
theorem d_T_pack_63 : decode b_T_pack 63 = .ok (.aload_n 0, 1) := by decide +kernel
theorem d_T_pack_64 : decode b_T_pack 64 = .ok (.getfield 29, 3) := by decide +kernel
theorem d_T_pack_67 : decode b_T_pack 67 = .ok (.iload 6, 2) := by decide +kernel
theorem d_T_pack_69 : decode b_T_pack 69 = .ok (.iaload, 1) := by decide +kernel
theorem d_T_pack_70 : decode b_T_pack 70 = .ok (.iload 7, 2) := by decide +kernel
theorem d_T_pack_72 : decode b_T_pack 72 = .ok (.isub, 1) := by decide +kernel
theorem d_T_pack_73 : decode b_T_pack 73 = .ok (.iastore, 1) := by decide +kernel
theorem d_T_pack_74 : decode b_T_pack 74 = .ok (.iload 7, 2) := by decide +kernel
theorem d_T_pack_76 : decode b_T_pack 76 = .ok (.istore 8, 2) := by decide +kernel
theorem d_T_pack_78 : decode b_T_pack 78 = .ok (.iload 8, 2) := by decide +kernel
theorem d_T_pack_80 : decode b_T_pack 80 = .ok (.aload_n 0, 1) := by decide +kernel
theorem d_T_pack_81 : decode b_T_pack 81 = .ok (.getfield 29, 3) := by decide +kernel
theorem d_T_pack_84 : decode b_T_pack 84 = .ok (.iload 6, 2) := by decide +kernel
theorem d_T_pack_86 : decode b_T_pack 86 = .ok (.iaload, 1) := by decide +kernel
theorem d_T_pack_87 : decode b_T_pack 87 = .ok (.if_icmp .ge 37, 3) := by decide +kernel
theorem d_T_pack_90 : decode b_T_pack 90 = .ok (.aload_n 0, 1) := by decide +kernel
theorem d_T_pack_91 : decode b_T_pack 91 = .ok (.getfield 23, 3) := by decide +kernel
theorem d_T_pack_94 : decode b_T_pack 94 = .ok (.iload 5, 2) := by decide +kernel
theorem d_T_pack_96 : decode b_T_pack 96 = .ok (.iconst 2, 1) := by decide +kernel
theorem d_T_pack_97 : decode b_T_pack 97 = .ok (.iadd, 1) := by decide +kernel
theorem d_T_pack_98 : decode b_T_pack 98 = .ok (.iload 8, 2) := by decide +kernel
theorem d_T_pack_100 : decode b_T_pack 100 = .ok (.iadd, 1) := by decide +kernel
theorem d_T_pack_101 : decode b_T_pack 101 = .ok (.iload 7, 2) := by decide +kernel
theorem d_T_pack_103 : decode b_T_pack 103 = .ok (.isub, 1) := by decide +kernel
theorem d_T_pack_104 : decode b_T_pack 104 = .ok (.aload_n 0, 1) := by decide +kernel
theorem d_T_pack_105 : decode b_T_pack 105 = .ok (.getfield 26, 3) := by decide +kernel
theorem d_T_pack_108 : decode b_T_pack 108 = .ok (.bipush 6, 2) := by decide +kernel
theorem d_T_pack_110 : decode b_T_pack 110 = .ok (.iload 6, 2) := by decide +kernel
theorem d_T_pack_112 : decode b_T_pack 112 = .ok (.imul, 1) := by decide +kernel
theorem d_T_pack_113 : decode b_T_pack 113 = .ok (.iload 8, 2) := by decide +kernel
theorem d_T_pack_115 : decode b_T_pack 115 = .ok (.iadd, 1) := by decide +kernel
theorem d_T_pack_116 : decode b_T_pack 116 = .ok (.iaload, 1) := by decide +kernel
theorem d_T_pack_117 : decode b_T_pack 117 = .ok (.iastore, 1) := by decide +kernel
theorem d_T_pack_118 : decode b_T_pack 118 = .ok (.iinc 8 1, 3) := by decide +kernel
theorem d_T_pack_121 : decode b_T_pack 121 = .ok (.goto (-43), 3) := by decide +kernel
theorem d_T_pack_124 : decode b_T_pack 124 = .ok (.iload 5, 2) := by decide +kernel
theorem d_T_pack_126 : decode b_T_pack 126 = .ok (.iconst 2, 1) := by decide +kernel
theorem d_T_pack_127 : decode b_T_pack 127 = .ok (.aload_n 0, 1) := by decide +kernel
theorem d_T_pack_128 : decode b_T_pack 128 = .ok (.getfield 29, 3) := by decide +kernel
theorem d_T_pack_131 : decode b_T_pack 131 = .ok (.iload 6, 2) := by decide +kernel
theorem d_T_pack_133 : decode b_T_pack 133 = .ok (.iaload, 1) := by decide +kernel
theorem d_T_pack_134 : decode b_T_pack 134 = .ok (.iadd, 1) := by decide +kernel
theorem d_T_pack_135 : decode b_T_pack 135 = .ok (.iload 7, 2) := by decide +kernel
theorem d_T_pack_137 : decode b_T_pack 137 = .ok (.isub, 1) := by decide +kernel
theorem d_T_pack_138 : decode b_T_pack 138 = .ok (.iadd, 1) := by decide +kernel
theorem d_T_pack_139 : decode b_T_pack 139 = .ok (.istore 5, 2) := by decide +kernel
theorem d_T_pack_141 : decode b_T_pack 141 = .ok (.iinc 6 1, 3) := by decide +kernel
theorem d_T_pack_144 : decode b_T_pack 144 = .ok (.goto (-126), 3) := by decide +kernel
theorem d_T_pack_147 : decode b_T_pack 147 = .ok (.aload_n 0, 1) := by decide +kernel
theorem d_T_pack_148 : decode b_T_pack 148 = .ok (.getfield 20, 3) := by decide +kernel
theorem d_T_pack_151 : decode b_T_pack 151 = .ok (.iload 4, 2) := by decide +kernel
theorem d_T_pack_153 : decode b_T_pack 153 = .ok (.iload_n 3, 1) := by decide +kernel
theorem d_T_pack_154 : decode b_T_pack 154 = .ok (.iload_n 2, 1) := by decide +kernel
theorem d_T_pack_155 : decode b_T_pack 155 = .ok (.isub, 1) := by decide +kernel
theorem d_T_pack_156 : decode b_T_pack 156 = .ok (.iastore, 1) := by decide +kernel
theorem d_T_pack_157 : decode b_T_pack 157 = .ok (.return_, 1) := by decide +kernel
theorem d_T_sharedInList_0 : decode b_T_sharedInList 0 = .ok (.iconst 0, 1) := by decide +kernel
theorem d_T_sharedInList_1 : decode b_T_sharedInList 1 = .ok (.istore_n 3, 1) := by decide +kernel
theorem d_T_sharedInList_2 : decode b_T_sharedInList 2 = .ok (.iload_n 3, 1) := by decide +kernel
theorem d_T_sharedInList_3 : decode b_T_sharedInList 3 = .ok (.aload_n 0, 1) := by decide +kernel
theorem d_T_sharedInList_4 : decode b_T_sharedInList 4 = .ok (.getfield 29, 3) := by decide +kernel
theorem d_T_sharedInList_7 : decode b_T_sharedInList 7 = .ok (.iload_n 1, 1) := by decide +kernel
theorem d_T_sharedInList_8 : decode b_T_sharedInList 8 = .ok (.iaload, 1) := by decide +kernel
theorem d_T_sharedInList_9 : decode b_T_sharedInList 9 = .ok (.if_icmp .ge 44, 3) := by decide +kernel
theorem d_T_sharedInList_12 : decode b_T_sharedInList 12 = .ok (.iload_n 3, 1) := by decide +kernel
theorem d_T_sharedInList_13 : decode b_T_sharedInList 13 = .ok (.aload_n 0, 1) := by decide +kernel
theorem d_T_sharedInList_14 : decode b_T_sharedInList 14 = .ok (.getfield 29, 3) := by decide +kernel
theorem d_T_sharedInList_17 : decode b_T_sharedInList 17 = .ok (.iload_n 2, 1) := by decide +kernel
theorem d_T_sharedInList_18 : decode b_T_sharedInList 18 = .ok (.iaload, 1) := by decide +kernel
theorem d_T_sharedInList_19 : decode b_T_sharedInList 19 = .ok (.if_icmp .ge 34, 3) := by decide +kernel
theorem d_T_sharedInList_22 : decode b_T_sharedInList 22 = .ok (.aload_n 0, 1) := by decide +kernel
theorem d_T_sharedInList_23 : decode b_T_sharedInList 23 = .ok (.getfield 26, 3) := by decide +kernel
theorem d_T_sharedInList_26 : decode b_T_sharedInList 26 = .ok (.bipush 6, 2) := by decide +kernel
theorem d_T_sharedInList_28 : decode b_T_sharedInList 28 = .ok (.iload_n 1, 1) := by decide +kernel
theorem d_T_sharedInList_29 : decode b_T_sharedInList 29 = .ok (.imul, 1) := by decide +kernel
theorem d_T_sharedInList_30 : decode b_T_sharedInList 30 = .ok (.iload_n 3, 1) := by decide +kernel
theorem d_T_sharedInList_31 : decode b_T_sharedInList 31 = .ok (.iadd, 1) := by decide +kernel
theorem d_T_sharedInList_32 : decode b_T_sharedInList 32 = .ok (.iaload, 1) := by decide +kernel
theorem d_T_sharedInList_33 : decode b_T_sharedInList 33 = .ok (.aload_n 0, 1) := by decide +kernel
theorem d_T_sharedInList_34 : decode b_T_sharedInList 34 = .ok (.getfield 26, 3) := by decide +kernel
theorem d_T_sharedInList_37 : decode b_T_sharedInList 37 = .ok (.bipush 6, 2) := by decide +kernel
theorem d_T_sharedInList_39 : decode b_T_sharedInList 39 = .ok (.iload_n 2, 1) := by decide +kernel
theorem d_T_sharedInList_40 : decode b_T_sharedInList 40 = .ok (.imul, 1) := by decide +kernel
theorem d_T_sharedInList_41 : decode b_T_sharedInList 41 = .ok (.iload_n 3, 1) := by decide +kernel
theorem d_T_sharedInList_42 : decode b_T_sharedInList 42 = .ok (.iadd, 1) := by decide +kernel
theorem d_T_sharedInList_43 : decode b_T_sharedInList 43 = .ok (.iaload, 1) := by decide +kernel
theorem d_T_sharedInList_44 : decode b_T_sharedInList 44 = .ok (.if_icmp .ne 9, 3) := by decide +kernel
theorem d_T_sharedInList_47 : decode b_T_sharedInList 47 = .ok (.iinc 3 1, 3) := by decide +kernel
theorem d_T_sharedInList_50 : decode b_T_sharedInList 50 = .ok (.goto (-48), 3) := by decide +kernel
theorem d_T_sharedInList_53 : decode b_T_sharedInList 53 = .ok (.iload_n 3, 1) := by decide +kernel
theorem d_T_sharedInList_54 : decode b_T_sharedInList 54 = .ok (.ireturn, 1) := by decide +kernel
theorem d_M_init_0 : decode b_M_init 0 = .ok (.aload_n 0, 1) := by decide +kernel
theorem d_M_init_1 : decode b_M_init 1 = .ok (.invokespecial 1, 3) := by decide +kernel
theorem d_M_init_4 : decode b_M_init 4 = .ok (.aload_n 0, 1) := by decide +kernel
theorem d_M_init_5 : decode b_M_init 5 = .ok (.sipush 240, 3) := by decide +kernel
theorem d_M_init_8 : decode b_M_init 8 = .ok (.newarray .int, 2) := by decide +kernel
theorem d_M_init_10 : decode b_M_init 10 = .ok (.putfield 7, 3) := by decide +kernel
theorem d_M_init_13 : decode b_M_init 13 = .ok (.aload_n 0, 1) := by decide +kernel
theorem d_M_init_14 : decode b_M_init 14 = .ok (.bipush 40, 2) := by decide +kernel
theorem d_M_init_16 : decode b_M_init 16 = .ok (.newarray .int, 2) := by decide +kernel
theorem d_M_init_18 : decode b_M_init 18 = .ok (.putfield 13, 3) := by decide +kernel
theorem d_M_init_21 : decode b_M_init 21 = .ok (.aload_n 0, 1) := by decide +kernel
theorem d_M_init_22 : decode b_M_init 22 = .ok (.bipush 6, 2) := by decide +kernel
theorem d_M_init_24 : decode b_M_init 24 = .ok (.newarray .int, 2) := by decide +kernel
theorem d_M_init_26 : decode b_M_init 26 = .ok (.putfield 16, 3) := by decide +kernel
theorem d_M_init_29 : decode b_M_init 29 = .ok (.return_, 1) := by decide +kernel
theorem d_M_type_0 : decode b_M_type 0 = .ok (.iload_n 1, 1) := by decide +kernel
theorem d_M_type_1 : decode b_M_type 1 = .ok (.ifCond .lt 18, 3) := by decide +kernel
theorem d_M_type_4 : decode b_M_type 4 = .ok (.iload_n 1, 1) := by decide +kernel
theorem d_M_type_5 : decode b_M_type 5 = .ok (.bipush 9, 2) := by decide +kernel
theorem d_M_type_7 : decode b_M_type 7 = .ok (.if_icmp .gt 12, 3) := by decide +kernel
theorem d_M_type_10 : decode b_M_type 10 = .ok (.aload_n 0, 1) := by decide +kernel
theorem d_M_type_11 : decode b_M_type 11 = .ok (.getfield 19, 3) := by decide +kernel
theorem d_M_type_14 : decode b_M_type 14 = .ok (.bipush 6, 2) := by decide +kernel
theorem d_M_type_16 : decode b_M_type 16 = .ok (.if_icmp .ne 5, 3) := by decide +kernel
theorem d_M_type_19 : decode b_M_type 19 = .ok (.iconst (-1), 1) := by decide +kernel
theorem d_M_type_20 : decode b_M_type 20 = .ok (.ireturn, 1) := by decide +kernel
theorem d_M_type_21 : decode b_M_type 21 = .ok (.aload_n 0, 1) := by decide +kernel
theorem d_M_type_22 : decode b_M_type 22 = .ok (.getfield 16, 3) := by decide +kernel
theorem d_M_type_25 : decode b_M_type 25 = .ok (.aload_n 0, 1) := by decide +kernel
theorem d_M_type_26 : decode b_M_type 26 = .ok (.getfield 19, 3) := by decide +kernel
theorem d_M_type_29 : decode b_M_type 29 = .ok (.iload_n 1, 1) := by decide +kernel
theorem d_M_type_30 : decode b_M_type 30 = .ok (.iastore, 1) := by decide +kernel
theorem d_M_type_31 : decode b_M_type 31 = .ok (.aload_n 0, 1) := by decide +kernel
theorem d_M_type_32 : decode b_M_type 32 = .ok (.dup, 1) := by decide +kernel
theorem d_M_type_33 : decode b_M_type 33 = .ok (.getfield 19, 3) := by decide +kernel
theorem d_M_type_36 : decode b_M_type 36 = .ok (.iconst 1, 1) := by decide +kernel
theorem d_M_type_37 : decode b_M_type 37 = .ok (.iadd, 1) := by decide +kernel
theorem d_M_type_38 : decode b_M_type 38 = .ok (.putfield 19, 3) := by decide +kernel
theorem d_M_type_41 : decode b_M_type 41 = .ok (.aload_n 0, 1) := by decide +kernel
theorem d_M_type_42 : decode b_M_type 42 = .ok (.getfield 19, 3) := by decide +kernel
theorem d_M_type_45 : decode b_M_type 45 = .ok (.ireturn, 1) := by decide +kernel
theorem d_M_back_0 : decode b_M_back 0 = .ok (.aload_n 0, 1) := by decide +kernel
theorem d_M_back_1 : decode b_M_back 1 = .ok (.getfield 19, 3) := by decide +kernel
theorem d_M_back_4 : decode b_M_back 4 = .ok (.ifCond .ne 5, 3) := by decide +kernel
theorem d_M_back_7 : decode b_M_back 7 = .ok (.iconst (-1), 1) := by decide +kernel
theorem d_M_back_8 : decode b_M_back 8 = .ok (.ireturn, 1) := by decide +kernel
theorem d_M_back_9 : decode b_M_back 9 = .ok (.aload_n 0, 1) := by decide +kernel
theorem d_M_back_10 : decode b_M_back 10 = .ok (.dup, 1) := by decide +kernel
theorem d_M_back_11 : decode b_M_back 11 = .ok (.getfield 19, 3) := by decide +kernel
theorem d_M_back_14 : decode b_M_back 14 = .ok (.iconst 1, 1) := by decide +kernel
theorem d_M_back_15 : decode b_M_back 15 = .ok (.isub, 1) := by decide +kernel
theorem d_M_back_16 : decode b_M_back 16 = .ok (.putfield 19, 3) := by decide +kernel
theorem d_M_back_19 : decode b_M_back 19 = .ok (.aload_n 0, 1) := by decide +kernel
theorem d_M_back_20 : decode b_M_back 20 = .ok (.getfield 16, 3) := by decide +kernel
theorem d_M_back_23 : decode b_M_back 23 = .ok (.aload_n 0, 1) := by decide +kernel
theorem d_M_back_24 : decode b_M_back 24 = .ok (.getfield 19, 3) := by decide +kernel
theorem d_M_back_27 : decode b_M_back 27 = .ok (.iaload, 1) := by decide +kernel
theorem d_M_back_28 : decode b_M_back 28 = .ok (.ireturn, 1) := by decide +kernel
theorem d_M_erase_0 : decode b_M_erase 0 = .ok (.aload_n 0, 1) := by decide +kernel
theorem d_M_erase_1 : decode b_M_erase 1 = .ok (.iconst 0, 1) := by decide +kernel
theorem d_M_erase_2 : decode b_M_erase 2 = .ok (.putfield 19, 3) := by decide +kernel
theorem d_M_erase_5 : decode b_M_erase 5 = .ok (.return_, 1) := by decide +kernel
theorem d_M_shared_0 : decode b_M_shared 0 = .ok (.iconst 0, 1) := by decide +kernel
theorem d_M_shared_1 : decode b_M_shared 1 = .ok (.istore_n 2, 1) := by decide +kernel
theorem d_M_shared_2 : decode b_M_shared 2 = .ok (.iload_n 2, 1) := by decide +kernel
theorem d_M_shared_3 : decode b_M_shared 3 = .ok (.aload_n 0, 1) := by decide +kernel
theorem d_M_shared_4 : decode b_M_shared 4 = .ok (.getfield 19, 3) := by decide +kernel
theorem d_M_shared_7 : decode b_M_shared 7 = .ok (.if_icmp .ge 39, 3) := by decide +kernel
theorem d_M_shared_10 : decode b_M_shared 10 = .ok (.iload_n 2, 1) := by decide +kernel
theorem d_M_shared_11 : decode b_M_shared 11 = .ok (.aload_n 0, 1) := by decide +kernel
theorem d_M_shared_12 : decode b_M_shared 12 = .ok (.getfield 13, 3) := by decide +kernel
theorem d_M_shared_15 : decode b_M_shared 15 = .ok (.iload_n 1, 1) := by decide +kernel
theorem d_M_shared_16 : decode b_M_shared 16 = .ok (.iaload, 1) := by decide +kernel
theorem d_M_shared_17 : decode b_M_shared 17 = .ok (.if_icmp .ge 29, 3) := by decide +kernel
theorem d_M_shared_20 : decode b_M_shared 20 = .ok (.aload_n 0, 1) := by decide +kernel
theorem d_M_shared_21 : decode b_M_shared 21 = .ok (.getfield 7, 3) := by decide +kernel
theorem d_M_shared_24 : decode b_M_shared 24 = .ok (.bipush 6, 2) := by decide +kernel
theorem d_M_shared_26 : decode b_M_shared 26 = .ok (.iload_n 1, 1) := by decide +kernel
theorem d_M_shared_27 : decode b_M_shared 27 = .ok (.imul, 1) := by decide +kernel
theorem d_M_shared_28 : decode b_M_shared 28 = .ok (.iload_n 2, 1) := by decide +kernel
theorem d_M_shared_29 : decode b_M_shared 29 = .ok (.iadd, 1) := by decide +kernel
theorem d_M_shared_30 : decode b_M_shared 30 = .ok (.iaload, 1) := by decide +kernel
theorem d_M_shared_31 : decode b_M_shared 31 = .ok (.aload_n 0, 1) := by decide +kernel
theorem d_M_shared_32 : decode b_M_shared 32 = .ok (.getfield 16, 3) := by decide +kernel
theorem d_M_shared_35 : decode b_M_shared 35 = .ok (.iload_n 2, 1) := by decide +kernel
theorem d_M_shared_36 : decode b_M_shared 36 = .ok (.iaload, 1) := by decide +kernel
theorem d_M_shared_37 : decode b_M_shared 37 = .ok (.if_icmp .ne 9, 3) := by decide +kernel
theorem d_M_shared_40 : decode b_M_shared 40 = .ok (.iinc 2 1, 3) := by decide +kernel
theorem d_M_shared_43 : decode b_M_shared 43 = .ok (.goto (-41), 3) := by decide +kernel
theorem d_M_shared_46 : decode b_M_shared 46 = .ok (.iload_n 2, 1) := by decide +kernel
theorem d_M_shared_47 : decode b_M_shared 47 = .ok (.ireturn, 1) := by decide +kernel
theorem d_M_precedes_0 : decode b_M_precedes 0 = .ok (.aload_n 0, 1) := by decide +kernel
theorem d_M_precedes_1 : decode b_M_precedes 1 = .ok (.iload_n 1, 1) := by decide +kernel
theorem d_M_precedes_2 : decode b_M_precedes 2 = .ok (.invokevirtual 23, 3) := by decide +kernel
theorem d_M_precedes_5 : decode b_M_precedes 5 = .ok (.istore_n 2, 1) := by decide +kernel
theorem d_M_precedes_6 : decode b_M_precedes 6 = .ok (.iload_n 2, 1) := by decide +kernel
theorem d_M_precedes_7 : decode b_M_precedes 7 = .ok (.aload_n 0, 1) := by decide +kernel
theorem d_M_precedes_8 : decode b_M_precedes 8 = .ok (.getfield 19, 3) := by decide +kernel
theorem d_M_precedes_11 : decode b_M_precedes 11 = .ok (.if_icmp .lt 5, 3) := by decide +kernel
theorem d_M_precedes_14 : decode b_M_precedes 14 = .ok (.iconst 0, 1) := by decide +kernel
theorem d_M_precedes_15 : decode b_M_precedes 15 = .ok (.ireturn, 1) := by decide +kernel
theorem d_M_precedes_16 : decode b_M_precedes 16 = .ok (.iload_n 2, 1) := by decide +kernel
theorem d_M_precedes_17 : decode b_M_precedes 17 = .ok (.aload_n 0, 1) := by decide +kernel
theorem d_M_precedes_18 : decode b_M_precedes 18 = .ok (.getfield 13, 3) := by decide +kernel
theorem d_M_precedes_21 : decode b_M_precedes 21 = .ok (.iload_n 1, 1) := by decide +kernel
theorem d_M_precedes_22 : decode b_M_precedes 22 = .ok (.iaload, 1) := by decide +kernel
theorem d_M_precedes_23 : decode b_M_precedes 23 = .ok (.if_icmp .ge 23, 3) := by decide +kernel
theorem d_M_precedes_26 : decode b_M_precedes 26 = .ok (.aload_n 0, 1) := by decide +kernel
theorem d_M_precedes_27 : decode b_M_precedes 27 = .ok (.getfield 7, 3) := by decide +kernel
theorem d_M_precedes_30 : decode b_M_precedes 30 = .ok (.bipush 6, 2) := by decide +kernel
theorem d_M_precedes_32 : decode b_M_precedes 32 = .ok (.iload_n 1, 1) := by decide +kernel
theorem d_M_precedes_33 : decode b_M_precedes 33 = .ok (.imul, 1) := by decide +kernel
theorem d_M_precedes_34 : decode b_M_precedes 34 = .ok (.iload_n 2, 1) := by decide +kernel
theorem d_M_precedes_35 : decode b_M_precedes 35 = .ok (.iadd, 1) := by decide +kernel
theorem d_M_precedes_36 : decode b_M_precedes 36 = .ok (.iaload, 1) := by decide +kernel
theorem d_M_precedes_37 : decode b_M_precedes 37 = .ok (.aload_n 0, 1) := by decide +kernel
theorem d_M_precedes_38 : decode b_M_precedes 38 = .ok (.getfield 16, 3) := by decide +kernel
theorem d_M_precedes_41 : decode b_M_precedes 41 = .ok (.iload_n 2, 1) := by decide +kernel
theorem d_M_precedes_42 : decode b_M_precedes 42 = .ok (.iaload, 1) := by decide +kernel
theorem d_M_precedes_43 : decode b_M_precedes 43 = .ok (.if_icmp .ge 7, 3) := by decide +kernel
theorem d_M_precedes_46 : decode b_M_precedes 46 = .ok (.iconst 1, 1) := by decide +kernel
theorem d_M_precedes_47 : decode b_M_precedes 47 = .ok (.goto 4, 3) := by decide +kernel
theorem d_M_precedes_50 : decode b_M_precedes 50 = .ok (.iconst 0, 1) := by decide +kernel
theorem d_M_precedes_51 : decode b_M_precedes 51 = .ok (.ireturn, 1) := by decide +kernel
theorem d_M_load_0 : decode b_M_load 0 = .ok (.iconst 0, 1) := by decide +kernel
theorem d_M_load_1 : decode b_M_load 1 = .ok (.istore_n 2, 1) := by decide +kernel
theorem d_M_load_2 : decode b_M_load 2 = .ok (.iload_n 2, 1) := by decide +kernel
end
section
theorem d_M_load_3 : decode b_M_load 3 = .ok (.aload_n 0, 1) := by decide +kernel
theorem d_M_load_4 : decode b_M_load 4 = .ok (.getfield 27, 3) := by decide +kernel
theorem d_M_load_7 : decode b_M_load 7 = .ok (.if_icmp .ge 66, 3) := by decide +kernel
theorem d_M_load_10 : decode b_M_load 10 = .ok (.aload_n 0, 1) := by decide +kernel
theorem d_M_load_11 : decode b_M_load 11 = .ok (.iload_n 2, 1) := by decide +kernel
theorem d_M_load_12 : decode b_M_load 12 = .ok (.invokevirtual 30, 3) := by decide +kernel
theorem d_M_load_15 : decode b_M_load 15 = .ok (.iload_n 1, 1) := by decide +kernel
theorem d_M_load_16 : decode b_M_load 16 = .ok (.if_icmp .ne 51, 3) := by decide +kernel
theorem d_M_load_19 : decode b_M_load 19 = .ok (.aload_n 0, 1) := by decide +kernel
theorem d_M_load_20 : decode b_M_load 20 = .ok (.aload_n 0, 1) := by decide +kernel
theorem d_M_load_21 : decode b_M_load 21 = .ok (.getfield 13, 3) := by decide +kernel
theorem d_M_load_24 : decode b_M_load 24 = .ok (.iload_n 2, 1) := by decide +kernel
theorem d_M_load_25 : decode b_M_load 25 = .ok (.iaload, 1) := by decide +kernel
theorem d_M_load_26 : decode b_M_load 26 = .ok (.putfield 19, 3) := by decide +kernel
theorem d_M_load_29 : decode b_M_load 29 = .ok (.iconst 0, 1) := by decide +kernel
theorem d_M_load_30 : decode b_M_load 30 = .ok (.istore_n 3, 1) := by decide +kernel
theorem d_M_load_31 : decode b_M_load 31 = .ok (.iload_n 3, 1) := by decide +kernel
theorem d_M_load_32 : decode b_M_load 32 = .ok (.aload_n 0, 1) := by decide +kernel
theorem d_M_load_33 : decode b_M_load 33 = .ok (.getfield 19, 3) := by decide +kernel
theorem d_M_load_36 : decode b_M_load 36 = .ok (.if_icmp .ge 26, 3) := by decide +kernel
theorem d_M_load_39 : decode b_M_load 39 = .ok (.aload_n 0, 1) := by decide +kernel
theorem d_M_load_40 : decode b_M_load 40 = .ok (.getfield 16, 3) := by decide +kernel
theorem d_M_load_43 : decode b_M_load 43 = .ok (.iload_n 3, 1) := by decide +kernel
theorem d_M_load_44 : decode b_M_load 44 = .ok (.aload_n 0, 1) := by decide +kernel
theorem d_M_load_45 : decode b_M_load 45 = .ok (.getfield 7, 3) := by decide +kernel
theorem d_M_load_48 : decode b_M_load 48 = .ok (.bipush 6, 2) := by decide +kernel
theorem d_M_load_50 : decode b_M_load 50 = .ok (.iload_n 2, 1) := by decide +kernel
theorem d_M_load_51 : decode b_M_load 51 = .ok (.imul, 1) := by decide +kernel
theorem d_M_load_52 : decode b_M_load 52 = .ok (.iload_n 3, 1) := by decide +kernel
theorem d_M_load_53 : decode b_M_load 53 = .ok (.iadd, 1) := by decide +kernel
theorem d_M_load_54 : decode b_M_load 54 = .ok (.iaload, 1) := by decide +kernel
theorem d_M_load_55 : decode b_M_load 55 = .ok (.iastore, 1) := by decide +kernel
theorem d_M_load_56 : decode b_M_load 56 = .ok (.iinc 3 1, 3) := by decide +kernel
theorem d_M_load_59 : decode b_M_load 59 = .ok (.goto (-28), 3) := by decide +kernel
theorem d_M_load_62 : decode b_M_load 62 = .ok (.aload_n 0, 1) := by decide +kernel
theorem d_M_load_63 : decode b_M_load 63 = .ok (.getfield 19, 3) := by decide +kernel
theorem d_M_load_66 : decode b_M_load 66 = .ok (.ireturn, 1) := by decide +kernel
theorem d_M_load_67 : decode b_M_load 67 = .ok (.iinc 2 1, 3) := by decide +kernel
theorem d_M_load_70 : decode b_M_load 70 = .ok (.goto (-68), 3) := by decide +kernel
theorem d_M_load_73 : decode b_M_load 73 = .ok (.iconst (-1), 1) := by decide +kernel
theorem d_M_load_74 : decode b_M_load 74 = .ok (.ireturn, 1) := by decide +kernel
theorem d_M_less_0 : decode b_M_less 0 = .ok (.iconst 0, 1) := by decide +kernel
theorem d_M_less_1 : decode b_M_less 1 = .ok (.istore_n 3, 1) := by decide +kernel
theorem d_M_less_2 : decode b_M_less 2 = .ok (.iload_n 3, 1) := by decide +kernel
theorem d_M_less_3 : decode b_M_less 3 = .ok (.bipush 6, 2) := by decide +kernel
theorem d_M_less_5 : decode b_M_less 5 = .ok (.if_icmp .ge 89, 3) := by decide +kernel
theorem d_M_less_8 : decode b_M_less 8 = .ok (.iload_n 3, 1) := by decide +kernel
theorem d_M_less_9 : decode b_M_less 9 = .ok (.aload_n 0, 1) := by decide +kernel
theorem d_M_less_10 : decode b_M_less 10 = .ok (.getfield 13, 3) := by decide +kernel
theorem d_M_less_13 : decode b_M_less 13 = .ok (.iload_n 2, 1) := by decide +kernel
theorem d_M_less_14 : decode b_M_less 14 = .ok (.iaload, 1) := by decide +kernel
theorem d_M_less_15 : decode b_M_less 15 = .ok (.if_icmp .lt 5, 3) := by decide +kernel
theorem d_M_less_18 : decode b_M_less 18 = .ok (.iconst 0, 1) := by decide +kernel
theorem d_M_less_19 : decode b_M_less 19 = .ok (.ireturn, 1) := by decide +kernel
theorem d_M_less_20 : decode b_M_less 20 = .ok (.iload_n 3, 1) := by decide +kernel
theorem d_M_less_21 : decode b_M_less 21 = .ok (.aload_n 0, 1) := by decide +kernel
theorem d_M_less_22 : decode b_M_less 22 = .ok (.getfield 13, 3) := by decide +kernel
theorem d_M_less_25 : decode b_M_less 25 = .ok (.iload_n 1, 1) := by decide +kernel
theorem d_M_less_26 : decode b_M_less 26 = .ok (.iaload, 1) := by decide +kernel
theorem d_M_less_27 : decode b_M_less 27 = .ok (.if_icmp .lt 5, 3) := by decide +kernel
theorem d_M_less_30 : decode b_M_less 30 = .ok (.iconst 1, 1) := by decide +kernel
theorem d_M_less_31 : decode b_M_less 31 = .ok (.ireturn, 1) := by decide +kernel
theorem d_M_less_32 : decode b_M_less 32 = .ok (.aload_n 0, 1) := by decide +kernel
theorem d_M_less_33 : decode b_M_less 33 = .ok (.getfield 7, 3) := by decide +kernel
theorem d_M_less_36 : decode b_M_less 36 = .ok (.bipush 6, 2) := by decide +kernel
theorem d_M_less_38 : decode b_M_less 38 = .ok (.iload_n 1, 1) := by decide +kernel
theorem d_M_less_39 : decode b_M_less 39 = .ok (.imul, 1) := by decide +kernel
theorem d_M_less_40 : decode b_M_less 40 = .ok (.iload_n 3, 1) := by decide +kernel
theorem d_M_less_41 : decode b_M_less 41 = .ok (.iadd, 1) := by decide +kernel
theorem d_M_less_42 : decode b_M_less 42 = .ok (.iaload, 1) := by decide +kernel
theorem d_M_less_43 : decode b_M_less 43 = .ok (.aload_n 0, 1) := by decide +kernel
theorem d_M_less_44 : decode b_M_less 44 = .ok (.getfield 7, 3) := by decide +kernel
theorem d_M_less_47 : decode b_M_less 47 = .ok (.bipush 6, 2) := by decide +kernel
theorem d_M_less_49 : decode b_M_less 49 = .ok (.iload_n 2, 1) := by decide +kernel
theorem d_M_less_50 : decode b_M_less 50 = .ok (.imul, 1) := by decide +kernel
theorem d_M_less_51 : decode b_M_less 51 = .ok (.iload_n 3, 1) := by decide +kernel
theorem d_M_less_52 : decode b_M_less 52 = .ok (.iadd, 1) := by decide +kernel
theorem d_M_less_53 : decode b_M_less 53 = .ok (.iaload, 1) := by decide +kernel
theorem d_M_less_54 : decode b_M_less 54 = .ok (.if_icmp .eq 34, 3) := by decide +kernel
theorem d_M_less_57 : decode b_M_less 57 = .ok (.aload_n 0, 1) := by decide +kernel
theorem d_M_less_58 : decode b_M_less 58 = .ok (.getfield 7, 3) := by decide +kernel
theorem d_M_less_61 : decode b_M_less 61 = .ok (.bipush 6, 2) := by decide +kernel
theorem d_M_less_63 : decode b_M_less 63 = .ok (.iload_n 1, 1) := by decide +kernel
theorem d_M_less_64 : decode b_M_less 64 = .ok (.imul, 1) := by decide +kernel
theorem d_M_less_65 : decode b_M_less 65 = .ok (.iload_n 3, 1) := by decide +kernel
theorem d_M_less_66 : decode b_M_less 66 = .ok (.iadd, 1) := by decide +kernel
theorem d_M_less_67 : decode b_M_less 67 = .ok (.iaload, 1) := by decide +kernel
theorem d_M_less_68 : decode b_M_less 68 = .ok (.aload_n 0, 1) := by decide +kernel
theorem d_M_less_69 : decode b_M_less 69 = .ok (.getfield 7, 3) := by decide +kernel
theorem d_M_less_72 : decode b_M_less 72 = .ok (.bipush 6, 2) := by decide +kernel
theorem d_M_less_74 : decode b_M_less 74 = .ok (.iload_n 2, 1) := by decide +kernel
theorem d_M_less_75 : decode b_M_less 75 = .ok (.imul, 1) := by decide +kernel
theorem d_M_less_76 : decode b_M_less 76 = .ok (.iload_n 3, 1) := by decide +kernel
theorem d_M_less_77 : decode b_M_less 77 = .ok (.iadd, 1) := by decide +kernel
theorem d_M_less_78 : decode b_M_less 78 = .ok (.iaload, 1) := by decide +kernel
theorem d_M_less_79 : decode b_M_less 79 = .ok (.if_icmp .ge 7, 3) := by decide +kernel
theorem d_M_less_82 : decode b_M_less 82 = .ok (.iconst 1, 1) := by decide +kernel
theorem d_M_less_83 : decode b_M_less 83 = .ok (.goto 4, 3) := by decide +kernel
theorem d_M_less_86 : decode b_M_less 86 = .ok (.iconst 0, 1) := by decide +kernel
theorem d_M_less_87 : decode b_M_less 87 = .ok (.ireturn, 1) := by decide +kernel
theorem d_M_less_88 : decode b_M_less 88 = .ok (.iinc 3 1, 3) := by decide +kernel
theorem d_M_less_91 : decode b_M_less 91 = .ok (.goto (-89), 3) := by decide +kernel
theorem d_M_less_94 : decode b_M_less 94 = .ok (.iconst 0, 1) := by decide +kernel
theorem d_M_less_95 : decode b_M_less 95 = .ok (.ireturn, 1) := by decide +kernel
theorem d_M_rankOf_0 : decode b_M_rankOf 0 = .ok (.iconst 0, 1) := by decide +kernel
theorem d_M_rankOf_1 : decode b_M_rankOf 1 = .ok (.istore_n 2, 1) := by decide +kernel
theorem d_M_rankOf_2 : decode b_M_rankOf 2 = .ok (.iconst 0, 1) := by decide +kernel
theorem d_M_rankOf_3 : decode b_M_rankOf 3 = .ok (.istore_n 3, 1) := by decide +kernel
theorem d_M_rankOf_4 : decode b_M_rankOf 4 = .ok (.iload_n 3, 1) := by decide +kernel
theorem d_M_rankOf_5 : decode b_M_rankOf 5 = .ok (.aload_n 0, 1) := by decide +kernel
theorem d_M_rankOf_6 : decode b_M_rankOf 6 = .ok (.getfield 27, 3) := by decide +kernel
theorem d_M_rankOf_9 : decode b_M_rankOf 9 = .ok (.if_icmp .ge 21, 3) := by decide +kernel
theorem d_M_rankOf_12 : decode b_M_rankOf 12 = .ok (.aload_n 0, 1) := by decide +kernel
theorem d_M_rankOf_13 : decode b_M_rankOf 13 = .ok (.iload_n 3, 1) := by decide +kernel
theorem d_M_rankOf_14 : decode b_M_rankOf 14 = .ok (.iload_n 1, 1) := by decide +kernel
theorem d_M_rankOf_15 : decode b_M_rankOf 15 = .ok (.invokevirtual 33, 3) := by decide +kernel
theorem d_M_rankOf_18 : decode b_M_rankOf 18 = .ok (.ifCond .eq 6, 3) := by decide +kernel
theorem d_M_rankOf_21 : decode b_M_rankOf 21 = .ok (.iinc 2 1, 3) := by decide +kernel
theorem d_M_rankOf_24 : decode b_M_rankOf 24 = .ok (.iinc 3 1, 3) := by decide +kernel
theorem d_M_rankOf_27 : decode b_M_rankOf 27 = .ok (.goto (-23), 3) := by decide +kernel
theorem d_M_rankOf_30 : decode b_M_rankOf 30 = .ok (.iload_n 2, 1) := by decide +kernel
theorem d_M_rankOf_31 : decode b_M_rankOf 31 = .ok (.ireturn, 1) := by decide +kernel
theorem d_M_letter_0 : decode b_M_letter 0 = .ok (.iload_n 1, 1) := by decide +kernel
theorem d_M_letter_1 : decode b_M_letter 1 = .ok (.ifCond .lt 11, 3) := by decide +kernel
theorem d_M_letter_4 : decode b_M_letter 4 = .ok (.iload_n 1, 1) := by decide +kernel
theorem d_M_letter_5 : decode b_M_letter 5 = .ok (.aload_n 0, 1) := by decide +kernel
theorem d_M_letter_6 : decode b_M_letter 6 = .ok (.getfield 19, 3) := by decide +kernel
theorem d_M_letter_9 : decode b_M_letter 9 = .ok (.if_icmp .lt 7, 3) := by decide +kernel
theorem d_M_letter_12 : decode b_M_letter 12 = .ok (.iconst (-1), 1) := by decide +kernel
theorem d_M_letter_13 : decode b_M_letter 13 = .ok (.goto 9, 3) := by decide +kernel
theorem d_M_letter_16 : decode b_M_letter 16 = .ok (.aload_n 0, 1) := by decide +kernel
theorem d_M_letter_17 : decode b_M_letter 17 = .ok (.getfield 16, 3) := by decide +kernel
theorem d_M_letter_20 : decode b_M_letter 20 = .ok (.iload_n 1, 1) := by decide +kernel
theorem d_M_letter_21 : decode b_M_letter 21 = .ok (.iaload, 1) := by decide +kernel
theorem d_M_letter_22 : decode b_M_letter 22 = .ok (.ireturn, 1) := by decide +kernel
theorem d_M_same_0 : decode b_M_same 0 = .ok (.iconst 0, 1) := by decide +kernel
theorem d_M_same_1 : decode b_M_same 1 = .ok (.istore_n 1, 1) := by decide +kernel
theorem d_M_same_2 : decode b_M_same 2 = .ok (.iload_n 1, 1) := by decide +kernel
theorem d_M_same_3 : decode b_M_same 3 = .ok (.aload_n 0, 1) := by decide +kernel
theorem d_M_same_4 : decode b_M_same 4 = .ok (.getfield 27, 3) := by decide +kernel
theorem d_M_same_7 : decode b_M_same 7 = .ok (.if_icmp .ge 36, 3) := by decide +kernel
theorem d_M_same_10 : decode b_M_same 10 = .ok (.aload_n 0, 1) := by decide +kernel
theorem d_M_same_11 : decode b_M_same 11 = .ok (.getfield 13, 3) := by decide +kernel
theorem d_M_same_14 : decode b_M_same 14 = .ok (.iload_n 1, 1) := by decide +kernel
theorem d_M_same_15 : decode b_M_same 15 = .ok (.iaload, 1) := by decide +kernel
theorem d_M_same_16 : decode b_M_same 16 = .ok (.aload_n 0, 1) := by decide +kernel
theorem d_M_same_17 : decode b_M_same 17 = .ok (.getfield 19, 3) := by decide +kernel
theorem d_M_same_20 : decode b_M_same 20 = .ok (.if_icmp .ne 17, 3) := by decide +kernel
theorem d_M_same_23 : decode b_M_same 23 = .ok (.aload_n 0, 1) := by decide +kernel
theorem d_M_same_24 : decode b_M_same 24 = .ok (.iload_n 1, 1) := by decide +kernel
theorem d_M_same_25 : decode b_M_same 25 = .ok (.invokevirtual 23, 3) := by decide +kernel
theorem d_M_same_28 : decode b_M_same 28 = .ok (.aload_n 0, 1) := by decide +kernel
theorem d_M_same_29 : decode b_M_same 29 = .ok (.getfield 19, 3) := by decide +kernel
theorem d_M_same_32 : decode b_M_same 32 = .ok (.if_icmp .ne 5, 3) := by decide +kernel
theorem d_M_same_35 : decode b_M_same 35 = .ok (.iload_n 1, 1) := by decide +kernel
theorem d_M_same_36 : decode b_M_same 36 = .ok (.ireturn, 1) := by decide +kernel
theorem d_M_same_37 : decode b_M_same 37 = .ok (.iinc 1 1, 3) := by decide +kernel
theorem d_M_same_40 : decode b_M_same 40 = .ok (.goto (-38), 3) := by decide +kernel
theorem d_M_same_43 : decode b_M_same 43 = .ok (.iconst (-1), 1) := by decide +kernel
theorem d_M_same_44 : decode b_M_same 44 = .ok (.ireturn, 1) := by decide +kernel
theorem d_M_insert_0 : decode b_M_insert 0 = .ok (.aload_n 0, 1) := by decide +kernel
theorem d_M_insert_1 : decode b_M_insert 1 = .ok (.getfield 19, 3) := by decide +kernel
theorem d_M_insert_4 : decode b_M_insert 4 = .ok (.ifCond .eq 19, 3) := by decide +kernel
theorem d_M_insert_7 : decode b_M_insert 7 = .ok (.aload_n 0, 1) := by decide +kernel
theorem d_M_insert_8 : decode b_M_insert 8 = .ok (.invokevirtual 37, 3) := by decide +kernel
theorem d_M_insert_11 : decode b_M_insert 11 = .ok (.ifCond .ge 12, 3) := by decide +kernel
theorem d_M_insert_14 : decode b_M_insert 14 = .ok (.aload_n 0, 1) := by decide +kernel
theorem d_M_insert_15 : decode b_M_insert 15 = .ok (.getfield 27, 3) := by decide +kernel
theorem d_M_insert_18 : decode b_M_insert 18 = .ok (.bipush 40, 2) := by decide +kernel
theorem d_M_insert_20 : decode b_M_insert 20 = .ok (.if_icmp .ne 5, 3) := by decide +kernel
theorem d_M_insert_23 : decode b_M_insert 23 = .ok (.iconst (-1), 1) := by decide +kernel
theorem d_M_insert_24 : decode b_M_insert 24 = .ok (.ireturn, 1) := by decide +kernel
theorem d_M_insert_25 : decode b_M_insert 25 = .ok (.aload_n 0, 1) := by decide +kernel
theorem d_M_insert_26 : decode b_M_insert 26 = .ok (.getfield 13, 3) := by decide +kernel
theorem d_M_insert_29 : decode b_M_insert 29 = .ok (.aload_n 0, 1) := by decide +kernel
theorem d_M_insert_30 : decode b_M_insert 30 = .ok (.getfield 27, 3) := by decide +kernel
theorem d_M_insert_33 : decode b_M_insert 33 = .ok (.aload_n 0, 1) := by decide +kernel
theorem d_M_insert_34 : decode b_M_insert 34 = .ok (.getfield 19, 3) := by decide +kernel
theorem d_M_insert_37 : decode b_M_insert 37 = .ok (.iastore, 1) := by decide +kernel
theorem d_M_insert_38 : decode b_M_insert 38 = .ok (.iconst 0, 1) := by decide +kernel
theorem d_M_insert_39 : decode b_M_insert 39 = .ok (.istore_n 1, 1) := by decide +kernel
theorem d_M_insert_40 : decode b_M_insert 40 = .ok (.iload_n 1, 1) := by decide +kernel
theorem d_M_insert_41 : decode b_M_insert 41 = .ok (.aload_n 0, 1) := by decide +kernel
theorem d_M_insert_42 : decode b_M_insert 42 = .ok (.getfield 19, 3) := by decide +kernel
theorem d_M_insert_45 : decode b_M_insert 45 = .ok (.if_icmp .ge 29, 3) := by decide +kernel
theorem d_M_insert_48 : decode b_M_insert 48 = .ok (.aload_n 0, 1) := by decide +kernel
theorem d_M_insert_49 : decode b_M_insert 49 = .ok (.getfield 7, 3) := by decide +kernel
theorem d_M_insert_52 : decode b_M_insert 52 = .ok (.bipush 6, 2) := by decide +kernel
theorem d_M_insert_54 : decode b_M_insert 54 = .ok (.aload_n 0, 1) := by decide +kernel
theorem d_M_insert_55 : decode b_M_insert 55 = .ok (.getfield 27, 3) := by decide +kernel
theorem d_M_insert_58 : decode b_M_insert 58 = .ok (.imul, 1) := by decide +kernel
theorem d_M_insert_59 : decode b_M_insert 59 = .ok (.iload_n 1, 1) := by decide +kernel
theorem d_M_insert_60 : decode b_M_insert 60 = .ok (.iadd, 1) := by decide +kernel
theorem d_M_insert_61 : decode b_M_insert 61 = .ok (.aload_n 0, 1) := by decide +kernel
theorem d_M_insert_62 : decode b_M_insert 62 = .ok (.getfield 16, 3) := by decide +kernel
theorem d_M_insert_65 : decode b_M_insert 65 = .ok (.iload_n 1, 1) := by decide +kernel
theorem d_M_insert_66 : decode b_M_insert 66 = .ok (.iaload, 1) := by decide +kernel
theorem d_M_insert_67 : decode b_M_insert 67 = .ok (.iastore, 1) := by decide +kernel
theorem d_M_insert_68 : decode b_M_insert 68 = .ok (.iinc 1 1, 3) := by decide +kernel
theorem d_M_insert_71 : decode b_M_insert 71 = .ok (.goto (-31), 3) := by decide +kernel
theorem d_M_insert_74 : decode b_M_insert 74 = .ok (.aload_n 0, 1) := by decide +kernel
theorem d_M_insert_75 : decode b_M_insert 75 = .ok (.dup, 1) := by decide +kernel
theorem d_M_insert_76 : decode b_M_insert 76 = .ok (.getfield 27, 3) := by decide +kernel
theorem d_M_insert_79 : decode b_M_insert 79 = .ok (.iconst 1, 1) := by decide +kernel
theorem d_M_insert_80 : decode b_M_insert 80 = .ok (.iadd, 1) := by decide +kernel
theorem d_M_insert_81 : decode b_M_insert 81 = .ok (.putfield 27, 3) := by decide +kernel
theorem d_M_insert_84 : decode b_M_insert 84 = .ok (.aload_n 0, 1) := by decide +kernel
theorem d_M_insert_85 : decode b_M_insert 85 = .ok (.invokevirtual 41, 3) := by decide +kernel
theorem d_M_insert_88 : decode b_M_insert 88 = .ok (.ireturn, 1) := by decide +kernel
theorem d_M_delete_0 : decode b_M_delete 0 = .ok (.aload_n 0, 1) := by decide +kernel
theorem d_M_delete_1 : decode b_M_delete 1 = .ok (.invokevirtual 37, 3) := by decide +kernel
theorem d_M_delete_4 : decode b_M_delete 4 = .ok (.istore_n 1, 1) := by decide +kernel
theorem d_M_delete_5 : decode b_M_delete 5 = .ok (.iload_n 1, 1) := by decide +kernel
theorem d_M_delete_6 : decode b_M_delete 6 = .ok (.ifCond .ge 5, 3) := by decide +kernel
theorem d_M_delete_9 : decode b_M_delete 9 = .ok (.iconst (-1), 1) := by decide +kernel
theorem d_M_delete_10 : decode b_M_delete 10 = .ok (.ireturn, 1) := by decide +kernel
theorem d_M_delete_11 : decode b_M_delete 11 = .ok (.aload_n 0, 1) := by decide +kernel
theorem d_M_delete_12 : decode b_M_delete 12 = .ok (.invokevirtual 41, 3) := by decide +kernel
theorem d_M_delete_15 : decode b_M_delete 15 = .ok (.istore_n 2, 1) := by decide +kernel
theorem d_M_delete_16 : decode b_M_delete 16 = .ok (.aload_n 0, 1) := by decide +kernel
theorem d_M_delete_17 : decode b_M_delete 17 = .ok (.dup, 1) := by decide +kernel
theorem d_M_delete_18 : decode b_M_delete 18 = .ok (.getfield 27, 3) := by decide +kernel
theorem d_M_delete_21 : decode b_M_delete 21 = .ok (.iconst 1, 1) := by decide +kernel
theorem d_M_delete_22 : decode b_M_delete 22 = .ok (.isub, 1) := by decide +kernel
theorem d_M_delete_23 : decode b_M_delete 23 = .ok (.putfield 27, 3) := by decide +kernel
theorem d_M_delete_26 : decode b_M_delete 26 = .ok (.aload_n 0, 1) := by decide +kernel
theorem d_M_delete_27 : decode b_M_delete 27 = .ok (.getfield 13, 3) := by decide +kernel
theorem d_M_delete_30 : decode b_M_delete 30 = .ok (.iload_n 1, 1) := by decide +kernel
theorem d_M_delete_31 : decode b_M_delete 31 = .ok (.aload_n 0, 1) := by decide +kernel
theorem d_M_delete_32 : decode b_M_delete 32 = .ok (.getfield 13, 3) := by decide +kernel
theorem d_M_delete_35 : decode b_M_delete 35 = .ok (.aload_n 0, 1) := by decide +kernel
theorem d_M_delete_36 : decode b_M_delete 36 = .ok (.getfield 27, 3) := by decide +kernel
theorem d_M_delete_39 : decode b_M_delete 39 = .ok (.iaload, 1) := by decide +kernel
theorem d_M_delete_40 : decode b_M_delete 40 = .ok (.iastore, 1) := by decide +kernel
theorem d_M_delete_41 : decode b_M_delete 41 = .ok (.iconst 0, 1) := by decide +kernel
theorem d_M_delete_42 : decode b_M_delete 42 = .ok (.istore_n 3, 1) := by decide +kernel
theorem d_M_delete_43 : decode b_M_delete 43 = .ok (.iload_n 3, 1) := by decide +kernel
theorem d_M_delete_44 : decode b_M_delete 44 = .ok (.bipush 6, 2) := by decide +kernel
theorem d_M_delete_46 : decode b_M_delete 46 = .ok (.if_icmp .ge 34, 3) := by decide +kernel
theorem d_M_delete_49 : decode b_M_delete 49 = .ok (.aload_n 0, 1) := by decide +kernel
theorem d_M_delete_50 : decode b_M_delete 50 = .ok (.getfield 7, 3) := by decide +kernel
theorem d_M_delete_53 : decode b_M_delete 53 = .ok (.bipush 6, 2) := by decide +kernel
theorem d_M_delete_55 : decode b_M_delete 55 = .ok (.iload_n 1, 1) := by decide +kernel
theorem d_M_delete_56 : decode b_M_delete 56 = .ok (.imul, 1) := by decide +kernel
theorem d_M_delete_57 : decode b_M_delete 57 = .ok (.iload_n 3, 1) := by decide +kernel
theorem d_M_delete_58 : decode b_M_delete 58 = .ok (.iadd, 1) := by decide +kernel
theorem d_M_delete_59 : decode b_M_delete 59 = .ok (.aload_n 0, 1) := by decide +kernel
theorem d_M_delete_60 : decode b_M_delete 60 = .ok (.getfield 7, 3) := by decide +kernel
theorem d_M_delete_63 : decode b_M_delete 63 = .ok (.bipush 6, 2) := by decide +kernel
theorem d_M_delete_65 : decode b_M_delete 65 = .ok (.aload_n 0, 1) := by decide +kernel
theorem d_M_delete_66 : decode b_M_delete 66 = .ok (.getfield 27, 3) := by decide +kernel
theorem d_M_delete_69 : decode b_M_delete 69 = .ok (.imul, 1) := by decide +kernel
theorem d_M_delete_70 : decode b_M_delete 70 = .ok (.iload_n 3, 1) := by decide +kernel
theorem d_M_delete_71 : decode b_M_delete 71 = .ok (.iadd, 1) := by decide +kernel
theorem d_M_delete_72 : decode b_M_delete 72 = .ok (.iaload, 1) := by decide +kernel
theorem d_M_delete_73 : decode b_M_delete 73 = .ok (.iastore, 1) := by decide +kernel
theorem d_M_delete_74 : decode b_M_delete 74 = .ok (.iinc 3 1, 3) := by decide +kernel
theorem d_M_delete_77 : decode b_M_delete 77 = .ok (.goto (-34), 3) := by decide +kernel
theorem d_M_delete_80 : decode b_M_delete 80 = .ok (.iload_n 2, 1) := by decide +kernel
theorem d_M_delete_81 : decode b_M_delete 81 = .ok (.ireturn, 1) := by decide +kernel
theorem d_M_size_0 : decode b_M_size 0 = .ok (.aload_n 0, 1) := by decide +kernel
theorem d_M_size_1 : decode b_M_size 1 = .ok (.getfield 27, 3) := by decide +kernel
theorem d_M_size_4 : decode b_M_size 4 = .ok (.ireturn, 1) := by decide +kernel
theorem d_M_before_0 : decode b_M_before 0 = .ok (.iconst 0, 1) := by decide +kernel
theorem d_M_before_1 : decode b_M_before 1 = .ok (.istore_n 1, 1) := by decide +kernel
theorem d_M_before_2 : decode b_M_before 2 = .ok (.iconst 0, 1) := by decide +kernel
theorem d_M_before_3 : decode b_M_before 3 = .ok (.istore_n 2, 1) := by decide +kernel
theorem d_M_before_4 : decode b_M_before 4 = .ok (.iload_n 2, 1) := by decide +kernel
theorem d_M_before_5 : decode b_M_before 5 = .ok (.aload_n 0, 1) := by decide +kernel
theorem d_M_before_6 : decode b_M_before 6 = .ok (.getfield 27, 3) := by decide +kernel
theorem d_M_before_9 : decode b_M_before 9 = .ok (.if_icmp .ge 20, 3) := by decide +kernel
theorem d_M_before_12 : decode b_M_before 12 = .ok (.aload_n 0, 1) := by decide +kernel
theorem d_M_before_13 : decode b_M_before 13 = .ok (.iload_n 2, 1) := by decide +kernel
theorem d_M_before_14 : decode b_M_before 14 = .ok (.invokevirtual 44, 3) := by decide +kernel
theorem d_M_before_17 : decode b_M_before 17 = .ok (.ifCond .eq 6, 3) := by decide +kernel
theorem d_M_before_20 : decode b_M_before 20 = .ok (.iinc 1 1, 3) := by decide +kernel
theorem d_M_before_23 : decode b_M_before 23 = .ok (.iinc 2 1, 3) := by decide +kernel
theorem d_M_before_26 : decode b_M_before 26 = .ok (.goto (-22), 3) := by decide +kernel
theorem d_M_before_29 : decode b_M_before 29 = .ok (.iload_n 1, 1) := by decide +kernel
theorem d_M_before_30 : decode b_M_before 30 = .ok (.ireturn, 1) := by decide +kernel
theorem d_M_held_0 : decode b_M_held 0 = .ok (.aload_n 0, 1) := by decide +kernel
theorem d_M_held_1 : decode b_M_held 1 = .ok (.invokevirtual 37, 3) := by decide +kernel
theorem d_M_held_4 : decode b_M_held 4 = .ok (.ifCond .lt 7, 3) := by decide +kernel
theorem d_M_held_7 : decode b_M_held 7 = .ok (.iconst 1, 1) := by decide +kernel
theorem d_M_held_8 : decode b_M_held 8 = .ok (.goto 4, 3) := by decide +kernel
theorem d_M_held_11 : decode b_M_held 11 = .ok (.iconst 0, 1) := by decide +kernel
theorem d_M_held_12 : decode b_M_held 12 = .ok (.ireturn, 1) := by decide +kernel
theorem d_M_beginning_0 : decode b_M_beginning 0 = .ok (.iconst 0, 1) := by decide +kernel
theorem d_M_beginning_1 : decode b_M_beginning 1 = .ok (.istore_n 1, 1) := by decide +kernel
theorem d_M_beginning_2 : decode b_M_beginning 2 = .ok (.iconst 0, 1) := by decide +kernel
theorem d_M_beginning_3 : decode b_M_beginning 3 = .ok (.istore_n 2, 1) := by decide +kernel
theorem d_M_beginning_4 : decode b_M_beginning 4 = .ok (.iload_n 2, 1) := by decide +kernel
theorem d_M_beginning_5 : decode b_M_beginning 5 = .ok (.aload_n 0, 1) := by decide +kernel
theorem d_M_beginning_6 : decode b_M_beginning 6 = .ok (.getfield 27, 3) := by decide +kernel
theorem d_M_beginning_9 : decode b_M_beginning 9 = .ok (.if_icmp .ge 24, 3) := by decide +kernel
theorem d_M_beginning_12 : decode b_M_beginning 12 = .ok (.aload_n 0, 1) := by decide +kernel
theorem d_M_beginning_13 : decode b_M_beginning 13 = .ok (.iload_n 2, 1) := by decide +kernel
theorem d_M_beginning_14 : decode b_M_beginning 14 = .ok (.invokevirtual 23, 3) := by decide +kernel
theorem d_M_beginning_17 : decode b_M_beginning 17 = .ok (.aload_n 0, 1) := by decide +kernel
theorem d_M_beginning_18 : decode b_M_beginning 18 = .ok (.getfield 19, 3) := by decide +kernel
theorem d_M_beginning_21 : decode b_M_beginning 21 = .ok (.if_icmp .ne 6, 3) := by decide +kernel
theorem d_M_beginning_24 : decode b_M_beginning 24 = .ok (.iinc 1 1, 3) := by decide +kernel
theorem d_M_beginning_27 : decode b_M_beginning 27 = .ok (.iinc 2 1, 3) := by decide +kernel
theorem d_M_beginning_30 : decode b_M_beginning 30 = .ok (.goto (-26), 3) := by decide +kernel
theorem d_M_beginning_33 : decode b_M_beginning 33 = .ok (.iload_n 1, 1) := by decide +kernel
theorem d_M_beginning_34 : decode b_M_beginning 34 = .ok (.ireturn, 1) := by decide +kernel
theorem d_M_common_0 : decode b_M_common 0 = .ok (.iconst (-1), 1) := by decide +kernel
theorem d_M_common_1 : decode b_M_common 1 = .ok (.istore_n 1, 1) := by decide +kernel
theorem d_M_common_2 : decode b_M_common 2 = .ok (.iconst 0, 1) := by decide +kernel
theorem d_M_common_3 : decode b_M_common 3 = .ok (.istore_n 2, 1) := by decide +kernel
theorem d_M_common_4 : decode b_M_common 4 = .ok (.iload_n 2, 1) := by decide +kernel
theorem d_M_common_5 : decode b_M_common 5 = .ok (.aload_n 0, 1) := by decide +kernel
theorem d_M_common_6 : decode b_M_common 6 = .ok (.getfield 27, 3) := by decide +kernel
theorem d_M_common_9 : decode b_M_common 9 = .ok (.if_icmp .ge 22, 3) := by decide +kernel
theorem d_M_common_12 : decode b_M_common 12 = .ok (.aload_n 0, 1) := by decide +kernel
theorem d_M_common_13 : decode b_M_common 13 = .ok (.iload_n 2, 1) := by decide +kernel
theorem d_M_common_14 : decode b_M_common 14 = .ok (.invokevirtual 23, 3) := by decide +kernel
theorem d_M_common_17 : decode b_M_common 17 = .ok (.istore_n 3, 1) := by decide +kernel
theorem d_M_common_18 : decode b_M_common 18 = .ok (.iload_n 3, 1) := by decide +kernel
theorem d_M_common_19 : decode b_M_common 19 = .ok (.iload_n 1, 1) := by decide +kernel
theorem d_M_common_20 : decode b_M_common 20 = .ok (.if_icmp .le 5, 3) := by decide +kernel
theorem d_M_common_23 : decode b_M_common 23 = .ok (.iload_n 3, 1) := by decide +kernel
theorem d_M_common_24 : decode b_M_common 24 = .ok (.istore_n 1, 1) := by decide +kernel
theorem d_M_common_25 : decode b_M_common 25 = .ok (.iinc 2 1, 3) := by decide +kernel
theorem d_M_common_28 : decode b_M_common 28 = .ok (.goto (-24), 3) := by decide +kernel
theorem d_M_common_31 : decode b_M_common 31 = .ok (.iload_n 1, 1) := by decide +kernel
theorem d_M_common_32 : decode b_M_common 32 = .ok (.ireturn, 1) := by decide +kernel
end
section
def iI (z : Int) : Int32 := Int32.ofInt z
def rg (x : Int) : Prop := -2147483648 ≤ x ∧ x ≤ 2147483647
theorem iI_toInt {x : Int} (h : rg x) : (iI x).toInt = x := Int32.toInt_ofInt_of_le (by have := h.1; omega) (by have := h.2; omega)
theorem iI_le {x y : Int} (hx : rg x) (hy : rg y) : iI x ≤ iI y ↔ x ≤ y := by rw [Int32.le_iff_toInt_le, iI_toInt hx, iI_toInt hy]
theorem iI_lt {x y : Int} (hx : rg x) (hy : rg y) : iI x < iI y ↔ x < y := by rw [Int32.lt_iff_toInt_lt, iI_toInt hx, iI_toInt hy]
theorem iI_eq {x y : Int} (hx : rg x) (hy : rg y) : iI x = iI y ↔ x = y := ⟨fun h => by rw [← iI_toInt hx, ← iI_toInt hy, h], fun h => by rw [h]⟩
theorem iI_self (x : Int32) : iI x.toInt = x := Int32.ofInt_toInt x
theorem iI_rg (x : Int32) : rg x.toInt := ⟨Int32.le_toInt x, by have := Int32.toInt_lt x; omega⟩
theorem iI_add (x y : Int) : iI x + iI y = iI (x + y) := (Int32.ofInt_add x y).symm
theorem iI_sub (x y : Int) : iI x - iI y = iI (x - y) := (Int32.ofInt_sub x y).symm
theorem iI_mul (x y : Int) : iI x * iI y = iI (x * y) := (Int32.ofInt_mul x y).symm
theorem iI_inc (x n : Int) : iI x + Int32.ofInt n = iI (x + n) := (Int32.ofInt_add x n).symm
theorem iI_div2 {x : Int} (h0 : 0 ≤ x) (h1 : x ≤ 2147483647) : iI x / iI 2 = iI (x / 2) := by
  have h := Int32.ofInt_tdiv (a := x) (b := 2) (by show (-2147483648 : Int) ≤ x; omega) (by show x ≤ (2147483647 : Int); omega) (by decide) (by decide)
  rw [Int.tdiv_eq_ediv_of_nonneg h0] at h
  exact h.symm
theorem iI_cl {i : Int} (h0 : 0 ≤ i) (h1 : i < 2147483648) : (iI i).toNatClampNeg = i.toNat := by
  show (iI i).toInt.toNat = i.toNat
  rw [iI_toInt ⟨by omega, by omega⟩]
theorem iI_in {i : Int} {N : Nat} (h0 : 0 ≤ i) (h1 : i < (N : Int)) (hN : N < 2147483648) : vp_in (iI i) N := by
  rw [vp_in_iff, iI_toInt ⟨by omega, by omega⟩]
  exact ⟨h0, h1⟩
theorem iI_up (f : Nat → Int) (n : Nat) (x : Int) : upd (fun j => iI (f j)) n (iI x) = fun j => iI (va_up f n x j) := by
  funext j
  by_cases hj : j = n
  · simp [upd, va_up, hj]
  · simp [upd, va_up, hj]
def br_le (x y : Int) (A B : Prop) : Prop := (rg x ∧ rg y) ∧ (x ≤ y → A) ∧ (¬ x ≤ y → B)
def br_lt (x y : Int) (A B : Prop) : Prop := (rg x ∧ rg y) ∧ (x < y → A) ∧ (¬ x < y → B)
def br_eq (x y : Int) (A B : Prop) : Prop := (rg x ∧ rg y) ∧ (x = y → A) ∧ (¬ x = y → B)
theorem br_le_i {x y : Int} {A B : Prop} (f : x ≤ y → A) (g : y < x → B) (h1 : -2147483648 ≤ x := by omega) (h2 : x ≤ 2147483647 := by omega) (h3 : -2147483648 ≤ y := by omega) (h4 : y ≤ 2147483647 := by omega) : br_le x y A B := ⟨⟨⟨h1, h2⟩, ⟨h3, h4⟩⟩, f, fun h => g (by omega)⟩
theorem br_lt_i {x y : Int} {A B : Prop} (f : x < y → A) (g : y ≤ x → B) (h1 : -2147483648 ≤ x := by omega) (h2 : x ≤ 2147483647 := by omega) (h3 : -2147483648 ≤ y := by omega) (h4 : y ≤ 2147483647 := by omega) : br_lt x y A B := ⟨⟨⟨h1, h2⟩, ⟨h3, h4⟩⟩, f, fun h => g (by omega)⟩
theorem br_eq_i {x y : Int} {A B : Prop} (f : x = y → A) (g : x ≠ y → B) (h1 : -2147483648 ≤ x := by omega) (h2 : x ≤ 2147483647 := by omega) (h3 : -2147483648 ≤ y := by omega) (h4 : y ≤ 2147483647 := by omega) : br_eq x y A B := ⟨⟨⟨h1, h2⟩, ⟨h3, h4⟩⟩, f, g⟩
/-- the room of a method: d frames deep, no cells -/
def rmD (d : Nat) : Room := { frames := d, cells := 0, slots := 0, locals := 30 * d }
/-- a method's fixed context -/
def cX (own : String) (tys : List (ClassId × FieldType)) (ret : Option FieldType) (A : Nat → Prop) (p : Program) (s : State) (m : MethodId) (args : Array Value) (meth : Method) (c : Code) (D : va_G) (cc : ByteArray) (nL : Nat) : Prop :=
  p.tables.exec = Jvm.exec ∧ c.code = cc ∧ c.maxLocals = nL ∧ s.vm.findClass own = some m.cls ∧ (∀ w ∈ tw_tbl, w.before args s = true) ∧ va_K D classes tys s ∧ meth.sig.returnType = ret ∧ meth.locks = false ∧ ∀ q : Nat, s.heap.size ≤ q → A q
/-- the world now -/
def cB (D : va_G) (A : Nat → Prop) (s : State) (H : Heap) (locs : List Loc) (ws : va_W) : Prop := va_P D classes ws H ∧ va_D A ws ∧ va_S A s.heap H locs
def cPre (D : va_G) (ws : va_W) (tys : List (ClassId × FieldType)) (sz : Nat) (av : List Value) : Array Value → State → Prop := va_Pc av (fun U => U.heap.size = sz ∧ va_P D classes ws U.heap ∧ va_K D classes tys U ∧ va_D (fun _ => True) ws)
def cPoI {S : Type} (D : va_G) (wsf : S → va_W) (tys : List (ClassId × FieldType)) (post : Int → S → Prop) (A : Nat → Prop) : Array Value → State → Outcome → State → Prop :=
  va_Qi (fun (r : Int32) (z : Int × S) => r = iI z.1 ∧ post z.1 z.2) (fun z t => va_P D classes (wsf z.2) t.heap ∧ va_K D classes tys t ∧ va_D A (wsf z.2)) A
def cPoV {S : Type} (D : va_G) (wsf : S → va_W) (tys : List (ClassId × FieldType)) (post : S → Prop) (A : Nat → Prop) : Array Value → State → Outcome → State → Prop :=
  va_Qv post (fun z t => va_P D classes (wsf z) t.heap ∧ va_K D classes tys t ∧ va_D A (wsf z)) A
theorem good_wsV {own : String} {idx : Nat} {C : String} {y : MethodName} {b : ByteArray} {n : Nat} {ret : Option FieldType} {nA : Nat} (h : cW own idx C y b n ret nA) : GoodIn tw_tbl (wsV own idx C y (Cond.code y b n ret :: tw_tbl)) := by
  have hg : ∀ w ∈ tw_tbl, (w.onTables && w.keeps) = true ∨ ∃ ty, w = .arrayClass ty := fun w hw => good_of_word (good_tbl w hw)
  have key : ∀ w ∈ wsV own idx C y (Cond.code y b n ret :: tw_tbl), w ∈ tw_tbl := by
    obtain ⟨h1, h2, h3, h4, h5, -⟩ := h
    intro w hw
    unfold wsV at hw
    rcases List.mem_append.mp hw with hw | hw
    · simp only [List.mem_cons, List.not_mem_nil, or_false] at hw
      rcases hw with rfl | rfl | rfl | rfl
      · exact h1
      · exact h2
      · exact h3
      · exact h4
    · rcases List.mem_cons.mp hw with rfl | hw
      · exact h5
      · exact hw
  exact fun w hw => ⟨key w hw, hg w (key w hw)⟩
section Base
variable {p : Program} {l : Launch} {e : Env} {R : Room} {s : State} {m : MethodId} {args : Array Value} {below : List Frame} {meth : Method} {c : Code} {H : Heap} {locs : List Loc} {cells slots : Nat} {Q : State → Prop} {cc : ByteArray} {pc nL : Nat} {ls : Array Slot} {rest : List Value} {D : va_G} {A : Nat → Prop} {ret : Option FieldType} {own : String} {tys : List (ClassId × FieldType)}
theorem i_iadd (X : cX own tys ret A p s m args meth c D cc nL) {x y : Int} (hdg : decode cc pc = .ok (.iadd, 1)) (kk : W p l e R s m args below meth c H locs cells slots Q (F0 m (pc + 1) ls (.int (iI (x + y)) :: rest))) : W p l e R s m args below meth c H locs cells slots Q (F0 m pc ls (.int (iI y) :: .int (iI x) :: rest)) :=
  lv_iadd X.1 X.2.1 hdg (by rw [iI_add]; exact kk)
theorem i_isub (X : cX own tys ret A p s m args meth c D cc nL) {x y : Int} (hdg : decode cc pc = .ok (.isub, 1)) (kk : W p l e R s m args below meth c H locs cells slots Q (F0 m (pc + 1) ls (.int (iI (x - y)) :: rest))) : W p l e R s m args below meth c H locs cells slots Q (F0 m pc ls (.int (iI y) :: .int (iI x) :: rest)) :=
  lv_isub X.1 X.2.1 hdg (by rw [iI_sub]; exact kk)
theorem i_imul (X : cX own tys ret A p s m args meth c D cc nL) {x y : Int} (hdg : decode cc pc = .ok (.imul, 1)) (kk : W p l e R s m args below meth c H locs cells slots Q (F0 m (pc + 1) ls (.int (iI (x * y)) :: rest))) : W p l e R s m args below meth c H locs cells slots Q (F0 m pc ls (.int (iI y) :: .int (iI x) :: rest)) :=
  lv_imul X.1 X.2.1 hdg (by rw [iI_mul]; exact kk)
theorem i_idiv2 (X : cX own tys ret A p s m args meth c D cc nL) {x : Int} (hx : 0 ≤ x ∧ x ≤ 2147483647) (hdg : decode cc pc = .ok (.idiv, 1)) (kk : W p l e R s m args below meth c H locs cells slots Q (F0 m (pc + 1) ls (.int (iI (x / 2)) :: rest))) : W p l e R s m args below meth c H locs cells slots Q (F0 m pc ls (.int (iI 2) :: .int (iI x) :: rest)) :=
  lv_idiv X.1 X.2.1 hdg (by decide) (by rw [iI_div2 hx.1 hx.2]; exact kk)
theorem i_icmp_eq (X : cX own tys ret A p s m args meth c D cc nL) {x y : Int} {PA PB : Prop} {off : Int} {tgt : Nat} (h0 : br_eq x y PA PB) (hdg : decode cc pc = .ok (.if_icmp .eq off, 3)) (ht : (pc : Int) + off = (tgt : Int)) (kt : PA → W p l e R s m args below meth c H locs cells slots Q (F0 m tgt ls rest)) (kf : PB → W p l e R s m args below meth c H locs cells slots Q (F0 m (pc + 3) ls rest)) : W p l e R s m args below meth c H locs cells slots Q (F0 m pc ls (.int (iI y) :: .int (iI x) :: rest)) :=
  lv_icmp_eq X.1 X.2.1 hdg ht (fun q => kt (h0.2.1 ((iI_eq h0.1.1 h0.1.2).mp q))) (fun q => kf (h0.2.2 (fun r => q ((iI_eq h0.1.1 h0.1.2).mpr r))))
theorem i_if_eq (X : cX own tys ret A p s m args meth c D cc nL) {x : Int} {PA PB : Prop} {off : Int} {tgt : Nat} (h0 : br_eq x 0 PA PB) (hdg : decode cc pc = .ok (.ifCond .eq off, 3)) (ht : (pc : Int) + off = (tgt : Int)) (kt : PA → W p l e R s m args below meth c H locs cells slots Q (F0 m tgt ls rest)) (kf : PB → W p l e R s m args below meth c H locs cells slots Q (F0 m (pc + 3) ls rest)) : W p l e R s m args below meth c H locs cells slots Q (F0 m pc ls (.int (iI x) :: rest)) :=
  lv_if_eq X.1 X.2.1 hdg ht (fun q => kt (h0.2.1 ((iI_eq h0.1.1 h0.1.2).mp q))) (fun q => kf (h0.2.2 (fun r => q ((iI_eq h0.1.1 h0.1.2).mpr r))))
theorem i_icmp_ne (X : cX own tys ret A p s m args meth c D cc nL) {x y : Int} {PA PB : Prop} {off : Int} {tgt : Nat} (h0 : br_eq x y PA PB) (hdg : decode cc pc = .ok (.if_icmp .ne off, 3)) (ht : (pc : Int) + off = (tgt : Int)) (kt : PB → W p l e R s m args below meth c H locs cells slots Q (F0 m tgt ls rest)) (kf : PA → W p l e R s m args below meth c H locs cells slots Q (F0 m (pc + 3) ls rest)) : W p l e R s m args below meth c H locs cells slots Q (F0 m pc ls (.int (iI y) :: .int (iI x) :: rest)) :=
  lv_icmp_ne X.1 X.2.1 hdg ht (fun q => kt (h0.2.2 (fun r => q ((iI_eq h0.1.1 h0.1.2).mpr r)))) (fun q => kf (h0.2.1 ((iI_eq h0.1.1 h0.1.2).mp q)))
theorem i_if_ne (X : cX own tys ret A p s m args meth c D cc nL) {x : Int} {PA PB : Prop} {off : Int} {tgt : Nat} (h0 : br_eq x 0 PA PB) (hdg : decode cc pc = .ok (.ifCond .ne off, 3)) (ht : (pc : Int) + off = (tgt : Int)) (kt : PB → W p l e R s m args below meth c H locs cells slots Q (F0 m tgt ls rest)) (kf : PA → W p l e R s m args below meth c H locs cells slots Q (F0 m (pc + 3) ls rest)) : W p l e R s m args below meth c H locs cells slots Q (F0 m pc ls (.int (iI x) :: rest)) :=
  lv_if_ne X.1 X.2.1 hdg ht (fun q => kt (h0.2.2 (fun r => q ((iI_eq h0.1.1 h0.1.2).mpr r)))) (fun q => kf (h0.2.1 ((iI_eq h0.1.1 h0.1.2).mp q)))
theorem i_icmp_lt (X : cX own tys ret A p s m args meth c D cc nL) {x y : Int} {PA PB : Prop} {off : Int} {tgt : Nat} (h0 : br_lt x y PA PB) (hdg : decode cc pc = .ok (.if_icmp .lt off, 3)) (ht : (pc : Int) + off = (tgt : Int)) (kt : PA → W p l e R s m args below meth c H locs cells slots Q (F0 m tgt ls rest)) (kf : PB → W p l e R s m args below meth c H locs cells slots Q (F0 m (pc + 3) ls rest)) : W p l e R s m args below meth c H locs cells slots Q (F0 m pc ls (.int (iI y) :: .int (iI x) :: rest)) :=
  lv_icmp_lt X.1 X.2.1 hdg ht (fun q => kt (h0.2.1 ((iI_lt h0.1.1 h0.1.2).mp q))) (fun q => kf (h0.2.2 (fun r => q ((iI_lt h0.1.1 h0.1.2).mpr r))))
theorem i_if_lt (X : cX own tys ret A p s m args meth c D cc nL) {x : Int} {PA PB : Prop} {off : Int} {tgt : Nat} (h0 : br_lt x 0 PA PB) (hdg : decode cc pc = .ok (.ifCond .lt off, 3)) (ht : (pc : Int) + off = (tgt : Int)) (kt : PA → W p l e R s m args below meth c H locs cells slots Q (F0 m tgt ls rest)) (kf : PB → W p l e R s m args below meth c H locs cells slots Q (F0 m (pc + 3) ls rest)) : W p l e R s m args below meth c H locs cells slots Q (F0 m pc ls (.int (iI x) :: rest)) :=
  lv_if_lt X.1 X.2.1 hdg ht (fun q => kt (h0.2.1 ((iI_lt h0.1.1 h0.1.2).mp q))) (fun q => kf (h0.2.2 (fun r => q ((iI_lt h0.1.1 h0.1.2).mpr r))))
theorem i_icmp_ge (X : cX own tys ret A p s m args meth c D cc nL) {x y : Int} {PA PB : Prop} {off : Int} {tgt : Nat} (h0 : br_le y x PA PB) (hdg : decode cc pc = .ok (.if_icmp .ge off, 3)) (ht : (pc : Int) + off = (tgt : Int)) (kt : PA → W p l e R s m args below meth c H locs cells slots Q (F0 m tgt ls rest)) (kf : PB → W p l e R s m args below meth c H locs cells slots Q (F0 m (pc + 3) ls rest)) : W p l e R s m args below meth c H locs cells slots Q (F0 m pc ls (.int (iI y) :: .int (iI x) :: rest)) :=
  lv_icmp_ge X.1 X.2.1 hdg ht (fun q => kt (h0.2.1 ((iI_le h0.1.1 h0.1.2).mp q))) (fun q => kf (h0.2.2 (fun r => q ((iI_le h0.1.1 h0.1.2).mpr r))))
theorem i_if_ge (X : cX own tys ret A p s m args meth c D cc nL) {x : Int} {PA PB : Prop} {off : Int} {tgt : Nat} (h0 : br_le 0 x PA PB) (hdg : decode cc pc = .ok (.ifCond .ge off, 3)) (ht : (pc : Int) + off = (tgt : Int)) (kt : PA → W p l e R s m args below meth c H locs cells slots Q (F0 m tgt ls rest)) (kf : PB → W p l e R s m args below meth c H locs cells slots Q (F0 m (pc + 3) ls rest)) : W p l e R s m args below meth c H locs cells slots Q (F0 m pc ls (.int (iI x) :: rest)) :=
  lv_if_ge X.1 X.2.1 hdg ht (fun q => kt (h0.2.1 ((iI_le h0.1.1 h0.1.2).mp q))) (fun q => kf (h0.2.2 (fun r => q ((iI_le h0.1.1 h0.1.2).mpr r))))
theorem i_icmp_gt (X : cX own tys ret A p s m args meth c D cc nL) {x y : Int} {PA PB : Prop} {off : Int} {tgt : Nat} (h0 : br_lt y x PA PB) (hdg : decode cc pc = .ok (.if_icmp .gt off, 3)) (ht : (pc : Int) + off = (tgt : Int)) (kt : PA → W p l e R s m args below meth c H locs cells slots Q (F0 m tgt ls rest)) (kf : PB → W p l e R s m args below meth c H locs cells slots Q (F0 m (pc + 3) ls rest)) : W p l e R s m args below meth c H locs cells slots Q (F0 m pc ls (.int (iI y) :: .int (iI x) :: rest)) :=
  lv_icmp_gt X.1 X.2.1 hdg ht (fun q => kt (h0.2.1 ((iI_lt h0.1.1 h0.1.2).mp q))) (fun q => kf (h0.2.2 (fun r => q ((iI_lt h0.1.1 h0.1.2).mpr r))))
theorem i_if_gt (X : cX own tys ret A p s m args meth c D cc nL) {x : Int} {PA PB : Prop} {off : Int} {tgt : Nat} (h0 : br_lt 0 x PA PB) (hdg : decode cc pc = .ok (.ifCond .gt off, 3)) (ht : (pc : Int) + off = (tgt : Int)) (kt : PA → W p l e R s m args below meth c H locs cells slots Q (F0 m tgt ls rest)) (kf : PB → W p l e R s m args below meth c H locs cells slots Q (F0 m (pc + 3) ls rest)) : W p l e R s m args below meth c H locs cells slots Q (F0 m pc ls (.int (iI x) :: rest)) :=
  lv_if_gt X.1 X.2.1 hdg ht (fun q => kt (h0.2.1 ((iI_lt h0.1.1 h0.1.2).mp q))) (fun q => kf (h0.2.2 (fun r => q ((iI_lt h0.1.1 h0.1.2).mpr r))))
theorem i_icmp_le (X : cX own tys ret A p s m args meth c D cc nL) {x y : Int} {PA PB : Prop} {off : Int} {tgt : Nat} (h0 : br_le x y PA PB) (hdg : decode cc pc = .ok (.if_icmp .le off, 3)) (ht : (pc : Int) + off = (tgt : Int)) (kt : PA → W p l e R s m args below meth c H locs cells slots Q (F0 m tgt ls rest)) (kf : PB → W p l e R s m args below meth c H locs cells slots Q (F0 m (pc + 3) ls rest)) : W p l e R s m args below meth c H locs cells slots Q (F0 m pc ls (.int (iI y) :: .int (iI x) :: rest)) :=
  lv_icmp_le X.1 X.2.1 hdg ht (fun q => kt (h0.2.1 ((iI_le h0.1.1 h0.1.2).mp q))) (fun q => kf (h0.2.2 (fun r => q ((iI_le h0.1.1 h0.1.2).mpr r))))
theorem i_if_le (X : cX own tys ret A p s m args meth c D cc nL) {x : Int} {PA PB : Prop} {off : Int} {tgt : Nat} (h0 : br_le x 0 PA PB) (hdg : decode cc pc = .ok (.ifCond .le off, 3)) (ht : (pc : Int) + off = (tgt : Int)) (kt : PA → W p l e R s m args below meth c H locs cells slots Q (F0 m tgt ls rest)) (kf : PB → W p l e R s m args below meth c H locs cells slots Q (F0 m (pc + 3) ls rest)) : W p l e R s m args below meth c H locs cells slots Q (F0 m pc ls (.int (iI x) :: rest)) :=
  lv_if_le X.1 X.2.1 hdg ht (fun q => kt (h0.2.1 ((iI_le h0.1.1 h0.1.2).mp q))) (fun q => kf (h0.2.2 (fun r => q ((iI_le h0.1.1 h0.1.2).mpr r))))
variable {S : Type} {wsf : S → va_W} {u : S}
theorem c_reti {post : Int → S → Prop} (X : cX own tys (some .int) A p s m args meth c D cc nL) (B : cB D A s H locs (wsf u)) {z : Int} (hp : post z u) (hdg : decode cc pc = .ok (.ireturn, 1)) : W p l e R s m args below meth c H locs 0 0 (MQ below (cPoI D wsf tys post A) args s 0 0 A) (F0 m pc ls [.int (iI z)]) := by
  obtain ⟨hx, hb, hml, hown, hts, hK, hr, hlocks, hA⟩ := X
  exact W.iret (v := iI z) hx hb hr (fun t ht hW => ⟨⟨iI z, (z, u), rfl, ⟨rfl, hp⟩, by rw [ht]; exact B.1, va_K.moved hW.alike hK, B.2.1⟩, B.2.2.F ht⟩) B.2.2.2.2 hdg
theorem iI_bool {z : Int} (h : z = 0 ∨ z = 1) : narrow .boolean (.int (iI z)) = .int (iI z) := by
  rcases h with rfl | rfl <;> decide
theorem c_retz {post : Int → S → Prop} (X : cX own tys (some .boolean) A p s m args meth c D cc nL) (B : cB D A s H locs (wsf u)) {z : Int} (hz : z = 0 ∨ z = 1) (hp : post z u) (hdg : decode cc pc = .ok (.ireturn, 1)) : W p l e R s m args below meth c H locs 0 0 (MQ below (cPoI D wsf tys post A) args s 0 0 A) (F0 m pc ls [.int (iI z)]) := by
  obtain ⟨hx, hb, hml, hown, hts, hK, hr, hlocks, hA⟩ := X
  exact W.zret (v := iI z) hx hb hr (iI_bool hz) (fun t ht hW => ⟨⟨iI z, (z, u), rfl, ⟨rfl, hp⟩, by rw [ht]; exact B.1, va_K.moved hW.alike hK, B.2.1⟩, B.2.2.F ht⟩) B.2.2.2.2 hdg
theorem c_retv {post : S → Prop} (X : cX own tys none A p s m args meth c D cc nL) (B : cB D A s H locs (wsf u)) (hp : post u) (hdg : decode cc pc = .ok (.return_, 1)) : W p l e R s m args below meth c H locs 0 0 (MQ below (cPoV D wsf tys post A) args s 0 0 A) (F0 m pc ls []) := by
  obtain ⟨hx, hb, hml, hown, hts, hK, hr, hlocks, hA⟩ := X
  exact W.vret hx hb hr (fun t ht hW => ⟨⟨u, rfl, hp, by rw [ht]; exact B.1, va_K.moved hW.alike hK, B.2.1⟩, B.2.2.F ht⟩) B.2.2.2.2 hdg
theorem c_free {ws : va_W} (X : cX own tys ret A p s m args meth c D cc nL) (B : cB D A s H locs ws) : ∀ q, va_A ws H.size q → A q := by
  intro q hq
  rcases hq with ⟨j, e9, hj⟩ | hq
  · exact B.2.1.2 j (q, e9) hj
  · exact X.2.2.2.2.2.2.2.2 q (Nat.le_trans B.2.2.1 hq)
theorem c_calli {post : Int → S → Prop} {y : MethodName} {b : ByteArray} {n : Nat} {ret2 : Option FieldType} {d nA idx ci a : Nat} {C : String} {T : u_T} {N : Nat} {fs : List Value} {As st0 : List Value} (X : cX own tys ret A p s m args meth c D cc nL) (hsz : ls.size = nL) (B : cB D A s H locs (wsf u))
    (hM : ∀ sz : Nat, Met l y (Cond.code y b n ret2 :: tw_tbl) (rmD d) (cPre D (wsf u) tys sz (.ref a :: As)) (cPoI D wsf tys post (va_A (wsf u) sz)) 0 0 (va_A (wsf u) sz))
    (hw : cW own idx C y b n ret2 nA) (hR : d + 1 ≤ R.frames ∧ 8 + (n + 11) + 30 * d ≤ R.locals) (hn : As.length = nA) (hcat : (rest.map fun v => v.category).sum ≤ 8) (hst : st0 = As.reverse ++ .ref a :: rest)
    (hc : classes[ci]? = some (C, T, N)) (he : (wsf u)[0]? = some (a, .inr (ci, fs))) (hf : cells ≤ R.cells ∧ slots ≤ R.slots) (hdg : decode cc pc = .ok (.invokevirtual idx, 3))
    (kk : ∀ (r : Int) (u2 : S) (H1 : Heap) (locs1 : List Loc), post r u2 → cB D A s H1 locs1 (wsf u2) → W p l e R s m args below meth c H1 locs1 cells slots Q (F0 m (pc + 3) ls (.int (iI r) :: rest))) : W p l e R s m args below meth c H locs cells slots Q (F0 m pc ls st0) := by
  have hFc := c_free X B
  obtain ⟨hx, hb, hml, hown, hts, hK, hr2, hlk, hA⟩ := X
  obtain ⟨hP, hD, hS⟩ := B
  refine va_calli (va_runV (As := As) (rest := rest) ⟨hx, hb, hml, hown, hts⟩ (hM H.size) (cwV nA hts (good_wsV hw) rfl rfl rfl hw.2.2.2.2.2 hR) ⟨fun a U g mk q => by obtain ⟨q0, q1, qP, qK, qD⟩ := q; exact ⟨q0, q1, qP, va_K.moved (u := U) (U := U.calling g mk a) (Vm.Alike.refl U.vm) qK, qD⟩, va_recv hK hP hc he, fun U hU hW => ⟨rfl, by rw [hU], by rw [hU]; exact hP, va_K.moved hW.alike hK, hD.weaken (fun _ _ _ _ => trivial)⟩⟩ rfl hn hsz hst (lv_room hcat) hdg hf) hS (fun q _ h => hFc q h) hFc (fun r z t H1 locs1 ht hvm hpost hB hz1 hk1 hS1 => ?_)
  obtain ⟨hr3, hp3⟩ := hpost
  obtain ⟨hP1, hK1, hD1⟩ := hB
  rw [ht] at hP1
  subst hr3
  exact kk z.1 z.2 H1 locs1 hp3 ⟨hP1, hD1.weaken (fun k q _ h => hFc q.1 h), hS1⟩
theorem c_callv {post : S → Prop} {y : MethodName} {b : ByteArray} {n : Nat} {ret2 : Option FieldType} {d nA idx ci a : Nat} {C : String} {T : u_T} {N : Nat} {fs : List Value} {As st0 : List Value} (X : cX own tys ret A p s m args meth c D cc nL) (hsz : ls.size = nL) (B : cB D A s H locs (wsf u))
    (hM : ∀ sz : Nat, Met l y (Cond.code y b n ret2 :: tw_tbl) (rmD d) (cPre D (wsf u) tys sz (.ref a :: As)) (cPoV D wsf tys post (va_A (wsf u) sz)) 0 0 (va_A (wsf u) sz))
    (hw : cW own idx C y b n ret2 nA) (hR : d + 1 ≤ R.frames ∧ 8 + (n + 11) + 30 * d ≤ R.locals) (hn : As.length = nA) (hcat : (rest.map fun v => v.category).sum ≤ 8) (hst : st0 = As.reverse ++ .ref a :: rest)
    (hc : classes[ci]? = some (C, T, N)) (he : (wsf u)[0]? = some (a, .inr (ci, fs))) (hf : cells ≤ R.cells ∧ slots ≤ R.slots) (hdg : decode cc pc = .ok (.invokevirtual idx, 3))
    (kk : ∀ (u2 : S) (H1 : Heap) (locs1 : List Loc), post u2 → cB D A s H1 locs1 (wsf u2) → W p l e R s m args below meth c H1 locs1 cells slots Q (F0 m (pc + 3) ls rest)) : W p l e R s m args below meth c H locs cells slots Q (F0 m pc ls st0) := by
  have hFc := c_free X B
  obtain ⟨hx, hb, hml, hown, hts, hK, hr2, hlk, hA⟩ := X
  obtain ⟨hP, hD, hS⟩ := B
  refine va_callv (va_runV (As := As) (rest := rest) ⟨hx, hb, hml, hown, hts⟩ (hM H.size) (cwV nA hts (good_wsV hw) rfl rfl rfl hw.2.2.2.2.2 hR) ⟨fun a U g mk q => by obtain ⟨q0, q1, qP, qK, qD⟩ := q; exact ⟨q0, q1, qP, va_K.moved (u := U) (U := U.calling g mk a) (Vm.Alike.refl U.vm) qK, qD⟩, va_recv hK hP hc he, fun U hU hW => ⟨rfl, by rw [hU], by rw [hU]; exact hP, va_K.moved hW.alike hK, hD.weaken (fun _ _ _ _ => trivial)⟩⟩ rfl hn hsz hst (lv_room hcat) hdg hf) hS (fun q _ h => hFc q h) hFc (fun z t H1 locs1 ht hvm hpost hB hz1 hk1 hS1 => ?_)
  obtain ⟨hP1, hK1, hD1⟩ := hB
  rw [ht] at hP1
  exact kk z H1 locs1 hpost ⟨hP1, hD1.weaken (fun k q _ h => hFc q.1 h), hS1⟩
end Base
theorem c_enter {l : Launch} {D : va_G} {own : String} {ws : va_W} {tys : List (ClassId × FieldType)} {y : MethodName} {b : ByteArray} {n : Nat} {ret : Option FieldType} {d sz : Nat} {Qc : (Nat → Prop) → Array Value → State → Outcome → State → Prop} (hy : plainName y.cls = true) (ho : y.cls = own) (av : List Value) (hav : (lg_sl av).length ≤ n)
    (body : ∀ (p : Program) (e : Env) (s : State) (m : MethodId) (args : Array Value) (below : List Frame) (meth : Method) (c : Code) (A : Nat → Prop) (ls : Array Slot), cX own tys ret A p s m args meth c D b n → cB D A s s.heap [] ws → lv_has ls n (lv_args 0 av) → W p l e (rmD d) s m args below meth c s.heap [] 0 0 (MQ below (Qc A) args s 0 0 A) (F0 m 0 ls [])) :
    Met l y (Cond.code y b n ret :: tw_tbl) (rmD d) (cPre D ws tys sz av) (Qc (va_A ws sz)) 0 0 (va_A ws sz) := by
  refine Met.ofW (cc := b) (maxL := n) (ret := ret) hy rfl ?_
  intro p e s m args below meth c s₁ B hml hv
  obtain ⟨rfl, hsz, hP, hK, hD0⟩ := hv
  subst hsz
  have hts := atoms_spec (ws := Cond.code y b n ret :: tw_tbl) B.pre
  have hown : s.vm.findClass own = some m.cls := by rw [← ho]; exact findClass_of_methodNamed B.named
  have hl := lv_entry av (n := n) hav
  rw [lg_entry_eq]
  exact body p e s m _ below meth c (va_A ws s.heap.size) _ ⟨B.exec, B.bytes, hml, hown, fun w hw => hts w (List.mem_cons_of_mem _ hw), hK, B.returns, B.notSynchronized, fun q h => Or.inr h⟩ ⟨hP, hD0.self (sz := s.heap.size), va_S.rf⟩ hl
end
section
abbrev TS : Type := Int × (Nat → Int) × Int × (Nat → Int) × (Nat → Int) × (Nat → Int) × (Nat → Int) × Int × Int × Int × Int × (Nat → Int) × (Nat → Int)
def tkl (u : TS) : Int := u.1
def tkey (u : TS) : (Nat → Int) := u.2.1
def tbl (u : TS) : Int := u.2.2.1
def tslot (u : TS) : (Nat → Int) := u.2.2.2.1
def ttak (u : TS) : (Nat → Int) := u.2.2.2.2.1
def tsiz (u : TS) : (Nat → Int) := u.2.2.2.2.2.1
def tdat (u : TS) : (Nat → Int) := u.2.2.2.2.2.2.1
def ttot (u : TS) : Int := u.2.2.2.2.2.2.2.1
def tfb (u : TS) : Int := u.2.2.2.2.2.2.2.2.1
def tfi (u : TS) : Int := u.2.2.2.2.2.2.2.2.2.1
def tli (u : TS) : Int := u.2.2.2.2.2.2.2.2.2.2.1
def tll (u : TS) : (Nat → Int) := u.2.2.2.2.2.2.2.2.2.2.2.1
def tlen (u : TS) : (Nat → Int) := u.2.2.2.2.2.2.2.2.2.2.2.2
def skl (u : TS) (x : Int) : TS := (x, u.2.1, u.2.2.1, u.2.2.2.1, u.2.2.2.2.1, u.2.2.2.2.2.1, u.2.2.2.2.2.2.1, u.2.2.2.2.2.2.2.1, u.2.2.2.2.2.2.2.2.1, u.2.2.2.2.2.2.2.2.2.1, u.2.2.2.2.2.2.2.2.2.2.1, u.2.2.2.2.2.2.2.2.2.2.2.1, u.2.2.2.2.2.2.2.2.2.2.2.2)
def skey (u : TS) (x : (Nat → Int)) : TS := (u.1, x, u.2.2.1, u.2.2.2.1, u.2.2.2.2.1, u.2.2.2.2.2.1, u.2.2.2.2.2.2.1, u.2.2.2.2.2.2.2.1, u.2.2.2.2.2.2.2.2.1, u.2.2.2.2.2.2.2.2.2.1, u.2.2.2.2.2.2.2.2.2.2.1, u.2.2.2.2.2.2.2.2.2.2.2.1, u.2.2.2.2.2.2.2.2.2.2.2.2)
def sbl (u : TS) (x : Int) : TS := (u.1, u.2.1, x, u.2.2.2.1, u.2.2.2.2.1, u.2.2.2.2.2.1, u.2.2.2.2.2.2.1, u.2.2.2.2.2.2.2.1, u.2.2.2.2.2.2.2.2.1, u.2.2.2.2.2.2.2.2.2.1, u.2.2.2.2.2.2.2.2.2.2.1, u.2.2.2.2.2.2.2.2.2.2.2.1, u.2.2.2.2.2.2.2.2.2.2.2.2)
def sslot (u : TS) (x : (Nat → Int)) : TS := (u.1, u.2.1, u.2.2.1, x, u.2.2.2.2.1, u.2.2.2.2.2.1, u.2.2.2.2.2.2.1, u.2.2.2.2.2.2.2.1, u.2.2.2.2.2.2.2.2.1, u.2.2.2.2.2.2.2.2.2.1, u.2.2.2.2.2.2.2.2.2.2.1, u.2.2.2.2.2.2.2.2.2.2.2.1, u.2.2.2.2.2.2.2.2.2.2.2.2)
def stak (u : TS) (x : (Nat → Int)) : TS := (u.1, u.2.1, u.2.2.1, u.2.2.2.1, x, u.2.2.2.2.2.1, u.2.2.2.2.2.2.1, u.2.2.2.2.2.2.2.1, u.2.2.2.2.2.2.2.2.1, u.2.2.2.2.2.2.2.2.2.1, u.2.2.2.2.2.2.2.2.2.2.1, u.2.2.2.2.2.2.2.2.2.2.2.1, u.2.2.2.2.2.2.2.2.2.2.2.2)
def ssiz (u : TS) (x : (Nat → Int)) : TS := (u.1, u.2.1, u.2.2.1, u.2.2.2.1, u.2.2.2.2.1, x, u.2.2.2.2.2.2.1, u.2.2.2.2.2.2.2.1, u.2.2.2.2.2.2.2.2.1, u.2.2.2.2.2.2.2.2.2.1, u.2.2.2.2.2.2.2.2.2.2.1, u.2.2.2.2.2.2.2.2.2.2.2.1, u.2.2.2.2.2.2.2.2.2.2.2.2)
def sdat (u : TS) (x : (Nat → Int)) : TS := (u.1, u.2.1, u.2.2.1, u.2.2.2.1, u.2.2.2.2.1, u.2.2.2.2.2.1, x, u.2.2.2.2.2.2.2.1, u.2.2.2.2.2.2.2.2.1, u.2.2.2.2.2.2.2.2.2.1, u.2.2.2.2.2.2.2.2.2.2.1, u.2.2.2.2.2.2.2.2.2.2.2.1, u.2.2.2.2.2.2.2.2.2.2.2.2)
def stot (u : TS) (x : Int) : TS := (u.1, u.2.1, u.2.2.1, u.2.2.2.1, u.2.2.2.2.1, u.2.2.2.2.2.1, u.2.2.2.2.2.2.1, x, u.2.2.2.2.2.2.2.2.1, u.2.2.2.2.2.2.2.2.2.1, u.2.2.2.2.2.2.2.2.2.2.1, u.2.2.2.2.2.2.2.2.2.2.2.1, u.2.2.2.2.2.2.2.2.2.2.2.2)
def sfb (u : TS) (x : Int) : TS := (u.1, u.2.1, u.2.2.1, u.2.2.2.1, u.2.2.2.2.1, u.2.2.2.2.2.1, u.2.2.2.2.2.2.1, u.2.2.2.2.2.2.2.1, x, u.2.2.2.2.2.2.2.2.2.1, u.2.2.2.2.2.2.2.2.2.2.1, u.2.2.2.2.2.2.2.2.2.2.2.1, u.2.2.2.2.2.2.2.2.2.2.2.2)
def sfi (u : TS) (x : Int) : TS := (u.1, u.2.1, u.2.2.1, u.2.2.2.1, u.2.2.2.2.1, u.2.2.2.2.2.1, u.2.2.2.2.2.2.1, u.2.2.2.2.2.2.2.1, u.2.2.2.2.2.2.2.2.1, x, u.2.2.2.2.2.2.2.2.2.2.1, u.2.2.2.2.2.2.2.2.2.2.2.1, u.2.2.2.2.2.2.2.2.2.2.2.2)
def sli (u : TS) (x : Int) : TS := (u.1, u.2.1, u.2.2.1, u.2.2.2.1, u.2.2.2.2.1, u.2.2.2.2.2.1, u.2.2.2.2.2.2.1, u.2.2.2.2.2.2.2.1, u.2.2.2.2.2.2.2.2.1, u.2.2.2.2.2.2.2.2.2.1, x, u.2.2.2.2.2.2.2.2.2.2.2.1, u.2.2.2.2.2.2.2.2.2.2.2.2)
def sll (u : TS) (x : (Nat → Int)) : TS := (u.1, u.2.1, u.2.2.1, u.2.2.2.1, u.2.2.2.2.1, u.2.2.2.2.2.1, u.2.2.2.2.2.2.1, u.2.2.2.2.2.2.2.1, u.2.2.2.2.2.2.2.2.1, u.2.2.2.2.2.2.2.2.2.1, u.2.2.2.2.2.2.2.2.2.2.1, x, u.2.2.2.2.2.2.2.2.2.2.2.2)
def slen (u : TS) (x : (Nat → Int)) : TS := (u.1, u.2.1, u.2.2.1, u.2.2.2.1, u.2.2.2.2.1, u.2.2.2.2.2.1, u.2.2.2.2.2.2.1, u.2.2.2.2.2.2.2.1, u.2.2.2.2.2.2.2.2.1, u.2.2.2.2.2.2.2.2.2.1, u.2.2.2.2.2.2.2.2.2.2.1, u.2.2.2.2.2.2.2.2.2.2.2.1, x)
def T_ws (gA : Nat → Nat) (gC : Nat → ClassId) (u : TS) : va_W := [(gA 0, .inr (0, [.int (iI (tkl u)), .ref (gA 1), .int (iI (tbl u)), .ref (gA 2), .ref (gA 3), .ref (gA 4), .ref (gA 5), .int (iI (ttot u)), .int (iI (tfb u)), .int (iI (tfi u)), .int (iI (tli u)), .ref (gA 6), .ref (gA 7)])), (gA 1, .inl (gC 1, 6, .inl (fun j => iI (tkey u j)))), (gA 2, .inl (gC 2, 16, .inl (fun j => iI (tslot u j)))), (gA 3, .inl (gC 3, 16, .inl (fun j => iI (ttak u j)))), (gA 4, .inl (gC 4, 16, .inl (fun j => iI (tsiz u j)))), (gA 5, .inl (gC 5, 768, .inl (fun j => iI (tdat u j)))), (gA 6, .inl (gC 6, 96, .inl (fun j => iI (tll u j)))), (gA 7, .inl (gC 7, 16, .inl (fun j => iI (tlen u j))))]
def T_tys (gC : Nat → ClassId) : List (ClassId × FieldType) := [(gC 1, .int), (gC 2, .int), (gC 3, .boolean), (gC 4, .int), (gC 5, .int), (gC 6, .int), (gC 7, .int)]
section RulesT
variable {p : Program} {l : Launch} {e : Env} {R : Room} {s : State} {m : MethodId} {args : Array Value} {below : List Frame} {meth : Method} {c : Code} {H : Heap} {locs : List Loc} {cells slots : Nat} {Q : State → Prop} {cc : ByteArray} {pc nL : Nat} {ls : Array Slot} {rest : List Value} {D : va_G} {A : Nat → Prop} {gA : Nat → Nat} {gC : Nat → ClassId} {ret : Option FieldType} {u : TS}
theorem t_get_kl (X : cX R_T (T_tys gC) ret A p s m args meth c D cc nL) (B : cB D A s H locs (T_ws gA gC u)) (hdg : decode cc pc = .ok (.getfield 32, 3)) (kk : W p l e R s m args below meth c H locs cells slots Q (F0 m (pc + 3) ls (.int (iI (tkl u)) :: rest))) : W p l e R s m args below meth c H locs cells slots Q (F0 m pc ls (.ref (gA 0) :: rest)) := by
  obtain ⟨hx, hb, hml, hown, hts, hK, -⟩ := X
  exact va_get (D := D) (ci := 0) (v := .int (iI (tkl u))) (C := R_T) (T := F_T) (N := 13) hx hb hts i_T hown hK B.1 0 rfl rfl 0 (by decide) (hts (.fieldLink R_T 32 "TermIndex" "keyLength" "I") mf_T_kl) (fun _ h9 => h9) rfl hdg kk
theorem t_get_key (X : cX R_T (T_tys gC) ret A p s m args meth c D cc nL) (B : cB D A s H locs (T_ws gA gC u)) (hdg : decode cc pc = .ok (.getfield 7, 3)) (kk : W p l e R s m args below meth c H locs cells slots Q (F0 m (pc + 3) ls (.ref (gA 1) :: rest))) : W p l e R s m args below meth c H locs cells slots Q (F0 m pc ls (.ref (gA 0) :: rest)) := by
  obtain ⟨hx, hb, hml, hown, hts, hK, -⟩ := X
  exact va_get (D := D) (ci := 0) (v := .ref (gA 1)) (C := R_T) (T := F_T) (N := 13) hx hb hts i_T hown hK B.1 0 rfl rfl 1 (by decide) (hts (.fieldLink R_T 7 "TermIndex" "key" "[I") mf_T_key) (fun _ h9 => h9) rfl hdg kk
theorem t_get_bl (X : cX R_T (T_tys gC) ret A p s m args meth c D cc nL) (B : cB D A s H locs (T_ws gA gC u)) (hdg : decode cc pc = .ok (.getfield 61, 3)) (kk : W p l e R s m args below meth c H locs cells slots Q (F0 m (pc + 3) ls (.int (iI (tbl u)) :: rest))) : W p l e R s m args below meth c H locs cells slots Q (F0 m pc ls (.ref (gA 0) :: rest)) := by
  obtain ⟨hx, hb, hml, hown, hts, hK, -⟩ := X
  exact va_get (D := D) (ci := 0) (v := .int (iI (tbl u))) (C := R_T) (T := F_T) (N := 13) hx hb hts i_T hown hK B.1 0 rfl rfl 2 (by decide) (hts (.fieldLink R_T 61 "TermIndex" "blocks" "I") mf_T_bl) (fun _ h9 => h9) rfl hdg kk
theorem t_get_slot (X : cX R_T (T_tys gC) ret A p s m args meth c D cc nL) (B : cB D A s H locs (T_ws gA gC u)) (hdg : decode cc pc = .ok (.getfield 13, 3)) (kk : W p l e R s m args below meth c H locs cells slots Q (F0 m (pc + 3) ls (.ref (gA 2) :: rest))) : W p l e R s m args below meth c H locs cells slots Q (F0 m pc ls (.ref (gA 0) :: rest)) := by
  obtain ⟨hx, hb, hml, hown, hts, hK, -⟩ := X
  exact va_get (D := D) (ci := 0) (v := .ref (gA 2)) (C := R_T) (T := F_T) (N := 13) hx hb hts i_T hown hK B.1 0 rfl rfl 3 (by decide) (hts (.fieldLink R_T 13 "TermIndex" "slotOf" "[I") mf_T_slot) (fun _ h9 => h9) rfl hdg kk
theorem t_get_tak (X : cX R_T (T_tys gC) ret A p s m args meth c D cc nL) (B : cB D A s H locs (T_ws gA gC u)) (hdg : decode cc pc = .ok (.getfield 16, 3)) (kk : W p l e R s m args below meth c H locs cells slots Q (F0 m (pc + 3) ls (.ref (gA 3) :: rest))) : W p l e R s m args below meth c H locs cells slots Q (F0 m pc ls (.ref (gA 0) :: rest)) := by
  obtain ⟨hx, hb, hml, hown, hts, hK, -⟩ := X
  exact va_get (D := D) (ci := 0) (v := .ref (gA 3)) (C := R_T) (T := F_T) (N := 13) hx hb hts i_T hown hK B.1 0 rfl rfl 4 (by decide) (hts (.fieldLink R_T 16 "TermIndex" "taken" "[Z") mf_T_tak) (fun _ h9 => h9) rfl hdg kk
theorem t_get_siz (X : cX R_T (T_tys gC) ret A p s m args meth c D cc nL) (B : cB D A s H locs (T_ws gA gC u)) (hdg : decode cc pc = .ok (.getfield 20, 3)) (kk : W p l e R s m args below meth c H locs cells slots Q (F0 m (pc + 3) ls (.ref (gA 4) :: rest))) : W p l e R s m args below meth c H locs cells slots Q (F0 m pc ls (.ref (gA 0) :: rest)) := by
  obtain ⟨hx, hb, hml, hown, hts, hK, -⟩ := X
  exact va_get (D := D) (ci := 0) (v := .ref (gA 4)) (C := R_T) (T := F_T) (N := 13) hx hb hts i_T hown hK B.1 0 rfl rfl 5 (by decide) (hts (.fieldLink R_T 20 "TermIndex" "sizeOf" "[I") mf_T_siz) (fun _ h9 => h9) rfl hdg kk
theorem t_get_dat (X : cX R_T (T_tys gC) ret A p s m args meth c D cc nL) (B : cB D A s H locs (T_ws gA gC u)) (hdg : decode cc pc = .ok (.getfield 23, 3)) (kk : W p l e R s m args below meth c H locs cells slots Q (F0 m (pc + 3) ls (.ref (gA 5) :: rest))) : W p l e R s m args below meth c H locs cells slots Q (F0 m pc ls (.ref (gA 0) :: rest)) := by
  obtain ⟨hx, hb, hml, hown, hts, hK, -⟩ := X
  exact va_get (D := D) (ci := 0) (v := .ref (gA 5)) (C := R_T) (T := F_T) (N := 13) hx hb hts i_T hown hK B.1 0 rfl rfl 6 (by decide) (hts (.fieldLink R_T 23 "TermIndex" "data" "[I") mf_T_dat) (fun _ h9 => h9) rfl hdg kk
theorem t_get_tot (X : cX R_T (T_tys gC) ret A p s m args meth c D cc nL) (B : cB D A s H locs (T_ws gA gC u)) (hdg : decode cc pc = .ok (.getfield 36, 3)) (kk : W p l e R s m args below meth c H locs cells slots Q (F0 m (pc + 3) ls (.int (iI (ttot u)) :: rest))) : W p l e R s m args below meth c H locs cells slots Q (F0 m pc ls (.ref (gA 0) :: rest)) := by
  obtain ⟨hx, hb, hml, hown, hts, hK, -⟩ := X
  exact va_get (D := D) (ci := 0) (v := .int (iI (ttot u))) (C := R_T) (T := F_T) (N := 13) hx hb hts i_T hown hK B.1 0 rfl rfl 7 (by decide) (hts (.fieldLink R_T 36 "TermIndex" "total" "I") mf_T_tot) (fun _ h9 => h9) rfl hdg kk
theorem t_get_fb (X : cX R_T (T_tys gC) ret A p s m args meth c D cc nL) (B : cB D A s H locs (T_ws gA gC u)) (hdg : decode cc pc = .ok (.getfield 67, 3)) (kk : W p l e R s m args below meth c H locs cells slots Q (F0 m (pc + 3) ls (.int (iI (tfb u)) :: rest))) : W p l e R s m args below meth c H locs cells slots Q (F0 m pc ls (.ref (gA 0) :: rest)) := by
  obtain ⟨hx, hb, hml, hown, hts, hK, -⟩ := X
  exact va_get (D := D) (ci := 0) (v := .int (iI (tfb u))) (C := R_T) (T := F_T) (N := 13) hx hb hts i_T hown hK B.1 0 rfl rfl 8 (by decide) (hts (.fieldLink R_T 67 "TermIndex" "foundBlock" "I") mf_T_fb) (fun _ h9 => h9) rfl hdg kk
theorem t_get_fi (X : cX R_T (T_tys gC) ret A p s m args meth c D cc nL) (B : cB D A s H locs (T_ws gA gC u)) (hdg : decode cc pc = .ok (.getfield 70, 3)) (kk : W p l e R s m args below meth c H locs cells slots Q (F0 m (pc + 3) ls (.int (iI (tfi u)) :: rest))) : W p l e R s m args below meth c H locs cells slots Q (F0 m pc ls (.ref (gA 0) :: rest)) := by
  obtain ⟨hx, hb, hml, hown, hts, hK, -⟩ := X
  exact va_get (D := D) (ci := 0) (v := .int (iI (tfi u))) (C := R_T) (T := F_T) (N := 13) hx hb hts i_T hown hK B.1 0 rfl rfl 9 (by decide) (hts (.fieldLink R_T 70 "TermIndex" "foundInside" "I") mf_T_fi) (fun _ h9 => h9) rfl hdg kk
theorem t_get_li (X : cX R_T (T_tys gC) ret A p s m args meth c D cc nL) (B : cB D A s H locs (T_ws gA gC u)) (hdg : decode cc pc = .ok (.getfield 43, 3)) (kk : W p l e R s m args below meth c H locs cells slots Q (F0 m (pc + 3) ls (.int (iI (tli u)) :: rest))) : W p l e R s m args below meth c H locs cells slots Q (F0 m pc ls (.ref (gA 0) :: rest)) := by
  obtain ⟨hx, hb, hml, hown, hts, hK, -⟩ := X
  exact va_get (D := D) (ci := 0) (v := .int (iI (tli u))) (C := R_T) (T := F_T) (N := 13) hx hb hts i_T hown hK B.1 0 rfl rfl 10 (by decide) (hts (.fieldLink R_T 43 "TermIndex" "listed" "I") mf_T_li) (fun _ h9 => h9) rfl hdg kk
theorem t_get_ll (X : cX R_T (T_tys gC) ret A p s m args meth c D cc nL) (B : cB D A s H locs (T_ws gA gC u)) (hdg : decode cc pc = .ok (.getfield 26, 3)) (kk : W p l e R s m args below meth c H locs cells slots Q (F0 m (pc + 3) ls (.ref (gA 6) :: rest))) : W p l e R s m args below meth c H locs cells slots Q (F0 m pc ls (.ref (gA 0) :: rest)) := by
  obtain ⟨hx, hb, hml, hown, hts, hK, -⟩ := X
  exact va_get (D := D) (ci := 0) (v := .ref (gA 6)) (C := R_T) (T := F_T) (N := 13) hx hb hts i_T hown hK B.1 0 rfl rfl 11 (by decide) (hts (.fieldLink R_T 26 "TermIndex" "listLetters" "[I") mf_T_ll) (fun _ h9 => h9) rfl hdg kk
theorem t_get_len (X : cX R_T (T_tys gC) ret A p s m args meth c D cc nL) (B : cB D A s H locs (T_ws gA gC u)) (hdg : decode cc pc = .ok (.getfield 29, 3)) (kk : W p l e R s m args below meth c H locs cells slots Q (F0 m (pc + 3) ls (.ref (gA 7) :: rest))) : W p l e R s m args below meth c H locs cells slots Q (F0 m pc ls (.ref (gA 0) :: rest)) := by
  obtain ⟨hx, hb, hml, hown, hts, hK, -⟩ := X
  exact va_get (D := D) (ci := 0) (v := .ref (gA 7)) (C := R_T) (T := F_T) (N := 13) hx hb hts i_T hown hK B.1 0 rfl rfl 12 (by decide) (hts (.fieldLink R_T 29 "TermIndex" "listLength" "[I") mf_T_len) (fun _ h9 => h9) rfl hdg kk
theorem t_put_kl (X : cX R_T (T_tys gC) ret A p s m args meth c D cc nL) (B : cB D A s H locs (T_ws gA gC u)) {z : Int} {Pr : TS → Prop} (h0 : ∀ u2 : TS, u2 = skl u z → Pr u2) (hdg : decode cc pc = .ok (.putfield 32, 3)) (kk : ∀ (u2 : TS) (H1 : Heap) (locs1 : List Loc), Pr u2 → cB D A s H1 locs1 (T_ws gA gC u2) → W p l e R s m args below meth c H1 locs1 cells slots Q (F0 m (pc + 3) ls rest)) : W p l e R s m args below meth c H locs cells slots Q (F0 m pc ls (.int (iI z) :: .ref (gA 0) :: rest)) := by
  obtain ⟨hx, hb, hml, hown, hts, hK, -⟩ := X
  exact va_put (D := D) (ci := 0) (v := .int (iI z)) (ty := .int) (C := R_T) (T := F_T) (N := 13) hx hb hts i_T fy_T fy_T_ok n_T hown hK B.1 B.2.1 B.2.2 0 rfl rfl 0 (by decide) (hts (.fieldLink R_T 32 "TermIndex" "keyLength" "I") mf_T_kl) (fun _ h9 => h9) rfl (by decide +kernel) rfl rfl (Nat.le_of_ble_eq_true rfl) hdg (fun H1 locs1 hP hD hS => kk (skl u z) H1 locs1 (h0 _ rfl) ⟨hP, hD, hS⟩)
theorem t_put_bl (X : cX R_T (T_tys gC) ret A p s m args meth c D cc nL) (B : cB D A s H locs (T_ws gA gC u)) {z : Int} {Pr : TS → Prop} (h0 : ∀ u2 : TS, u2 = sbl u z → Pr u2) (hdg : decode cc pc = .ok (.putfield 61, 3)) (kk : ∀ (u2 : TS) (H1 : Heap) (locs1 : List Loc), Pr u2 → cB D A s H1 locs1 (T_ws gA gC u2) → W p l e R s m args below meth c H1 locs1 cells slots Q (F0 m (pc + 3) ls rest)) : W p l e R s m args below meth c H locs cells slots Q (F0 m pc ls (.int (iI z) :: .ref (gA 0) :: rest)) := by
  obtain ⟨hx, hb, hml, hown, hts, hK, -⟩ := X
  exact va_put (D := D) (ci := 0) (v := .int (iI z)) (ty := .int) (C := R_T) (T := F_T) (N := 13) hx hb hts i_T fy_T fy_T_ok n_T hown hK B.1 B.2.1 B.2.2 0 rfl rfl 2 (by decide) (hts (.fieldLink R_T 61 "TermIndex" "blocks" "I") mf_T_bl) (fun _ h9 => h9) rfl (by decide +kernel) rfl rfl (Nat.le_of_ble_eq_true rfl) hdg (fun H1 locs1 hP hD hS => kk (sbl u z) H1 locs1 (h0 _ rfl) ⟨hP, hD, hS⟩)
theorem t_put_tot (X : cX R_T (T_tys gC) ret A p s m args meth c D cc nL) (B : cB D A s H locs (T_ws gA gC u)) {z : Int} {Pr : TS → Prop} (h0 : ∀ u2 : TS, u2 = stot u z → Pr u2) (hdg : decode cc pc = .ok (.putfield 36, 3)) (kk : ∀ (u2 : TS) (H1 : Heap) (locs1 : List Loc), Pr u2 → cB D A s H1 locs1 (T_ws gA gC u2) → W p l e R s m args below meth c H1 locs1 cells slots Q (F0 m (pc + 3) ls rest)) : W p l e R s m args below meth c H locs cells slots Q (F0 m pc ls (.int (iI z) :: .ref (gA 0) :: rest)) := by
  obtain ⟨hx, hb, hml, hown, hts, hK, -⟩ := X
  exact va_put (D := D) (ci := 0) (v := .int (iI z)) (ty := .int) (C := R_T) (T := F_T) (N := 13) hx hb hts i_T fy_T fy_T_ok n_T hown hK B.1 B.2.1 B.2.2 0 rfl rfl 7 (by decide) (hts (.fieldLink R_T 36 "TermIndex" "total" "I") mf_T_tot) (fun _ h9 => h9) rfl (by decide +kernel) rfl rfl (Nat.le_of_ble_eq_true rfl) hdg (fun H1 locs1 hP hD hS => kk (stot u z) H1 locs1 (h0 _ rfl) ⟨hP, hD, hS⟩)
theorem t_put_fb (X : cX R_T (T_tys gC) ret A p s m args meth c D cc nL) (B : cB D A s H locs (T_ws gA gC u)) {z : Int} {Pr : TS → Prop} (h0 : ∀ u2 : TS, u2 = sfb u z → Pr u2) (hdg : decode cc pc = .ok (.putfield 67, 3)) (kk : ∀ (u2 : TS) (H1 : Heap) (locs1 : List Loc), Pr u2 → cB D A s H1 locs1 (T_ws gA gC u2) → W p l e R s m args below meth c H1 locs1 cells slots Q (F0 m (pc + 3) ls rest)) : W p l e R s m args below meth c H locs cells slots Q (F0 m pc ls (.int (iI z) :: .ref (gA 0) :: rest)) := by
  obtain ⟨hx, hb, hml, hown, hts, hK, -⟩ := X
  exact va_put (D := D) (ci := 0) (v := .int (iI z)) (ty := .int) (C := R_T) (T := F_T) (N := 13) hx hb hts i_T fy_T fy_T_ok n_T hown hK B.1 B.2.1 B.2.2 0 rfl rfl 8 (by decide) (hts (.fieldLink R_T 67 "TermIndex" "foundBlock" "I") mf_T_fb) (fun _ h9 => h9) rfl (by decide +kernel) rfl rfl (Nat.le_of_ble_eq_true rfl) hdg (fun H1 locs1 hP hD hS => kk (sfb u z) H1 locs1 (h0 _ rfl) ⟨hP, hD, hS⟩)
theorem t_put_fi (X : cX R_T (T_tys gC) ret A p s m args meth c D cc nL) (B : cB D A s H locs (T_ws gA gC u)) {z : Int} {Pr : TS → Prop} (h0 : ∀ u2 : TS, u2 = sfi u z → Pr u2) (hdg : decode cc pc = .ok (.putfield 70, 3)) (kk : ∀ (u2 : TS) (H1 : Heap) (locs1 : List Loc), Pr u2 → cB D A s H1 locs1 (T_ws gA gC u2) → W p l e R s m args below meth c H1 locs1 cells slots Q (F0 m (pc + 3) ls rest)) : W p l e R s m args below meth c H locs cells slots Q (F0 m pc ls (.int (iI z) :: .ref (gA 0) :: rest)) := by
  obtain ⟨hx, hb, hml, hown, hts, hK, -⟩ := X
  exact va_put (D := D) (ci := 0) (v := .int (iI z)) (ty := .int) (C := R_T) (T := F_T) (N := 13) hx hb hts i_T fy_T fy_T_ok n_T hown hK B.1 B.2.1 B.2.2 0 rfl rfl 9 (by decide) (hts (.fieldLink R_T 70 "TermIndex" "foundInside" "I") mf_T_fi) (fun _ h9 => h9) rfl (by decide +kernel) rfl rfl (Nat.le_of_ble_eq_true rfl) hdg (fun H1 locs1 hP hD hS => kk (sfi u z) H1 locs1 (h0 _ rfl) ⟨hP, hD, hS⟩)
theorem t_put_li (X : cX R_T (T_tys gC) ret A p s m args meth c D cc nL) (B : cB D A s H locs (T_ws gA gC u)) {z : Int} {Pr : TS → Prop} (h0 : ∀ u2 : TS, u2 = sli u z → Pr u2) (hdg : decode cc pc = .ok (.putfield 43, 3)) (kk : ∀ (u2 : TS) (H1 : Heap) (locs1 : List Loc), Pr u2 → cB D A s H1 locs1 (T_ws gA gC u2) → W p l e R s m args below meth c H1 locs1 cells slots Q (F0 m (pc + 3) ls rest)) : W p l e R s m args below meth c H locs cells slots Q (F0 m pc ls (.int (iI z) :: .ref (gA 0) :: rest)) := by
  obtain ⟨hx, hb, hml, hown, hts, hK, -⟩ := X
  exact va_put (D := D) (ci := 0) (v := .int (iI z)) (ty := .int) (C := R_T) (T := F_T) (N := 13) hx hb hts i_T fy_T fy_T_ok n_T hown hK B.1 B.2.1 B.2.2 0 rfl rfl 10 (by decide) (hts (.fieldLink R_T 43 "TermIndex" "listed" "I") mf_T_li) (fun _ h9 => h9) rfl (by decide +kernel) rfl rfl (Nat.le_of_ble_eq_true rfl) hdg (fun H1 locs1 hP hD hS => kk (sli u z) H1 locs1 (h0 _ rfl) ⟨hP, hD, hS⟩)
theorem t_ld_key (X : cX R_T (T_tys gC) ret A p s m args meth c D cc nL) (B : cB D A s H locs (T_ws gA gC u)) {i : Int} {Pr : Int → Prop} (h0 : (0 ≤ i ∧ i < 6) ∧ ∀ v : Int, v = tkey u i.toNat → Pr v) (hdg : decode cc pc = .ok (.iaload, 1)) (kk : ∀ v : Int, Pr v → W p l e R s m args below meth c H locs cells slots Q (F0 m (pc + 1) ls (.int (iI v) :: rest))) : W p l e R s m args below meth c H locs cells slots Q (F0 m pc ls (.int (iI i) :: .ref (gA 1) :: rest)) := by
  obtain ⟨hx, hb, hml, hown, hts, hK, -⟩ := X
  refine va_iald hx hb hK B.1 1 0 (n := 6) (f := fun j => iI (tkey u j)) rfl rfl (iI_in h0.1.1 h0.1.2 (by decide)) hdg ?_
  rw [iI_cl h0.1.1 (Int.lt_trans h0.1.2 (by decide))]
  exact kk _ (h0.2 _ rfl)
theorem t_st_key (X : cX R_T (T_tys gC) ret A p s m args meth c D cc nL) (B : cB D A s H locs (T_ws gA gC u)) {i x : Int} {Pr : TS → Prop} (h0 : (0 ≤ i ∧ i < 6) ∧ ∀ u2 : TS, u2 = skey u (va_up (tkey u) i.toNat x) → Pr u2) (hdg : decode cc pc = .ok (.iastore, 1)) (kk : ∀ (u2 : TS) (H1 : Heap) (locs1 : List Loc), Pr u2 → cB D A s H1 locs1 (T_ws gA gC u2) → W p l e R s m args below meth c H1 locs1 cells slots Q (F0 m (pc + 1) ls rest)) : W p l e R s m args below meth c H locs cells slots Q (F0 m pc ls (.int (iI x) :: .int (iI i) :: .ref (gA 1) :: rest)) := by
  obtain ⟨hx, hb, hml, hown, hts, hK, -⟩ := X
  refine va_iast hx hb hK B.1 B.2.1 B.2.2 1 0 (n := 6) (f := fun j => iI (tkey u j)) rfl rfl (iI_in h0.1.1 h0.1.2 (by decide)) hdg (fun H1 locs1 hP hD hS => ?_)
  rw [iI_cl h0.1.1 (Int.lt_trans h0.1.2 (by decide)), iI_up] at hP hD
  exact kk _ H1 locs1 (h0.2 _ rfl) ⟨hP, hD, hS⟩
theorem t_ld_slot (X : cX R_T (T_tys gC) ret A p s m args meth c D cc nL) (B : cB D A s H locs (T_ws gA gC u)) {i : Int} {Pr : Int → Prop} (h0 : (0 ≤ i ∧ i < 16) ∧ ∀ v : Int, v = tslot u i.toNat → Pr v) (hdg : decode cc pc = .ok (.iaload, 1)) (kk : ∀ v : Int, Pr v → W p l e R s m args below meth c H locs cells slots Q (F0 m (pc + 1) ls (.int (iI v) :: rest))) : W p l e R s m args below meth c H locs cells slots Q (F0 m pc ls (.int (iI i) :: .ref (gA 2) :: rest)) := by
  obtain ⟨hx, hb, hml, hown, hts, hK, -⟩ := X
  refine va_iald hx hb hK B.1 2 1 (n := 16) (f := fun j => iI (tslot u j)) rfl rfl (iI_in h0.1.1 h0.1.2 (by decide)) hdg ?_
  rw [iI_cl h0.1.1 (Int.lt_trans h0.1.2 (by decide))]
  exact kk _ (h0.2 _ rfl)
theorem t_st_slot (X : cX R_T (T_tys gC) ret A p s m args meth c D cc nL) (B : cB D A s H locs (T_ws gA gC u)) {i x : Int} {Pr : TS → Prop} (h0 : (0 ≤ i ∧ i < 16) ∧ ∀ u2 : TS, u2 = sslot u (va_up (tslot u) i.toNat x) → Pr u2) (hdg : decode cc pc = .ok (.iastore, 1)) (kk : ∀ (u2 : TS) (H1 : Heap) (locs1 : List Loc), Pr u2 → cB D A s H1 locs1 (T_ws gA gC u2) → W p l e R s m args below meth c H1 locs1 cells slots Q (F0 m (pc + 1) ls rest)) : W p l e R s m args below meth c H locs cells slots Q (F0 m pc ls (.int (iI x) :: .int (iI i) :: .ref (gA 2) :: rest)) := by
  obtain ⟨hx, hb, hml, hown, hts, hK, -⟩ := X
  refine va_iast hx hb hK B.1 B.2.1 B.2.2 2 1 (n := 16) (f := fun j => iI (tslot u j)) rfl rfl (iI_in h0.1.1 h0.1.2 (by decide)) hdg (fun H1 locs1 hP hD hS => ?_)
  rw [iI_cl h0.1.1 (Int.lt_trans h0.1.2 (by decide)), iI_up] at hP hD
  exact kk _ H1 locs1 (h0.2 _ rfl) ⟨hP, hD, hS⟩
theorem t_ld_tak (X : cX R_T (T_tys gC) ret A p s m args meth c D cc nL) (B : cB D A s H locs (T_ws gA gC u)) {i : Int} {Pr : Int → Prop} (h0 : (0 ≤ i ∧ i < 16) ∧ ∀ v : Int, v = ttak u i.toNat → Pr v) (hdg : decode cc pc = .ok (.baload, 1)) (kk : ∀ v : Int, Pr v → W p l e R s m args below meth c H locs cells slots Q (F0 m (pc + 1) ls (.int (iI v) :: rest))) : W p l e R s m args below meth c H locs cells slots Q (F0 m pc ls (.int (iI i) :: .ref (gA 3) :: rest)) := by
  obtain ⟨hx, hb, hml, hown, hts, hK, -⟩ := X
  refine va_zald hx hb hK B.1 3 2 (n := 16) (f := fun j => iI (ttak u j)) rfl rfl (iI_in h0.1.1 h0.1.2 (by decide)) hdg ?_
  rw [iI_cl h0.1.1 (Int.lt_trans h0.1.2 (by decide))]
  exact kk _ (h0.2 _ rfl)
theorem t_st_tak (X : cX R_T (T_tys gC) ret A p s m args meth c D cc nL) (B : cB D A s H locs (T_ws gA gC u)) {i x : Int} (hz : vp_nar .boolean (iI x) = iI x) {Pr : TS → Prop} (h0 : (0 ≤ i ∧ i < 16) ∧ ∀ u2 : TS, u2 = stak u (va_up (ttak u) i.toNat x) → Pr u2) (hdg : decode cc pc = .ok (.bastore, 1)) (kk : ∀ (u2 : TS) (H1 : Heap) (locs1 : List Loc), Pr u2 → cB D A s H1 locs1 (T_ws gA gC u2) → W p l e R s m args below meth c H1 locs1 cells slots Q (F0 m (pc + 1) ls rest)) : W p l e R s m args below meth c H locs cells slots Q (F0 m pc ls (.int (iI x) :: .int (iI i) :: .ref (gA 3) :: rest)) := by
  obtain ⟨hx, hb, hml, hown, hts, hK, -⟩ := X
  refine va_zast hx hb hK B.1 B.2.1 B.2.2 3 2 (n := 16) (f := fun j => iI (ttak u j)) rfl rfl (iI_in h0.1.1 h0.1.2 (by decide)) hdg (fun H1 locs1 hP hD hS => ?_)
  rw [hz] at hP hD
  rw [iI_cl h0.1.1 (Int.lt_trans h0.1.2 (by decide)), iI_up] at hP hD
  exact kk _ H1 locs1 (h0.2 _ rfl) ⟨hP, hD, hS⟩
theorem t_ld_siz (X : cX R_T (T_tys gC) ret A p s m args meth c D cc nL) (B : cB D A s H locs (T_ws gA gC u)) {i : Int} {Pr : Int → Prop} (h0 : (0 ≤ i ∧ i < 16) ∧ ∀ v : Int, v = tsiz u i.toNat → Pr v) (hdg : decode cc pc = .ok (.iaload, 1)) (kk : ∀ v : Int, Pr v → W p l e R s m args below meth c H locs cells slots Q (F0 m (pc + 1) ls (.int (iI v) :: rest))) : W p l e R s m args below meth c H locs cells slots Q (F0 m pc ls (.int (iI i) :: .ref (gA 4) :: rest)) := by
  obtain ⟨hx, hb, hml, hown, hts, hK, -⟩ := X
  refine va_iald hx hb hK B.1 4 3 (n := 16) (f := fun j => iI (tsiz u j)) rfl rfl (iI_in h0.1.1 h0.1.2 (by decide)) hdg ?_
  rw [iI_cl h0.1.1 (Int.lt_trans h0.1.2 (by decide))]
  exact kk _ (h0.2 _ rfl)
theorem t_st_siz (X : cX R_T (T_tys gC) ret A p s m args meth c D cc nL) (B : cB D A s H locs (T_ws gA gC u)) {i x : Int} {Pr : TS → Prop} (h0 : (0 ≤ i ∧ i < 16) ∧ ∀ u2 : TS, u2 = ssiz u (va_up (tsiz u) i.toNat x) → Pr u2) (hdg : decode cc pc = .ok (.iastore, 1)) (kk : ∀ (u2 : TS) (H1 : Heap) (locs1 : List Loc), Pr u2 → cB D A s H1 locs1 (T_ws gA gC u2) → W p l e R s m args below meth c H1 locs1 cells slots Q (F0 m (pc + 1) ls rest)) : W p l e R s m args below meth c H locs cells slots Q (F0 m pc ls (.int (iI x) :: .int (iI i) :: .ref (gA 4) :: rest)) := by
  obtain ⟨hx, hb, hml, hown, hts, hK, -⟩ := X
  refine va_iast hx hb hK B.1 B.2.1 B.2.2 4 3 (n := 16) (f := fun j => iI (tsiz u j)) rfl rfl (iI_in h0.1.1 h0.1.2 (by decide)) hdg (fun H1 locs1 hP hD hS => ?_)
  rw [iI_cl h0.1.1 (Int.lt_trans h0.1.2 (by decide)), iI_up] at hP hD
  exact kk _ H1 locs1 (h0.2 _ rfl) ⟨hP, hD, hS⟩
theorem t_ld_dat (X : cX R_T (T_tys gC) ret A p s m args meth c D cc nL) (B : cB D A s H locs (T_ws gA gC u)) {i : Int} {Pr : Int → Prop} (h0 : (0 ≤ i ∧ i < 768) ∧ ∀ v : Int, v = tdat u i.toNat → Pr v) (hdg : decode cc pc = .ok (.iaload, 1)) (kk : ∀ v : Int, Pr v → W p l e R s m args below meth c H locs cells slots Q (F0 m (pc + 1) ls (.int (iI v) :: rest))) : W p l e R s m args below meth c H locs cells slots Q (F0 m pc ls (.int (iI i) :: .ref (gA 5) :: rest)) := by
  obtain ⟨hx, hb, hml, hown, hts, hK, -⟩ := X
  refine va_iald hx hb hK B.1 5 4 (n := 768) (f := fun j => iI (tdat u j)) rfl rfl (iI_in h0.1.1 h0.1.2 (by decide)) hdg ?_
  rw [iI_cl h0.1.1 (Int.lt_trans h0.1.2 (by decide))]
  exact kk _ (h0.2 _ rfl)
theorem t_st_dat (X : cX R_T (T_tys gC) ret A p s m args meth c D cc nL) (B : cB D A s H locs (T_ws gA gC u)) {i x : Int} {Pr : TS → Prop} (h0 : (0 ≤ i ∧ i < 768) ∧ ∀ u2 : TS, u2 = sdat u (va_up (tdat u) i.toNat x) → Pr u2) (hdg : decode cc pc = .ok (.iastore, 1)) (kk : ∀ (u2 : TS) (H1 : Heap) (locs1 : List Loc), Pr u2 → cB D A s H1 locs1 (T_ws gA gC u2) → W p l e R s m args below meth c H1 locs1 cells slots Q (F0 m (pc + 1) ls rest)) : W p l e R s m args below meth c H locs cells slots Q (F0 m pc ls (.int (iI x) :: .int (iI i) :: .ref (gA 5) :: rest)) := by
  obtain ⟨hx, hb, hml, hown, hts, hK, -⟩ := X
  refine va_iast hx hb hK B.1 B.2.1 B.2.2 5 4 (n := 768) (f := fun j => iI (tdat u j)) rfl rfl (iI_in h0.1.1 h0.1.2 (by decide)) hdg (fun H1 locs1 hP hD hS => ?_)
  rw [iI_cl h0.1.1 (Int.lt_trans h0.1.2 (by decide)), iI_up] at hP hD
  exact kk _ H1 locs1 (h0.2 _ rfl) ⟨hP, hD, hS⟩
theorem t_ld_ll (X : cX R_T (T_tys gC) ret A p s m args meth c D cc nL) (B : cB D A s H locs (T_ws gA gC u)) {i : Int} {Pr : Int → Prop} (h0 : (0 ≤ i ∧ i < 96) ∧ ∀ v : Int, v = tll u i.toNat → Pr v) (hdg : decode cc pc = .ok (.iaload, 1)) (kk : ∀ v : Int, Pr v → W p l e R s m args below meth c H locs cells slots Q (F0 m (pc + 1) ls (.int (iI v) :: rest))) : W p l e R s m args below meth c H locs cells slots Q (F0 m pc ls (.int (iI i) :: .ref (gA 6) :: rest)) := by
  obtain ⟨hx, hb, hml, hown, hts, hK, -⟩ := X
  refine va_iald hx hb hK B.1 6 5 (n := 96) (f := fun j => iI (tll u j)) rfl rfl (iI_in h0.1.1 h0.1.2 (by decide)) hdg ?_
  rw [iI_cl h0.1.1 (Int.lt_trans h0.1.2 (by decide))]
  exact kk _ (h0.2 _ rfl)
theorem t_st_ll (X : cX R_T (T_tys gC) ret A p s m args meth c D cc nL) (B : cB D A s H locs (T_ws gA gC u)) {i x : Int} {Pr : TS → Prop} (h0 : (0 ≤ i ∧ i < 96) ∧ ∀ u2 : TS, u2 = sll u (va_up (tll u) i.toNat x) → Pr u2) (hdg : decode cc pc = .ok (.iastore, 1)) (kk : ∀ (u2 : TS) (H1 : Heap) (locs1 : List Loc), Pr u2 → cB D A s H1 locs1 (T_ws gA gC u2) → W p l e R s m args below meth c H1 locs1 cells slots Q (F0 m (pc + 1) ls rest)) : W p l e R s m args below meth c H locs cells slots Q (F0 m pc ls (.int (iI x) :: .int (iI i) :: .ref (gA 6) :: rest)) := by
  obtain ⟨hx, hb, hml, hown, hts, hK, -⟩ := X
  refine va_iast hx hb hK B.1 B.2.1 B.2.2 6 5 (n := 96) (f := fun j => iI (tll u j)) rfl rfl (iI_in h0.1.1 h0.1.2 (by decide)) hdg (fun H1 locs1 hP hD hS => ?_)
  rw [iI_cl h0.1.1 (Int.lt_trans h0.1.2 (by decide)), iI_up] at hP hD
  exact kk _ H1 locs1 (h0.2 _ rfl) ⟨hP, hD, hS⟩
theorem t_ld_len (X : cX R_T (T_tys gC) ret A p s m args meth c D cc nL) (B : cB D A s H locs (T_ws gA gC u)) {i : Int} {Pr : Int → Prop} (h0 : (0 ≤ i ∧ i < 16) ∧ ∀ v : Int, v = tlen u i.toNat → Pr v) (hdg : decode cc pc = .ok (.iaload, 1)) (kk : ∀ v : Int, Pr v → W p l e R s m args below meth c H locs cells slots Q (F0 m (pc + 1) ls (.int (iI v) :: rest))) : W p l e R s m args below meth c H locs cells slots Q (F0 m pc ls (.int (iI i) :: .ref (gA 7) :: rest)) := by
  obtain ⟨hx, hb, hml, hown, hts, hK, -⟩ := X
  refine va_iald hx hb hK B.1 7 6 (n := 16) (f := fun j => iI (tlen u j)) rfl rfl (iI_in h0.1.1 h0.1.2 (by decide)) hdg ?_
  rw [iI_cl h0.1.1 (Int.lt_trans h0.1.2 (by decide))]
  exact kk _ (h0.2 _ rfl)
theorem t_st_len (X : cX R_T (T_tys gC) ret A p s m args meth c D cc nL) (B : cB D A s H locs (T_ws gA gC u)) {i x : Int} {Pr : TS → Prop} (h0 : (0 ≤ i ∧ i < 16) ∧ ∀ u2 : TS, u2 = slen u (va_up (tlen u) i.toNat x) → Pr u2) (hdg : decode cc pc = .ok (.iastore, 1)) (kk : ∀ (u2 : TS) (H1 : Heap) (locs1 : List Loc), Pr u2 → cB D A s H1 locs1 (T_ws gA gC u2) → W p l e R s m args below meth c H1 locs1 cells slots Q (F0 m (pc + 1) ls rest)) : W p l e R s m args below meth c H locs cells slots Q (F0 m pc ls (.int (iI x) :: .int (iI i) :: .ref (gA 7) :: rest)) := by
  obtain ⟨hx, hb, hml, hown, hts, hK, -⟩ := X
  refine va_iast hx hb hK B.1 B.2.1 B.2.2 7 6 (n := 16) (f := fun j => iI (tlen u j)) rfl rfl (iI_in h0.1.1 h0.1.2 (by decide)) hdg (fun H1 locs1 hP hD hS => ?_)
  rw [iI_cl h0.1.1 (Int.lt_trans h0.1.2 (by decide)), iI_up] at hP hD
  exact kk _ H1 locs1 (h0.2 _ rfl) ⟨hP, hD, hS⟩
end RulesT
abbrev MS : Type := Int × (Nat → Int) × (Nat → Int) × (Nat → Int) × Int
def mtm (u : MS) : Int := u.1
def mlet (u : MS) : (Nat → Int) := u.2.1
def mlen (u : MS) : (Nat → Int) := u.2.2.1
def mkey (u : MS) : (Nat → Int) := u.2.2.2.1
def mty (u : MS) : Int := u.2.2.2.2
def rtm (u : MS) (x : Int) : MS := (x, u.2.1, u.2.2.1, u.2.2.2.1, u.2.2.2.2)
def rlet (u : MS) (x : (Nat → Int)) : MS := (u.1, x, u.2.2.1, u.2.2.2.1, u.2.2.2.2)
def rlen (u : MS) (x : (Nat → Int)) : MS := (u.1, u.2.1, x, u.2.2.2.1, u.2.2.2.2)
def rkey (u : MS) (x : (Nat → Int)) : MS := (u.1, u.2.1, u.2.2.1, x, u.2.2.2.2)
def rty (u : MS) (x : Int) : MS := (u.1, u.2.1, u.2.2.1, u.2.2.2.1, x)
def M_ws (gA : Nat → Nat) (gC : Nat → ClassId) (u : MS) : va_W := [(gA 0, .inr (1, [.int (iI (mtm u)), .ref (gA 1), .ref (gA 2), .ref (gA 3), .int (iI (mty u))])), (gA 1, .inl (gC 1, 240, .inl (fun j => iI (mlet u j)))), (gA 2, .inl (gC 2, 40, .inl (fun j => iI (mlen u j)))), (gA 3, .inl (gC 3, 6, .inl (fun j => iI (mkey u j))))]
def M_tys (gC : Nat → ClassId) : List (ClassId × FieldType) := [(gC 1, .int), (gC 2, .int), (gC 3, .int)]
section RulesM
variable {p : Program} {l : Launch} {e : Env} {R : Room} {s : State} {m : MethodId} {args : Array Value} {below : List Frame} {meth : Method} {c : Code} {H : Heap} {locs : List Loc} {cells slots : Nat} {Q : State → Prop} {cc : ByteArray} {pc nL : Nat} {ls : Array Slot} {rest : List Value} {D : va_G} {A : Nat → Prop} {gA : Nat → Nat} {gC : Nat → ClassId} {ret : Option FieldType} {u : MS}
theorem m_get_tm (X : cX R_M (M_tys gC) ret A p s m args meth c D cc nL) (B : cB D A s H locs (M_ws gA gC u)) (hdg : decode cc pc = .ok (.getfield 27, 3)) (kk : W p l e R s m args below meth c H locs cells slots Q (F0 m (pc + 3) ls (.int (iI (mtm u)) :: rest))) : W p l e R s m args below meth c H locs cells slots Q (F0 m pc ls (.ref (gA 0) :: rest)) := by
  obtain ⟨hx, hb, hml, hown, hts, hK, -⟩ := X
  exact va_get (D := D) (ci := 1) (v := .int (iI (mtm u))) (C := R_M) (T := F_M) (N := 5) hx hb hts i_M hown hK B.1 0 rfl rfl 0 (by decide) (hts (.fieldLink R_M 27 "TermIndexModel" "terms" "I") mf_M_tm) (fun _ h9 => h9) rfl hdg kk
theorem m_get_let (X : cX R_M (M_tys gC) ret A p s m args meth c D cc nL) (B : cB D A s H locs (M_ws gA gC u)) (hdg : decode cc pc = .ok (.getfield 7, 3)) (kk : W p l e R s m args below meth c H locs cells slots Q (F0 m (pc + 3) ls (.ref (gA 1) :: rest))) : W p l e R s m args below meth c H locs cells slots Q (F0 m pc ls (.ref (gA 0) :: rest)) := by
  obtain ⟨hx, hb, hml, hown, hts, hK, -⟩ := X
  exact va_get (D := D) (ci := 1) (v := .ref (gA 1)) (C := R_M) (T := F_M) (N := 5) hx hb hts i_M hown hK B.1 0 rfl rfl 1 (by decide) (hts (.fieldLink R_M 7 "TermIndexModel" "letters" "[I") mf_M_let) (fun _ h9 => h9) rfl hdg kk
theorem m_get_len (X : cX R_M (M_tys gC) ret A p s m args meth c D cc nL) (B : cB D A s H locs (M_ws gA gC u)) (hdg : decode cc pc = .ok (.getfield 13, 3)) (kk : W p l e R s m args below meth c H locs cells slots Q (F0 m (pc + 3) ls (.ref (gA 2) :: rest))) : W p l e R s m args below meth c H locs cells slots Q (F0 m pc ls (.ref (gA 0) :: rest)) := by
  obtain ⟨hx, hb, hml, hown, hts, hK, -⟩ := X
  exact va_get (D := D) (ci := 1) (v := .ref (gA 2)) (C := R_M) (T := F_M) (N := 5) hx hb hts i_M hown hK B.1 0 rfl rfl 2 (by decide) (hts (.fieldLink R_M 13 "TermIndexModel" "length" "[I") mf_M_len) (fun _ h9 => h9) rfl hdg kk
theorem m_get_key (X : cX R_M (M_tys gC) ret A p s m args meth c D cc nL) (B : cB D A s H locs (M_ws gA gC u)) (hdg : decode cc pc = .ok (.getfield 16, 3)) (kk : W p l e R s m args below meth c H locs cells slots Q (F0 m (pc + 3) ls (.ref (gA 3) :: rest))) : W p l e R s m args below meth c H locs cells slots Q (F0 m pc ls (.ref (gA 0) :: rest)) := by
  obtain ⟨hx, hb, hml, hown, hts, hK, -⟩ := X
  exact va_get (D := D) (ci := 1) (v := .ref (gA 3)) (C := R_M) (T := F_M) (N := 5) hx hb hts i_M hown hK B.1 0 rfl rfl 3 (by decide) (hts (.fieldLink R_M 16 "TermIndexModel" "key" "[I") mf_M_key) (fun _ h9 => h9) rfl hdg kk
theorem m_get_ty (X : cX R_M (M_tys gC) ret A p s m args meth c D cc nL) (B : cB D A s H locs (M_ws gA gC u)) (hdg : decode cc pc = .ok (.getfield 19, 3)) (kk : W p l e R s m args below meth c H locs cells slots Q (F0 m (pc + 3) ls (.int (iI (mty u)) :: rest))) : W p l e R s m args below meth c H locs cells slots Q (F0 m pc ls (.ref (gA 0) :: rest)) := by
  obtain ⟨hx, hb, hml, hown, hts, hK, -⟩ := X
  exact va_get (D := D) (ci := 1) (v := .int (iI (mty u))) (C := R_M) (T := F_M) (N := 5) hx hb hts i_M hown hK B.1 0 rfl rfl 4 (by decide) (hts (.fieldLink R_M 19 "TermIndexModel" "typed" "I") mf_M_ty) (fun _ h9 => h9) rfl hdg kk
theorem m_put_tm (X : cX R_M (M_tys gC) ret A p s m args meth c D cc nL) (B : cB D A s H locs (M_ws gA gC u)) {z : Int} {Pr : MS → Prop} (h0 : ∀ u2 : MS, u2 = rtm u z → Pr u2) (hdg : decode cc pc = .ok (.putfield 27, 3)) (kk : ∀ (u2 : MS) (H1 : Heap) (locs1 : List Loc), Pr u2 → cB D A s H1 locs1 (M_ws gA gC u2) → W p l e R s m args below meth c H1 locs1 cells slots Q (F0 m (pc + 3) ls rest)) : W p l e R s m args below meth c H locs cells slots Q (F0 m pc ls (.int (iI z) :: .ref (gA 0) :: rest)) := by
  obtain ⟨hx, hb, hml, hown, hts, hK, -⟩ := X
  exact va_put (D := D) (ci := 1) (v := .int (iI z)) (ty := .int) (C := R_M) (T := F_M) (N := 5) hx hb hts i_M fy_M fy_M_ok n_M hown hK B.1 B.2.1 B.2.2 0 rfl rfl 0 (by decide) (hts (.fieldLink R_M 27 "TermIndexModel" "terms" "I") mf_M_tm) (fun _ h9 => h9) rfl (by decide +kernel) rfl rfl (Nat.le_of_ble_eq_true rfl) hdg (fun H1 locs1 hP hD hS => kk (rtm u z) H1 locs1 (h0 _ rfl) ⟨hP, hD, hS⟩)
theorem m_put_ty (X : cX R_M (M_tys gC) ret A p s m args meth c D cc nL) (B : cB D A s H locs (M_ws gA gC u)) {z : Int} {Pr : MS → Prop} (h0 : ∀ u2 : MS, u2 = rty u z → Pr u2) (hdg : decode cc pc = .ok (.putfield 19, 3)) (kk : ∀ (u2 : MS) (H1 : Heap) (locs1 : List Loc), Pr u2 → cB D A s H1 locs1 (M_ws gA gC u2) → W p l e R s m args below meth c H1 locs1 cells slots Q (F0 m (pc + 3) ls rest)) : W p l e R s m args below meth c H locs cells slots Q (F0 m pc ls (.int (iI z) :: .ref (gA 0) :: rest)) := by
  obtain ⟨hx, hb, hml, hown, hts, hK, -⟩ := X
  exact va_put (D := D) (ci := 1) (v := .int (iI z)) (ty := .int) (C := R_M) (T := F_M) (N := 5) hx hb hts i_M fy_M fy_M_ok n_M hown hK B.1 B.2.1 B.2.2 0 rfl rfl 4 (by decide) (hts (.fieldLink R_M 19 "TermIndexModel" "typed" "I") mf_M_ty) (fun _ h9 => h9) rfl (by decide +kernel) rfl rfl (Nat.le_of_ble_eq_true rfl) hdg (fun H1 locs1 hP hD hS => kk (rty u z) H1 locs1 (h0 _ rfl) ⟨hP, hD, hS⟩)
theorem m_ld_let (X : cX R_M (M_tys gC) ret A p s m args meth c D cc nL) (B : cB D A s H locs (M_ws gA gC u)) {i : Int} {Pr : Int → Prop} (h0 : (0 ≤ i ∧ i < 240) ∧ ∀ v : Int, v = mlet u i.toNat → Pr v) (hdg : decode cc pc = .ok (.iaload, 1)) (kk : ∀ v : Int, Pr v → W p l e R s m args below meth c H locs cells slots Q (F0 m (pc + 1) ls (.int (iI v) :: rest))) : W p l e R s m args below meth c H locs cells slots Q (F0 m pc ls (.int (iI i) :: .ref (gA 1) :: rest)) := by
  obtain ⟨hx, hb, hml, hown, hts, hK, -⟩ := X
  refine va_iald hx hb hK B.1 1 0 (n := 240) (f := fun j => iI (mlet u j)) rfl rfl (iI_in h0.1.1 h0.1.2 (by decide)) hdg ?_
  rw [iI_cl h0.1.1 (Int.lt_trans h0.1.2 (by decide))]
  exact kk _ (h0.2 _ rfl)
theorem m_st_let (X : cX R_M (M_tys gC) ret A p s m args meth c D cc nL) (B : cB D A s H locs (M_ws gA gC u)) {i x : Int} {Pr : MS → Prop} (h0 : (0 ≤ i ∧ i < 240) ∧ ∀ u2 : MS, u2 = rlet u (va_up (mlet u) i.toNat x) → Pr u2) (hdg : decode cc pc = .ok (.iastore, 1)) (kk : ∀ (u2 : MS) (H1 : Heap) (locs1 : List Loc), Pr u2 → cB D A s H1 locs1 (M_ws gA gC u2) → W p l e R s m args below meth c H1 locs1 cells slots Q (F0 m (pc + 1) ls rest)) : W p l e R s m args below meth c H locs cells slots Q (F0 m pc ls (.int (iI x) :: .int (iI i) :: .ref (gA 1) :: rest)) := by
  obtain ⟨hx, hb, hml, hown, hts, hK, -⟩ := X
  refine va_iast hx hb hK B.1 B.2.1 B.2.2 1 0 (n := 240) (f := fun j => iI (mlet u j)) rfl rfl (iI_in h0.1.1 h0.1.2 (by decide)) hdg (fun H1 locs1 hP hD hS => ?_)
  rw [iI_cl h0.1.1 (Int.lt_trans h0.1.2 (by decide)), iI_up] at hP hD
  exact kk _ H1 locs1 (h0.2 _ rfl) ⟨hP, hD, hS⟩
theorem m_ld_len (X : cX R_M (M_tys gC) ret A p s m args meth c D cc nL) (B : cB D A s H locs (M_ws gA gC u)) {i : Int} {Pr : Int → Prop} (h0 : (0 ≤ i ∧ i < 40) ∧ ∀ v : Int, v = mlen u i.toNat → Pr v) (hdg : decode cc pc = .ok (.iaload, 1)) (kk : ∀ v : Int, Pr v → W p l e R s m args below meth c H locs cells slots Q (F0 m (pc + 1) ls (.int (iI v) :: rest))) : W p l e R s m args below meth c H locs cells slots Q (F0 m pc ls (.int (iI i) :: .ref (gA 2) :: rest)) := by
  obtain ⟨hx, hb, hml, hown, hts, hK, -⟩ := X
  refine va_iald hx hb hK B.1 2 1 (n := 40) (f := fun j => iI (mlen u j)) rfl rfl (iI_in h0.1.1 h0.1.2 (by decide)) hdg ?_
  rw [iI_cl h0.1.1 (Int.lt_trans h0.1.2 (by decide))]
  exact kk _ (h0.2 _ rfl)
theorem m_st_len (X : cX R_M (M_tys gC) ret A p s m args meth c D cc nL) (B : cB D A s H locs (M_ws gA gC u)) {i x : Int} {Pr : MS → Prop} (h0 : (0 ≤ i ∧ i < 40) ∧ ∀ u2 : MS, u2 = rlen u (va_up (mlen u) i.toNat x) → Pr u2) (hdg : decode cc pc = .ok (.iastore, 1)) (kk : ∀ (u2 : MS) (H1 : Heap) (locs1 : List Loc), Pr u2 → cB D A s H1 locs1 (M_ws gA gC u2) → W p l e R s m args below meth c H1 locs1 cells slots Q (F0 m (pc + 1) ls rest)) : W p l e R s m args below meth c H locs cells slots Q (F0 m pc ls (.int (iI x) :: .int (iI i) :: .ref (gA 2) :: rest)) := by
  obtain ⟨hx, hb, hml, hown, hts, hK, -⟩ := X
  refine va_iast hx hb hK B.1 B.2.1 B.2.2 2 1 (n := 40) (f := fun j => iI (mlen u j)) rfl rfl (iI_in h0.1.1 h0.1.2 (by decide)) hdg (fun H1 locs1 hP hD hS => ?_)
  rw [iI_cl h0.1.1 (Int.lt_trans h0.1.2 (by decide)), iI_up] at hP hD
  exact kk _ H1 locs1 (h0.2 _ rfl) ⟨hP, hD, hS⟩
theorem m_ld_key (X : cX R_M (M_tys gC) ret A p s m args meth c D cc nL) (B : cB D A s H locs (M_ws gA gC u)) {i : Int} {Pr : Int → Prop} (h0 : (0 ≤ i ∧ i < 6) ∧ ∀ v : Int, v = mkey u i.toNat → Pr v) (hdg : decode cc pc = .ok (.iaload, 1)) (kk : ∀ v : Int, Pr v → W p l e R s m args below meth c H locs cells slots Q (F0 m (pc + 1) ls (.int (iI v) :: rest))) : W p l e R s m args below meth c H locs cells slots Q (F0 m pc ls (.int (iI i) :: .ref (gA 3) :: rest)) := by
  obtain ⟨hx, hb, hml, hown, hts, hK, -⟩ := X
  refine va_iald hx hb hK B.1 3 2 (n := 6) (f := fun j => iI (mkey u j)) rfl rfl (iI_in h0.1.1 h0.1.2 (by decide)) hdg ?_
  rw [iI_cl h0.1.1 (Int.lt_trans h0.1.2 (by decide))]
  exact kk _ (h0.2 _ rfl)
theorem m_st_key (X : cX R_M (M_tys gC) ret A p s m args meth c D cc nL) (B : cB D A s H locs (M_ws gA gC u)) {i x : Int} {Pr : MS → Prop} (h0 : (0 ≤ i ∧ i < 6) ∧ ∀ u2 : MS, u2 = rkey u (va_up (mkey u) i.toNat x) → Pr u2) (hdg : decode cc pc = .ok (.iastore, 1)) (kk : ∀ (u2 : MS) (H1 : Heap) (locs1 : List Loc), Pr u2 → cB D A s H1 locs1 (M_ws gA gC u2) → W p l e R s m args below meth c H1 locs1 cells slots Q (F0 m (pc + 1) ls rest)) : W p l e R s m args below meth c H locs cells slots Q (F0 m pc ls (.int (iI x) :: .int (iI i) :: .ref (gA 3) :: rest)) := by
  obtain ⟨hx, hb, hml, hown, hts, hK, -⟩ := X
  refine va_iast hx hb hK B.1 B.2.1 B.2.2 3 2 (n := 6) (f := fun j => iI (mkey u j)) rfl rfl (iI_in h0.1.1 h0.1.2 (by decide)) hdg (fun H1 locs1 hP hD hS => ?_)
  rw [iI_cl h0.1.1 (Int.lt_trans h0.1.2 (by decide)), iI_up] at hP hD
  exact kk _ H1 locs1 (h0.2 _ rfl) ⟨hP, hD, hS⟩
end RulesM
end
section
def wm_T_type (x1 : Int) (u : TS) (post : Int → TS → Prop) : Prop :=
    br_lt x1 0 (
      post (-1) u) (
      br_lt 9 x1 (
        post (-1) u) (
        br_lt (tkl u) 6 (
          (0 ≤ (tkl u) ∧ (tkl u) < 6) ∧ ∀ u30 : TS, u30 = skey u (va_up (tkey u) ((tkl u)).toNat x1) → (
          ∀ u38 : TS, u38 = skl u30 ((tkl u30) + 1) → (
          post (tkl u38) u38))) (
          post (-1) u)))
def wm_T_back (u : TS) (post : Int → TS → Prop) : Prop :=
    br_eq (tkl u) 0 (
      post (-1) u) (
      ∀ u16 : TS, u16 = skl u ((tkl u) - 1) → (
      (0 ≤ (tkl u16) ∧ (tkl u16) < 6) ∧ ∀ v27 : Int, v27 = tkey u16 ((tkl u16)).toNat → (
      post v27 u16)))
def wm_T_erase (u : TS) (post : TS → Prop) : Prop :=
    ∀ u2 : TS, u2 = skl u 0 → (
    post u2)
def wm_T_letter (x1 : Int) (u : TS) (post : Int → TS → Prop) : Prop :=
    br_lt x1 0 (
      post (-1) u) (
      br_lt x1 (tkl u) (
        (0 ≤ x1 ∧ x1 < 6) ∧ ∀ v21 : Int, v21 = tkey u (x1).toNat → (
        post v21 u)) (
        post (-1) u))
def wm_T_size (u : TS) (post : Int → TS → Prop) : Prop :=
    post (ttot u) u
def wl_T_sharedWithKey_2 (x1 : Int) (K : Int → TS → Prop) : Nat → Int → TS → Prop
  | 0, _, _ => False
  | n + 1, x2, u =>
    br_le (tkl u) x2 (
      K x2 u) (
      (0 ≤ x1 ∧ x1 < 16) ∧ ∀ v16 : Int, v16 = tlen u (x1).toNat → (
      br_le v16 x2 (
        K x2 u) (
        (0 ≤ ((6 * x1) + x2) ∧ ((6 * x1) + x2) < 96) ∧ ∀ v30 : Int, v30 = tll u (((6 * x1) + x2)).toNat → (
        (0 ≤ x2 ∧ x2 < 6) ∧ ∀ v36 : Int, v36 = tkey u (x2).toNat → (
        br_eq v30 v36 (
          wl_T_sharedWithKey_2 x1 K n (x2 + 1) u) (
          K x2 u))))))
def wm_T_sharedWithKey (x1 : Int) (u : TS) (post : Int → TS → Prop) : Prop :=
    ∃ n2, wl_T_sharedWithKey_2 x1 (fun y46_2 u46 =>
      post y46_2 u46) n2 0 u
def wl_T_termsBefore_4 (x1 : Int) (K : Int → TS → Prop) : Nat → Int → Int → TS → Prop
  | 0, _, _, _ => False
  | n + 1, x2, x3, u =>
    br_le x1 x3 (
      K x2 u) (
      (0 ≤ x3 ∧ x3 < 16) ∧ ∀ v19 : Int, v19 = tslot u (x3).toNat → (
      (0 ≤ v19 ∧ v19 < 16) ∧ ∀ v20 : Int, v20 = tsiz u (v19).toNat → (
      wl_T_termsBefore_4 x1 K n (x2 + v20) (x3 + 1) u)))
def wm_T_termsBefore (x1 : Int) (u : TS) (post : Int → TS → Prop) : Prop :=
    ∃ n4, wl_T_termsBefore_4 x1 (fun y29_2 u29 =>
      post y29_2 u29) n4 0 0 u
def wl_T_blockOfRank_4 (x1 : Int) (post : Int → TS → Prop) (K : TS → Prop) : Nat → Int → Int → TS → Prop
  | 0, _, _, _ => False
  | n + 1, x2, x3, u =>
    br_le (tbl u) x3 (
      K u) (
      (0 ≤ x3 ∧ x3 < 16) ∧ ∀ v22 : Int, v22 = tslot u (x3).toNat → (
      (0 ≤ v22 ∧ v22 < 16) ∧ ∀ v23 : Int, v23 = tsiz u (v22).toNat → (
      br_le (x2 + v23) x1 (
        wl_T_blockOfRank_4 x1 post K n (x2 + v23) (x3 + 1) u) (
        post x3 u))))
def wm_T_blockOfRank (x1 : Int) (u : TS) (post : Int → TS → Prop) : Prop :=
    ∃ n4, wl_T_blockOfRank_4 x1 post (fun u39 =>
      post 0 u39) n4 0 0 u
def wl_T_matched_19 (x1 : Int) (x4 : Int) (K : Int → TS → Prop) : Nat → Int → TS → Prop
  | 0, _, _ => False
  | n + 1, x3, u =>
    br_le (tkl u) x3 (
      K x3 u) (
      br_le x4 x3 (
        K x3 u) (
        (0 ≤ x1 ∧ x1 < 768) ∧ ∀ v47 : Int, v47 = tdat u (x1).toNat → (
        (0 ≤ (((x1 + 2) + x3) - v47) ∧ (((x1 + 2) + x3) - v47) < 768) ∧ ∀ v49 : Int, v49 = tdat u ((((x1 + 2) + x3) - v47)).toNat → (
        (0 ≤ x3 ∧ x3 < 6) ∧ ∀ v55 : Int, v55 = tkey u (x3).toNat → (
        br_eq v49 v55 (
          wl_T_matched_19 x1 x4 K n (x3 + 1) u) (
          K x3 u))))))
def wm_T_matched (x1 : Int) (x2 : Int) (u : TS) (post : Int → TS → Prop) : Prop :=
    (0 ≤ x1 ∧ x1 < 768) ∧ ∀ v7 : Int, v7 = tdat u (x1).toNat → (
    (0 ≤ (x1 + 1) ∧ (x1 + 1) < 768) ∧ ∀ v15 : Int, v15 = tdat u ((x1 + 1)).toNat → (
    ∃ n19, wl_T_matched_19 x1 (v7 + v15) (fun y65_3 u65 =>
      post y65_3 u65) n19 x2 u))
def wm_T_isLess (x1 : Int) (x2 : Int) (x3 : Int) (u : TS) (post : Int → TS → Prop) : Prop :=
    br_eq x2 (tkl u) (
      ((x3 : Int) = 0 ∨ (x3 : Int) = 1) ∧ post x3 u) (
      (0 ≤ x1 ∧ x1 < 768) ∧ ∀ v16 : Int, v16 = tdat u (x1).toNat → (
      (0 ≤ (x1 + 1) ∧ (x1 + 1) < 768) ∧ ∀ v24 : Int, v24 = tdat u ((x1 + 1)).toNat → (
      br_eq x2 (v16 + v24) (
        ((1 : Int) = 0 ∨ (1 : Int) = 1) ∧ post 1 u) (
        (0 ≤ x1 ∧ x1 < 768) ∧ ∀ v43 : Int, v43 = tdat u (x1).toNat → (
        (0 ≤ (((x1 + 2) + x2) - v43) ∧ (((x1 + 2) + x2) - v43) < 768) ∧ ∀ v45 : Int, v45 = tdat u ((((x1 + 2) + x2) - v43)).toNat → (
        (0 ≤ x2 ∧ x2 < 6) ∧ ∀ v51 : Int, v51 = tkey u (x2).toNat → (
        br_le v51 v45 (
          ((0 : Int) = 0 ∨ (0 : Int) = 1) ∧ post 0 u) (
          ((1 : Int) = 0 ∨ (1 : Int) = 1) ∧ post 1 u))))))))
def wl_T_unpack_34 (x2 : Int) (x3 : Int) (K : TS → Prop) : Nat → Int → TS → Prop
  | 0, _, _ => False
  | n + 1, x5, u =>
    (0 ≤ x2 ∧ x2 < 768) ∧ ∀ v41 : Int, v41 = tdat u (x2).toNat → (
    br_le v41 x5 (
      K u) (
      (0 ≤ (x3 + x5) ∧ (x3 + x5) < 96) ∧ ∀ v67 : Int, v67 = tll u ((x3 + x5)).toNat → (
      (0 ≤ ((6 * (tli u)) + x5) ∧ ((6 * (tli u)) + x5) < 96) ∧ ∀ u68 : TS, u68 = sll u (va_up (tll u) (((6 * (tli u)) + x5)).toNat v67) → (
      wl_T_unpack_34 x2 x3 K n (x5 + 1) u68))))
def wl_T_unpack_78 (x2 : Int) (K : TS → Prop) : Nat → Int → TS → Prop
  | 0, _, _ => False
  | n + 1, x5, u =>
    (0 ≤ (x2 + 1) ∧ (x2 + 1) < 768) ∧ ∀ v87 : Int, v87 = tdat u ((x2 + 1)).toNat → (
    br_le v87 x5 (
      K u) (
      (0 ≤ x2 ∧ x2 < 768) ∧ ∀ v107 : Int, v107 = tdat u (x2).toNat → (
      (0 ≤ ((x2 + 2) + x5) ∧ ((x2 + 2) + x5) < 768) ∧ ∀ v122 : Int, v122 = tdat u (((x2 + 2) + x5)).toNat → (
      (0 ≤ (((6 * (tli u)) + v107) + x5) ∧ (((6 * (tli u)) + v107) + x5) < 96) ∧ ∀ u123 : TS, u123 = sll u (va_up (tll u) ((((6 * (tli u)) + v107) + x5)).toNat v122) → (
      wl_T_unpack_78 x2 K n (x5 + 1) u123)))))
def wl_T_unpack_15 (x1 : Int) (K : TS → Prop) : Nat → Int → Int → Int → TS → Prop
  | 0, _, _, _, _ => False
  | n + 1, x2, x3, x4, u =>
    (0 ≤ x1 ∧ x1 < 16) ∧ ∀ v26 : Int, v26 = tslot u (x1).toNat → (
    (0 ≤ v26 ∧ v26 < 16) ∧ ∀ v27 : Int, v27 = tsiz u (v26).toNat → (
    br_le v27 x4 (
      K u) (
      ∃ n34, wl_T_unpack_34 x2 x3 (fun u75 =>
        ∃ n78, wl_T_unpack_78 x2 (fun u130 =>
          (0 ≤ x2 ∧ x2 < 768) ∧ ∀ v143 : Int, v143 = tdat u130 (x2).toNat → (
          (0 ≤ (x2 + 1) ∧ (x2 + 1) < 768) ∧ ∀ v151 : Int, v151 = tdat u130 ((x2 + 1)).toNat → (
          (0 ≤ (tli u130) ∧ (tli u130) < 16) ∧ ∀ u153 : TS, u153 = slen u130 (va_up (tlen u130) ((tli u130)).toNat (v143 + v151)) → (
          ∀ u169 : TS, u169 = sli u153 ((tli u153) + 1) → (
          (0 ≤ (x2 + 1) ∧ (x2 + 1) < 768) ∧ ∀ v181 : Int, v181 = tdat u169 ((x2 + 1)).toNat → (
          wl_T_unpack_15 x1 K n (x2 + (2 + v181)) (6 * (tli u153)) (x4 + 1) u169)))))) n78 0 u75) n34 0 u)))
def wm_T_unpack (x1 : Int) (u : TS) (post : TS → Prop) : Prop :=
    (0 ≤ x1 ∧ x1 < 16) ∧ ∀ v7 : Int, v7 = tslot u (x1).toNat → (
    ∃ n15, wl_T_unpack_15 x1 (fun u191 =>
      post u191) n15 (48 * v7) 0 0 u)
def wl_T_copyInList_2 (x1 : Int) (x2 : Int) (K : TS → Prop) : Nat → Int → TS → Prop
  | 0, _, _ => False
  | n + 1, x3, u =>
    (0 ≤ x1 ∧ x1 < 16) ∧ ∀ v8 : Int, v8 = tlen u (x1).toNat → (
    br_le v8 x3 (
      K u) (
      (0 ≤ ((6 * x1) + x3) ∧ ((6 * x1) + x3) < 96) ∧ ∀ v32 : Int, v32 = tll u (((6 * x1) + x3)).toNat → (
      (0 ≤ ((6 * x2) + x3) ∧ ((6 * x2) + x3) < 96) ∧ ∀ u33 : TS, u33 = sll u (va_up (tll u) (((6 * x2) + x3)).toNat v32) → (
      wl_T_copyInList_2 x1 x2 K n (x3 + 1) u33))))
def wm_T_copyInList (x1 : Int) (x2 : Int) (u : TS) (post : TS → Prop) : Prop :=
    ∃ n2, wl_T_copyInList_2 x1 x2 (fun u40 =>
      (0 ≤ x1 ∧ x1 < 16) ∧ ∀ v50 : Int, v50 = tlen u40 (x1).toNat → (
      (0 ≤ x2 ∧ x2 < 16) ∧ ∀ u51 : TS, u51 = slen u40 (va_up (tlen u40) (x2).toNat v50) → (
      post u51))) n2 0 u
def wl_T_openBlock_5 (K : Int → TS → Prop) : Nat → Int → Int → TS → Prop
  | 0, _, _, _ => False
  | n + 1, x2, x3, u =>
    br_lt x3 0 (
      K x2 u) (
      (0 ≤ x3 ∧ x3 < 16) ∧ ∀ v14 : Int, v14 = ttak u (x3).toNat → (
      br_eq v14 0 (
        wl_T_openBlock_5 K n x3 (x3 + (-1)) u) (
        wl_T_openBlock_5 K n x2 (x3 + (-1)) u)))
def wl_T_openBlock_45 (x1 : Int) (K : TS → Prop) : Nat → Int → TS → Prop
  | 0, _, _ => False
  | n + 1, x3, u =>
    br_le x3 x1 (
      K u) (
      (0 ≤ (x3 - 1) ∧ (x3 - 1) < 16) ∧ ∀ v62 : Int, v62 = tslot u ((x3 - 1)).toNat → (
      (0 ≤ x3 ∧ x3 < 16) ∧ ∀ u63 : TS, u63 = sslot u (va_up (tslot u) (x3).toNat v62) → (
      wl_T_openBlock_45 x1 K n (x3 + (-1)) u63)))
def wm_T_openBlock (x1 : Int) (u : TS) (post : TS → Prop) : Prop :=
    ∃ n5, wl_T_openBlock_5 (fun y26_2 u26 =>
      (0 ≤ y26_2 ∧ y26_2 < 16) ∧ ∀ u32 : TS, u32 = stak u26 (va_up (ttak u26) (y26_2).toNat 1) → (
      (0 ≤ y26_2 ∧ y26_2 < 16) ∧ ∀ u39 : TS, u39 = ssiz u32 (va_up (tsiz u32) (y26_2).toNat 0) → (
      ∃ n45, wl_T_openBlock_45 x1 (fun u70 =>
        (0 ≤ x1 ∧ x1 < 16) ∧ ∀ u76 : TS, u76 = sslot u70 (va_up (tslot u70) (x1).toNat y26_2) → (
        ∀ u84 : TS, u84 = sbl u76 ((tbl u76) + 1) → (
        post u84))) n45 (tbl u39) u39))) n5 0 15 u
def wl_T_closeBlock_14 (K : TS → Prop) : Nat → Int → TS → Prop
  | 0, _, _ => False
  | n + 1, x2, u =>
    br_le (tbl u) (x2 + 1) (
      K u) (
      (0 ≤ (x2 + 1) ∧ (x2 + 1) < 16) ∧ ∀ v36 : Int, v36 = tslot u ((x2 + 1)).toNat → (
      (0 ≤ x2 ∧ x2 < 16) ∧ ∀ u37 : TS, u37 = sslot u (va_up (tslot u) (x2).toNat v36) → (
      wl_T_closeBlock_14 K n (x2 + 1) u37)))
def wm_T_closeBlock (x1 : Int) (u : TS) (post : TS → Prop) : Prop :=
    (0 ≤ x1 ∧ x1 < 16) ∧ ∀ v9 : Int, v9 = tslot u (x1).toNat → (
    (0 ≤ v9 ∧ v9 < 16) ∧ ∀ u11 : TS, u11 = stak u (va_up (ttak u) (v9).toNat 0) → (
    ∃ n14, wl_T_closeBlock_14 (fun u44 =>
      ∀ u51 : TS, u51 = sbl u44 ((tbl u44) - 1) → (
      post u51)) n14 x1 u11))
def wl_T_sharedInList_2 (x1 : Int) (x2 : Int) (K : Int → TS → Prop) : Nat → Int → TS → Prop
  | 0, _, _ => False
  | n + 1, x3, u =>
    (0 ≤ x1 ∧ x1 < 16) ∧ ∀ v8 : Int, v8 = tlen u (x1).toNat → (
    br_le v8 x3 (
      K x3 u) (
      (0 ≤ x2 ∧ x2 < 16) ∧ ∀ v18 : Int, v18 = tlen u (x2).toNat → (
      br_le v18 x3 (
        K x3 u) (
        (0 ≤ ((6 * x1) + x3) ∧ ((6 * x1) + x3) < 96) ∧ ∀ v32 : Int, v32 = tll u (((6 * x1) + x3)).toNat → (
        (0 ≤ ((6 * x2) + x3) ∧ ((6 * x2) + x3) < 96) ∧ ∀ v43 : Int, v43 = tll u (((6 * x2) + x3)).toNat → (
        br_eq v32 v43 (
          wl_T_sharedInList_2 x1 x2 K n (x3 + 1) u) (
          K x3 u)))))))
def wm_T_sharedInList (x1 : Int) (x2 : Int) (u : TS) (post : Int → TS → Prop) : Prop :=
    ∃ n2, wl_T_sharedInList_2 x1 x2 (fun y53_3 u53 =>
      post y53_3 u53) n2 0 u
def wl_T_load_51 (x3 : Int) (K : TS → Prop) : Nat → Int → TS → Prop
  | 0, _, _ => False
  | n + 1, x4, u =>
    br_le (tkl u) x4 (
      K u) (
      (0 ≤ ((6 * x3) + x4) ∧ ((6 * x3) + x4) < 96) ∧ ∀ v77 : Int, v77 = tll u (((6 * x3) + x4)).toNat → (
      (0 ≤ x4 ∧ x4 < 6) ∧ ∀ u78 : TS, u78 = skey u (va_up (tkey u) (x4).toNat v77) → (
      wl_T_load_51 x3 K n (x4 + 1) u78)))
def wm_T_load (x1 : Int) (u : TS) (post : Int → TS → Prop) : Prop :=
    br_lt x1 0 (
      post (-1) u) (
      br_lt x1 (ttot u) (
        wm_T_blockOfRank x1 u (fun r16 u16 => (
        ∀ u22 : TS, u22 = sli u16 0 → (
        wm_T_unpack r16 u22 (fun u27 => (
        wm_T_termsBefore r16 u27 (fun r33 u33 => (
        (0 ≤ (x1 - r33) ∧ (x1 - r33) < 16) ∧ ∀ v44 : Int, v44 = tlen u33 ((x1 - r33)).toNat → (
        ∀ u45 : TS, u45 = skl u33 v44 → (
        ∃ n51, wl_T_load_51 (x1 - r33) (fun u85 =>
          post (tkl u85) u85) n51 0 u45)))))))))) (
        post (-1) u))
def wm_T_sharedAtRank (x1 : Int) (u : TS) (post : Int → TS → Prop) : Prop :=
    wm_T_blockOfRank x1 u (fun r2 u2 => (
    ∀ u8 : TS, u8 = sli u2 0 → (
    wm_T_unpack r2 u8 (fun u13 => (
    wm_T_termsBefore r2 u13 (fun r19 u19 => (
    wm_T_sharedWithKey (x1 - r19) u19 (fun r26 u26 => (
    post r26 u26)))))))))
def wm_T_headIsLess (x1 : Int) (x2 : Int) (u : TS) (post : Int → TS → Prop) : Prop :=
    (0 ≤ x1 ∧ x1 < 16) ∧ ∀ v7 : Int, v7 = tslot u (x1).toNat → (
    wm_T_matched (48 * v7) 0 u (fun r13 u13 => (
    wm_T_isLess (48 * v7) r13 x2 u13 (fun r23 u23 => (
    ((r23 : Int) = 0 ∨ (r23 : Int) = 1) ∧ post r23 u23)))))
def wl_T_scanBlock_19 (x1 : Int) (x2 : Int) (post : Int → TS → Prop) (K : Int → TS → Prop) : Nat → Int → Int → Int → Int → TS → Prop
  | 0, _, _, _, _, _ => False
  | n + 1, x3, x4, x5, x6, u =>
    (0 ≤ x1 ∧ x1 < 16) ∧ ∀ v26 : Int, v26 = tsiz u (x1).toNat → (
    br_le v26 x6 (
      K x5 u) (
      (0 ≤ (x3 + 1) ∧ (x3 + 1) < 768) ∧ ∀ v39 : Int, v39 = tdat u ((x3 + 1)).toNat → (
      (0 ≤ (x3 + (2 + v39)) ∧ (x3 + (2 + v39)) < 768) ∧ ∀ v48 : Int, v48 = tdat u ((x3 + (2 + v39))).toNat → (
      br_le x4 v48 (
        (0 ≤ (x3 + (2 + v39)) ∧ (x3 + (2 + v39)) < 768) ∧ ∀ v62 : Int, v62 = tdat u ((x3 + (2 + v39))).toNat → (
        br_eq v62 x4 (
          wm_T_matched (x3 + (2 + v39)) x4 u (fun r72 u72 => (
          wm_T_isLess (x3 + (2 + v39)) r72 x2 u72 (fun r82 u82 => (
          br_eq r82 0 (
            post x5 u82) (
            wl_T_scanBlock_19 x1 x2 post K n (x3 + (2 + v39)) r72 (x5 + 1) (x6 + 1) u82)))))) (
          wl_T_scanBlock_19 x1 x2 post K n (x3 + (2 + v39)) x4 (x5 + 1) (x6 + 1) u))) (
        post x5 u)))))
def wm_T_scanBlock (x1 : Int) (x2 : Int) (u : TS) (post : Int → TS → Prop) : Prop :=
    wm_T_matched (48 * x1) 0 u (fun r8 u8 => (
    ∃ n19, wl_T_scanBlock_19 x1 x2 post (fun y100_5 u100 =>
      post y100_5 u100) n19 (48 * x1) r8 1 1 u8))
def wl_T_putKeyInList_5 (x1 : Int) (K : TS → Prop) : Nat → Int → TS → Prop
  | 0, _, _ => False
  | n + 1, x2, u =>
    br_le x2 x1 (
      K u) (
      wm_T_copyInList (x2 - 1) x2 u (fun u15 => (
      wl_T_putKeyInList_5 x1 K n (x2 + (-1)) u15)))
def wl_T_putKeyInList_26 (x1 : Int) (K : TS → Prop) : Nat → Int → TS → Prop
  | 0, _, _ => False
  | n + 1, x2, u =>
    br_le (tkl u) x2 (
      K u) (
      (0 ≤ x2 ∧ x2 < 6) ∧ ∀ v49 : Int, v49 = tkey u (x2).toNat → (
      (0 ≤ ((6 * x1) + x2) ∧ ((6 * x1) + x2) < 96) ∧ ∀ u50 : TS, u50 = sll u (va_up (tll u) (((6 * x1) + x2)).toNat v49) → (
      wl_T_putKeyInList_26 x1 K n (x2 + 1) u50)))
def wm_T_putKeyInList (x1 : Int) (u : TS) (post : TS → Prop) : Prop :=
    ∃ n5, wl_T_putKeyInList_5 x1 (fun u24 =>
      ∃ n26, wl_T_putKeyInList_26 x1 (fun u57 =>
        (0 ≤ x1 ∧ x1 < 16) ∧ ∀ u66 : TS, u66 = slen u57 (va_up (tlen u57) (x1).toNat (tkl u57)) → (
        ∀ u74 : TS, u74 = sli u66 ((tli u66) + 1) → (
        post u74))) n26 0 u24) n5 (tli u) u
def wl_T_takeFromList_2 (K : TS → Prop) : Nat → Int → TS → Prop
  | 0, _, _ => False
  | n + 1, x2, u =>
    br_le (tli u) (x2 + 1) (
      K u) (
      wm_T_copyInList (x2 + 1) x2 u (fun u17 => (
      wl_T_takeFromList_2 K n (x2 + 1) u17)))
def wm_T_takeFromList (x1 : Int) (u : TS) (post : TS → Prop) : Prop :=
    ∃ n2, wl_T_takeFromList_2 (fun u26 =>
      ∀ u33 : TS, u33 = sli u26 ((tli u26) - 1) → (
      post u33)) n2 x1 u
def wl_T_pack_78 (x5 : Int) (x6 : Int) (x7 : Int) (K : TS → Prop) : Nat → Int → TS → Prop
  | 0, _, _ => False
  | n + 1, x8, u =>
    (0 ≤ x6 ∧ x6 < 16) ∧ ∀ v86 : Int, v86 = tlen u (x6).toNat → (
    br_le v86 x8 (
      K u) (
      (0 ≤ ((6 * x6) + x8) ∧ ((6 * x6) + x8) < 96) ∧ ∀ v116 : Int, v116 = tll u (((6 * x6) + x8)).toNat → (
      (0 ≤ (((x5 + 2) + x8) - x7) ∧ (((x5 + 2) + x8) - x7) < 768) ∧ ∀ u117 : TS, u117 = sdat u (va_up (tdat u) ((((x5 + 2) + x8) - x7)).toNat v116) → (
      wl_T_pack_78 x5 x6 x7 K n (x8 + 1) u117))))
def wj_T_pack_44 (C18 : Int → Int → TS → Prop) (x5 : Int) (x6 : Int) (z0 : Int) (u : TS) : Prop :=
    (0 ≤ x5 ∧ x5 < 768) ∧ ∀ u54 : TS, u54 = sdat u (va_up (tdat u) (x5).toNat z0) → (
    (0 ≤ x6 ∧ x6 < 16) ∧ ∀ v69 : Int, v69 = tlen u54 (x6).toNat → (
    (0 ≤ (x5 + 1) ∧ (x5 + 1) < 768) ∧ ∀ u73 : TS, u73 = sdat u54 (va_up (tdat u54) ((x5 + 1)).toNat (v69 - z0)) → (
    ∃ n78, wl_T_pack_78 x5 x6 z0 (fun u124 =>
      (0 ≤ x6 ∧ x6 < 16) ∧ ∀ v133 : Int, v133 = tlen u124 (x6).toNat → (
      C18 (x5 + ((2 + v133) - z0)) (x6 + 1) u124)) n78 z0 u73)))
def wl_T_pack_18 (x2 : Int) (x3 : Int) (K : TS → Prop) : Nat → Int → Int → TS → Prop
  | 0, _, _, _ => False
  | n + 1, x5, x6, u =>
    br_le x3 x6 (
      K u) (
      br_eq x6 x2 (
        wj_T_pack_44 (wl_T_pack_18 x2 x3 K n) x5 x6 0 u) (
        wm_T_sharedInList (x6 - 1) x6 u (fun r41 u41 => (
        wj_T_pack_44 (wl_T_pack_18 x2 x3 K n) x5 x6 r41 u41))))
def wm_T_pack (x1 : Int) (x2 : Int) (x3 : Int) (u : TS) (post : TS → Prop) : Prop :=
    (0 ≤ x1 ∧ x1 < 16) ∧ ∀ v5 : Int, v5 = tslot u (x1).toNat → (
    ∃ n18, wl_T_pack_18 x2 x3 (fun u147 =>
      (0 ≤ v5 ∧ v5 < 16) ∧ ∀ u156 : TS, u156 = ssiz u147 (va_up (tsiz u147) (v5).toNat (x3 - x2)) → (
      post u156)) n18 (48 * v5) x2 u)
def wl_T_countLess_10 (x1 : Int) (K : Int → TS → Prop) : Nat → Int → Int → Int → TS → Prop
  | 0, _, _, _, _ => False
  | n + 1, x2, x3, x4, u =>
    br_le 5 x4 (
      K x2 u) (
      br_le x3 x2 (
        K x2 u) (
        (0 ≤ (x2 + x3) ∧ (x2 + x3) ≤ 2147483647) ∧ (
        wm_T_headIsLess ((x2 + x3) / 2) x1 u (fun r32 u32 => (
        br_eq r32 0 (
          wl_T_countLess_10 x1 K n x2 ((x2 + x3) / 2) (x4 + 1) u32) (
          wl_T_countLess_10 x1 K n (((x2 + x3) / 2) + 1) x3 (x4 + 1) u32))))))
def wj_T_countLess_92 (post : Int → TS → Prop) (z0 : Int) (u : TS) : Prop :=
    ∀ u92 : TS, u92 = sfi u z0 → (
    wm_T_termsBefore (tfb u92) u92 (fun r100 u100 => (
    post (r100 + (tfi u100)) u100)))
def wj_T_countLess_67 (post : Int → TS → Prop) (x1 : Int) (x2 : Int) (z0 : Int) (u : TS) : Prop :=
    ∀ u67 : TS, u67 = sfb u z0 → (
    br_le x2 0 (
      wj_T_countLess_92 post 0 u67) (
      (0 ≤ (x2 - 1) ∧ (x2 - 1) < 16) ∧ ∀ v83 : Int, v83 = tslot u67 ((x2 - 1)).toNat → (
      wm_T_scanBlock v83 x1 u67 (fun r85 u85 => (
      wj_T_countLess_92 post r85 u85)))))
def wm_T_countLess (x1 : Int) (u : TS) (post : Int → TS → Prop) : Prop :=
    ∃ n10, wl_T_countLess_10 x1 (fun y55_2 u55 =>
      br_le y55_2 0 (
        wj_T_countLess_67 post x1 y55_2 0 u55) (
        wj_T_countLess_67 post x1 y55_2 (y55_2 - 1) u55)) n10 0 (tbl u) 0 u
def wj_T_storeList_60 (post : TS → Prop) (x1 : Int) (x3 : Int) (u : TS) : Prop :=
    br_eq x3 1 (
      wm_T_pack x1 0 (tli u) u (fun u72 => (
      post u72))) (
      br_eq x3 2 (
        (0 ≤ ((tli u) + 1) ∧ ((tli u) + 1) ≤ 2147483647) ∧ (
        wm_T_pack x1 0 (((tli u) + 1) / 2) u (fun u98 => (
        wm_T_pack (x1 + 1) (((tli u) + 1) / 2) (tli u98) u98 (fun u111 => (
        post u111)))))) (
        post u))
def wj_T_storeList_48 (post : TS → Prop) (x1 : Int) (x2 : Int) (x3 : Int) (u : TS) : Prop :=
    br_le x3 x2 (
      wj_T_storeList_60 post x1 x3 u) (
      wm_T_openBlock (x1 + 1) u (fun u57 => (
      wj_T_storeList_60 post x1 x3 u57)))
def wj_T_storeList_36 (post : TS → Prop) (x1 : Int) (x2 : Int) (x3 : Int) (u : TS) : Prop :=
    br_le (x2 - 1) x3 (
      wj_T_storeList_48 post x1 x2 x3 u) (
      wm_T_closeBlock x1 u (fun u45 => (
      wj_T_storeList_48 post x1 x2 x3 u45)))
def wj_T_storeList_25 (post : TS → Prop) (x1 : Int) (x2 : Int) (z0 : Int) (u : TS) : Prop :=
    br_le x2 z0 (
      wj_T_storeList_36 post x1 x2 z0 u) (
      wm_T_closeBlock x1 u (fun u33 => (
      wj_T_storeList_36 post x1 x2 z0 u33)))
def wm_T_storeList (x1 : Int) (x2 : Int) (u : TS) (post : TS → Prop) : Prop :=
    br_eq (tli u) 0 (
      wj_T_storeList_25 post x1 x2 0 u) (
      br_lt 6 (tli u) (
        wj_T_storeList_25 post x1 x2 2 u) (
        wj_T_storeList_25 post x1 x2 1 u))
def wm_T_before (u : TS) (post : Int → TS → Prop) : Prop :=
    wm_T_countLess 0 u (fun r2 u2 => (
    post r2 u2))
def wm_T_held (u : TS) (post : Int → TS → Prop) : Prop :=
    wm_T_countLess 0 u (fun r2 u2 => (
    br_eq (tkl u2) 0 (
      ((0 : Int) = 0 ∨ (0 : Int) = 1) ∧ post 0 u2) (
      br_lt r2 (ttot u2) (
        wm_T_blockOfRank r2 u2 (fun r25 u25 => (
        ∀ u31 : TS, u31 = sli u25 0 → (
        wm_T_unpack r25 u31 (fun u36 => (
        wm_T_termsBefore r25 u36 (fun r42 u42 => (
        (0 ≤ (r2 - r42) ∧ (r2 - r42) < 16) ∧ ∀ v52 : Int, v52 = tlen u42 ((r2 - r42)).toNat → (
        br_eq v52 (tkl u42) (
          wm_T_sharedWithKey (r2 - r42) u42 (fun r62 u62 => (
          br_eq r62 (tkl u62) (
            ((1 : Int) = 0 ∨ (1 : Int) = 1) ∧ post 1 u62) (
            ((0 : Int) = 0 ∨ (0 : Int) = 1) ∧ post 0 u62)))) (
          ((0 : Int) = 0 ∨ (0 : Int) = 1) ∧ post 0 u42)))))))))) (
        ((0 : Int) = 0 ∨ (0 : Int) = 1) ∧ post 0 u2))))
def wm_T_beginning (u : TS) (post : Int → TS → Prop) : Prop :=
    wm_T_countLess 1 u (fun r2 u2 => (
    wm_T_countLess 0 u2 (fun r7 u7 => (
    post (r2 - r7) u7))))
def wj_T_common_48 (post : Int → TS → Prop) (x2 : Int) (z0 : Int) (u : TS) : Prop :=
    br_le x2 z0 (
      post z0 u) (
      post x2 u)
def wj_T_common_30 (post : Int → TS → Prop) (x1 : Int) (z0 : Int) (u : TS) : Prop :=
    br_le (ttot u) x1 (
      wj_T_common_48 post z0 0 u) (
      wm_T_sharedAtRank x1 u (fun r41 u41 => (
      wj_T_common_48 post z0 r41 u41)))
def wm_T_common (u : TS) (post : Int → TS → Prop) : Prop :=
    br_eq (ttot u) 0 (
      post (-1) u) (
      wm_T_countLess 0 u (fun r11 u11 => (
      br_le r11 0 (
        wj_T_common_30 post r11 0 u11) (
        wm_T_sharedAtRank (r11 - 1) u11 (fun r23 u23 => (
        wj_T_common_30 post r11 r23 u23))))))
def wj_T_insert_53 (post : Int → TS → Prop) (x1 : Int) (u : TS) : Prop :=
    ∀ u55 : TS, u55 = sli u 0 → (
    wm_T_unpack (tfb u55) u55 (fun u63 => (
    wm_T_putKeyInList (tfi u63) u63 (fun u71 => (
    wm_T_storeList (tfb u71) 1 u71 (fun u80 => (
    ∀ u90 : TS, u90 = stot u80 ((ttot u80) + 1) → (
    post x1 u90))))))))
def wm_T_insert (u : TS) (post : Int → TS → Prop) : Prop :=
    br_eq (tkl u) 0 (
      post (-1) u) (
      br_le 40 (ttot u) (
        post (-1) u) (
        wm_T_held u (fun r17 u17 => (
        br_eq r17 0 (
          wm_T_countLess 0 u17 (fun r27 u27 => (
          br_eq (tbl u27) 0 (
            wm_T_openBlock 0 u27 (fun u40 => (
            ∀ u45 : TS, u45 = sfb u40 0 → (
            ∀ u50 : TS, u50 = sfi u45 0 → (
            wj_T_insert_53 post r27 u50))))) (
            wj_T_insert_53 post r27 u27)))) (
          post (-1) u17)))))
def wm_T_delete (u : TS) (post : Int → TS → Prop) : Prop :=
    wm_T_held u (fun r1 u1 => (
    br_eq r1 0 (
      post (-1) u1) (
      wm_T_countLess 0 u1 (fun r11 u11 => (
      wm_T_blockOfRank r11 u11 (fun r17 u17 => (
      ∀ u23 : TS, u23 = sli u17 0 → (
      wm_T_unpack r17 u23 (fun u28 => (
      wm_T_termsBefore r17 u28 (fun r34 u34 => (
      wm_T_takeFromList (r11 - r34) u34 (fun u41 => (
      ∀ u51 : TS, u51 = stot u41 ((ttot u41) - 1) → (
      br_le 3 (tli u51) (
        wm_T_storeList r17 1 u51 (fun u73 => (
        post r11 u73))) (
        br_eq (tbl u51) 1 (
          wm_T_storeList r17 1 u51 (fun u73 => (
          post r11 u73))) (
          br_le (tbl u51) (r17 + 1) (
            ∀ u107 : TS, u107 = sli u51 0 → (
            wm_T_unpack (r17 - 1) u107 (fun u114 => (
            wm_T_unpack r17 u114 (fun u119 => (
            wm_T_termsBefore (r17 - 1) u119 (fun r127 u127 => (
            wm_T_takeFromList (r11 - r127) u127 (fun u134 => (
            wm_T_storeList (r17 - 1) 2 u134 (fun u142 => (
            post r11 u142)))))))))))) (
            wm_T_unpack (r17 + 1) u51 (fun u93 => (
            wm_T_storeList r17 2 u93 (fun u99 => (
            post r11 u99))))))))))))))))))))))
end
section
def wm_M_type (x1 : Int) (u : MS) (post : Int → MS → Prop) : Prop :=
    br_lt x1 0 (
      post (-1) u) (
      br_lt 9 x1 (
        post (-1) u) (
        br_eq (mty u) 6 (
          post (-1) u) (
          (0 ≤ (mty u) ∧ (mty u) < 6) ∧ ∀ u30 : MS, u30 = rkey u (va_up (mkey u) ((mty u)).toNat x1) → (
          ∀ u38 : MS, u38 = rty u30 ((mty u30) + 1) → (
          post (mty u38) u38)))))
def wm_M_back (u : MS) (post : Int → MS → Prop) : Prop :=
    br_eq (mty u) 0 (
      post (-1) u) (
      ∀ u16 : MS, u16 = rty u ((mty u) - 1) → (
      (0 ≤ (mty u16) ∧ (mty u16) < 6) ∧ ∀ v27 : Int, v27 = mkey u16 ((mty u16)).toNat → (
      post v27 u16)))
def wm_M_erase (u : MS) (post : MS → Prop) : Prop :=
    ∀ u2 : MS, u2 = rty u 0 → (
    post u2)
def wl_M_shared_2 (x1 : Int) (K : Int → MS → Prop) : Nat → Int → MS → Prop
  | 0, _, _ => False
  | n + 1, x2, u =>
    br_le (mty u) x2 (
      K x2 u) (
      (0 ≤ x1 ∧ x1 < 40) ∧ ∀ v16 : Int, v16 = mlen u (x1).toNat → (
      br_le v16 x2 (
        K x2 u) (
        (0 ≤ ((6 * x1) + x2) ∧ ((6 * x1) + x2) < 240) ∧ ∀ v30 : Int, v30 = mlet u (((6 * x1) + x2)).toNat → (
        (0 ≤ x2 ∧ x2 < 6) ∧ ∀ v36 : Int, v36 = mkey u (x2).toNat → (
        br_eq v30 v36 (
          wl_M_shared_2 x1 K n (x2 + 1) u) (
          K x2 u))))))
def wm_M_shared (x1 : Int) (u : MS) (post : Int → MS → Prop) : Prop :=
    ∃ n2, wl_M_shared_2 x1 (fun y46_2 u46 =>
      post y46_2 u46) n2 0 u
def wl_M_less_2 (x1 : Int) (x2 : Int) (post : Int → MS → Prop) (K : MS → Prop) : Nat → Int → MS → Prop
  | 0, _, _ => False
  | n + 1, x3, u =>
    br_le 6 x3 (
      K u) (
      (0 ≤ x2 ∧ x2 < 40) ∧ ∀ v14 : Int, v14 = mlen u (x2).toNat → (
      br_lt x3 v14 (
        (0 ≤ x1 ∧ x1 < 40) ∧ ∀ v26 : Int, v26 = mlen u (x1).toNat → (
        br_lt x3 v26 (
          (0 ≤ ((6 * x1) + x3) ∧ ((6 * x1) + x3) < 240) ∧ ∀ v42 : Int, v42 = mlet u (((6 * x1) + x3)).toNat → (
          (0 ≤ ((6 * x2) + x3) ∧ ((6 * x2) + x3) < 240) ∧ ∀ v53 : Int, v53 = mlet u (((6 * x2) + x3)).toNat → (
          br_eq v42 v53 (
            wl_M_less_2 x1 x2 post K n (x3 + 1) u) (
            (0 ≤ ((6 * x1) + x3) ∧ ((6 * x1) + x3) < 240) ∧ ∀ v67 : Int, v67 = mlet u (((6 * x1) + x3)).toNat → (
            (0 ≤ ((6 * x2) + x3) ∧ ((6 * x2) + x3) < 240) ∧ ∀ v78 : Int, v78 = mlet u (((6 * x2) + x3)).toNat → (
            br_le v78 v67 (
              ((0 : Int) = 0 ∨ (0 : Int) = 1) ∧ post 0 u) (
              ((1 : Int) = 0 ∨ (1 : Int) = 1) ∧ post 1 u))))))) (
          ((1 : Int) = 0 ∨ (1 : Int) = 1) ∧ post 1 u))) (
        ((0 : Int) = 0 ∨ (0 : Int) = 1) ∧ post 0 u)))
def wm_M_less (x1 : Int) (x2 : Int) (u : MS) (post : Int → MS → Prop) : Prop :=
    ∃ n2, wl_M_less_2 x1 x2 post (fun u94 =>
      ((0 : Int) = 0 ∨ (0 : Int) = 1) ∧ post 0 u94) n2 0 u
def wm_M_letter (x1 : Int) (u : MS) (post : Int → MS → Prop) : Prop :=
    br_lt x1 0 (
      post (-1) u) (
      br_lt x1 (mty u) (
        (0 ≤ x1 ∧ x1 < 6) ∧ ∀ v21 : Int, v21 = mkey u (x1).toNat → (
        post v21 u)) (
        post (-1) u))
def wm_M_size (u : MS) (post : Int → MS → Prop) : Prop :=
    post (mtm u) u
def wm_M_precedes (x1 : Int) (u : MS) (post : Int → MS → Prop) : Prop :=
    wm_M_shared x1 u (fun r2 u2 => (
    br_lt r2 (mty u2) (
      (0 ≤ x1 ∧ x1 < 40) ∧ ∀ v22 : Int, v22 = mlen u2 (x1).toNat → (
      br_le v22 r2 (
        ((1 : Int) = 0 ∨ (1 : Int) = 1) ∧ post 1 u2) (
        (0 ≤ ((6 * x1) + r2) ∧ ((6 * x1) + r2) < 240) ∧ ∀ v36 : Int, v36 = mlet u2 (((6 * x1) + r2)).toNat → (
        (0 ≤ r2 ∧ r2 < 6) ∧ ∀ v42 : Int, v42 = mkey u2 (r2).toNat → (
        br_le v42 v36 (
          ((0 : Int) = 0 ∨ (0 : Int) = 1) ∧ post 0 u2) (
          ((1 : Int) = 0 ∨ (1 : Int) = 1) ∧ post 1 u2)))))) (
      ((0 : Int) = 0 ∨ (0 : Int) = 1) ∧ post 0 u2)))
def wl_M_rankOf_4 (x1 : Int) (K : Int → MS → Prop) : Nat → Int → Int → MS → Prop
  | 0, _, _, _ => False
  | n + 1, x2, x3, u =>
    br_le (mtm u) x3 (
      K x2 u) (
      wm_M_less x3 x1 u (fun r15 u15 => (
      br_eq r15 0 (
        wl_M_rankOf_4 x1 K n x2 (x3 + 1) u15) (
        wl_M_rankOf_4 x1 K n (x2 + 1) (x3 + 1) u15))))
def wm_M_rankOf (x1 : Int) (u : MS) (post : Int → MS → Prop) : Prop :=
    ∃ n4, wl_M_rankOf_4 x1 (fun y30_2 u30 =>
      post y30_2 u30) n4 0 0 u
def wl_M_same_2 (post : Int → MS → Prop) (K : MS → Prop) : Nat → Int → MS → Prop
  | 0, _, _ => False
  | n + 1, x1, u =>
    br_le (mtm u) x1 (
      K u) (
      (0 ≤ x1 ∧ x1 < 40) ∧ ∀ v15 : Int, v15 = mlen u (x1).toNat → (
      br_eq v15 (mty u) (
        wm_M_shared x1 u (fun r25 u25 => (
        br_eq r25 (mty u25) (
          post x1 u25) (
          wl_M_same_2 post K n (x1 + 1) u25)))) (
        wl_M_same_2 post K n (x1 + 1) u)))
def wm_M_same (u : MS) (post : Int → MS → Prop) : Prop :=
    ∃ n2, wl_M_same_2 post (fun u43 =>
      post (-1) u43) n2 0 u
def wl_M_beginning_4 (K : Int → MS → Prop) : Nat → Int → Int → MS → Prop
  | 0, _, _, _ => False
  | n + 1, x1, x2, u =>
    br_le (mtm u) x2 (
      K x1 u) (
      wm_M_shared x2 u (fun r14 u14 => (
      br_eq r14 (mty u14) (
        wl_M_beginning_4 K n (x1 + 1) (x2 + 1) u14) (
        wl_M_beginning_4 K n x1 (x2 + 1) u14))))
def wm_M_beginning (u : MS) (post : Int → MS → Prop) : Prop :=
    ∃ n4, wl_M_beginning_4 (fun y33_1 u33 =>
      post y33_1 u33) n4 0 0 u
def wl_M_common_4 (K : Int → MS → Prop) : Nat → Int → Int → MS → Prop
  | 0, _, _, _ => False
  | n + 1, x1, x2, u =>
    br_le (mtm u) x2 (
      K x1 u) (
      wm_M_shared x2 u (fun r14 u14 => (
      br_le r14 x1 (
        wl_M_common_4 K n x1 (x2 + 1) u14) (
        wl_M_common_4 K n r14 (x2 + 1) u14))))
def wm_M_common (u : MS) (post : Int → MS → Prop) : Prop :=
    ∃ n4, wl_M_common_4 (fun y31_1 u31 =>
      post y31_1 u31) n4 (-1) 0 u
def wl_M_load_31 (x2 : Int) (K : MS → Prop) : Nat → Int → MS → Prop
  | 0, _, _ => False
  | n + 1, x3, u =>
    br_le (mty u) x3 (
      K u) (
      (0 ≤ ((6 * x2) + x3) ∧ ((6 * x2) + x3) < 240) ∧ ∀ v54 : Int, v54 = mlet u (((6 * x2) + x3)).toNat → (
      (0 ≤ x3 ∧ x3 < 6) ∧ ∀ u55 : MS, u55 = rkey u (va_up (mkey u) (x3).toNat v54) → (
      wl_M_load_31 x2 K n (x3 + 1) u55)))
def wl_M_load_2 (x1 : Int) (post : Int → MS → Prop) (K : MS → Prop) : Nat → Int → MS → Prop
  | 0, _, _ => False
  | n + 1, x2, u =>
    br_le (mtm u) x2 (
      K u) (
      wm_M_rankOf x2 u (fun r12 u12 => (
      br_eq r12 x1 (
        (0 ≤ x2 ∧ x2 < 40) ∧ ∀ v25 : Int, v25 = mlen u12 (x2).toNat → (
        ∀ u26 : MS, u26 = rty u12 v25 → (
        ∃ n31, wl_M_load_31 x2 (fun u62 =>
          post (mty u62) u62) n31 0 u26))) (
        wl_M_load_2 x1 post K n (x2 + 1) u12))))
def wm_M_load (x1 : Int) (u : MS) (post : Int → MS → Prop) : Prop :=
    ∃ n2, wl_M_load_2 x1 post (fun u73 =>
      post (-1) u73) n2 0 u
def wl_M_before_4 (K : Int → MS → Prop) : Nat → Int → Int → MS → Prop
  | 0, _, _, _ => False
  | n + 1, x1, x2, u =>
    br_le (mtm u) x2 (
      K x1 u) (
      wm_M_precedes x2 u (fun r14 u14 => (
      br_eq r14 0 (
        wl_M_before_4 K n x1 (x2 + 1) u14) (
        wl_M_before_4 K n (x1 + 1) (x2 + 1) u14))))
def wm_M_before (u : MS) (post : Int → MS → Prop) : Prop :=
    ∃ n4, wl_M_before_4 (fun y29_1 u29 =>
      post y29_1 u29) n4 0 0 u
def wm_M_held (u : MS) (post : Int → MS → Prop) : Prop :=
    wm_M_same u (fun r1 u1 => (
    br_lt r1 0 (
      ((0 : Int) = 0 ∨ (0 : Int) = 1) ∧ post 0 u1) (
      ((1 : Int) = 0 ∨ (1 : Int) = 1) ∧ post 1 u1)))
def wl_M_insert_40 (K : MS → Prop) : Nat → Int → MS → Prop
  | 0, _, _ => False
  | n + 1, x1, u =>
    br_le (mty u) x1 (
      K u) (
      (0 ≤ x1 ∧ x1 < 6) ∧ ∀ v66 : Int, v66 = mkey u (x1).toNat → (
      (0 ≤ ((6 * (mtm u)) + x1) ∧ ((6 * (mtm u)) + x1) < 240) ∧ ∀ u67 : MS, u67 = rlet u (va_up (mlet u) (((6 * (mtm u)) + x1)).toNat v66) → (
      wl_M_insert_40 K n (x1 + 1) u67)))
def wm_M_insert (u : MS) (post : Int → MS → Prop) : Prop :=
    br_eq (mty u) 0 (
      post (-1) u) (
      wm_M_same u (fun r8 u8 => (
      br_le 0 r8 (
        post (-1) u8) (
        br_eq (mtm u8) 40 (
          post (-1) u8) (
          (0 ≤ (mtm u8) ∧ (mtm u8) < 40) ∧ ∀ u37 : MS, u37 = rlen u8 (va_up (mlen u8) ((mtm u8)).toNat (mty u8)) → (
          ∃ n40, wl_M_insert_40 (fun u74 =>
            ∀ u81 : MS, u81 = rtm u74 ((mtm u74) + 1) → (
            wm_M_before u81 (fun r85 u85 => (
            post r85 u85)))) n40 0 u37))))))
def wl_M_delete_43 (x1 : Int) (K : MS → Prop) : Nat → Int → MS → Prop
  | 0, _, _ => False
  | n + 1, x3, u =>
    br_le 6 x3 (
      K u) (
      (0 ≤ ((6 * (mtm u)) + x3) ∧ ((6 * (mtm u)) + x3) < 240) ∧ ∀ v72 : Int, v72 = mlet u (((6 * (mtm u)) + x3)).toNat → (
      (0 ≤ ((6 * x1) + x3) ∧ ((6 * x1) + x3) < 240) ∧ ∀ u73 : MS, u73 = rlet u (va_up (mlet u) (((6 * x1) + x3)).toNat v72) → (
      wl_M_delete_43 x1 K n (x3 + 1) u73)))
def wm_M_delete (u : MS) (post : Int → MS → Prop) : Prop :=
    wm_M_same u (fun r1 u1 => (
    br_le 0 r1 (
      wm_M_before u1 (fun r12 u12 => (
      ∀ u23 : MS, u23 = rtm u12 ((mtm u12) - 1) → (
      (0 ≤ (mtm u23) ∧ (mtm u23) < 40) ∧ ∀ v39 : Int, v39 = mlen u23 ((mtm u23)).toNat → (
      (0 ≤ r1 ∧ r1 < 40) ∧ ∀ u40 : MS, u40 = rlen u23 (va_up (mlen u23) (r1).toNat v39) → (
      ∃ n43, wl_M_delete_43 r1 (fun u80 =>
        post r12 u80) n43 0 u40)))))) (
      post (-1) u1)))
end
section
section WalkT1
variable {p : Program} {l : Launch} {e : Env} {s : State} {m : MethodId} {args : Array Value} {below : List Frame} {meth : Method} {c : Code} {D : va_G} {gA : Nat → Nat} {gC : Nat → ClassId} {A : Nat → Prop}
set_option maxHeartbeats 4000000 in
set_option maxRecDepth 100000 in
theorem c_T_type (l : Launch) (D : va_G) (gA : Nat → Nat) (gC : Nat → ClassId) (u : TS) (x1 : Int) (post : Int → TS → Prop) (h1 : wm_T_type x1 u post) (sz : Nat) : Met l y_T_type (Cond.code y_T_type b_T_type 2 (some .int) :: tw_tbl) (rmD 0) (cPre D (T_ws gA gC u) (T_tys gC) sz [.ref (gA 0), .int (iI x1)]) (cPoI D (T_ws gA gC) (T_tys gC) post (va_A (T_ws gA gC u) sz)) 0 0 (va_A (T_ws gA gC u) sz) := by
  refine c_enter (own := R_T) (Qc := fun A => cPoI D (T_ws gA gC) (T_tys gC) post A) (by decide) rfl [.ref (gA 0), .int (iI x1)] (Nat.le_of_ble_eq_true rfl) (fun p e s m args below meth c A ls X B hl => ?_)
  have hl : lv_has ls 2 [(0, .ref (gA 0)), (1, .int (iI x1))] := hl
  obtain ⟨hx, hb, -⟩ := id X
  have h := h1
  rw [wm_T_type] at h
  refine lv_iload_n hx hb d_T_type_0 rfl (lv_at hl 1 rfl) ?_
  refine i_if_lt (tgt := 19) X h d_T_type_1 (by decide) (fun h => ?_) (fun h => ?_)
  · refine lv_iconst (v := iI (-1)) hx hb d_T_type_19 rfl ?_
    exact c_reti X B h d_T_type_20
  · refine lv_iload_n hx hb d_T_type_4 rfl (lv_at hl 1 rfl) ?_
    refine lv_bipush (v := iI 9) hx hb d_T_type_5 (by decide) ?_
    refine i_icmp_gt (tgt := 19) X h d_T_type_7 (by decide) (fun h => ?_) (fun h => ?_)
    · refine lv_iconst (v := iI (-1)) hx hb d_T_type_19 rfl ?_
      exact c_reti X B h d_T_type_20
    · refine lv_aload_n hx hb d_T_type_10 rfl (lv_at hl 0 rfl) ?_
      refine t_get_kl X B d_T_type_11 ?_
      refine lv_bipush (v := iI 6) hx hb d_T_type_14 (by decide) ?_
      refine i_icmp_lt (tgt := 21) X h d_T_type_16 (by decide) (fun h => ?_) (fun h => ?_)
      · refine lv_aload_n hx hb d_T_type_21 rfl (lv_at hl 0 rfl) ?_
        refine t_get_key X B d_T_type_22 ?_
        refine lv_aload_n hx hb d_T_type_25 rfl (lv_at hl 0 rfl) ?_
        refine t_get_kl X B d_T_type_26 ?_
        refine lv_iload_n hx hb d_T_type_29 rfl (lv_at hl 1 rfl) ?_
        refine t_st_key X B h d_T_type_30 (fun u30 H locs h B => ?_)
        refine lv_aload_n hx hb d_T_type_31 rfl (lv_at hl 0 rfl) ?_
        refine lv_dup hx hb d_T_type_32 rfl ?_
        refine t_get_kl X B d_T_type_33 ?_
        refine lv_iconst (v := iI 1) hx hb d_T_type_36 rfl ?_
        refine i_iadd X d_T_type_37 ?_
        refine t_put_kl X B h d_T_type_38 (fun u38 H locs h B => ?_)
        refine lv_aload_n hx hb d_T_type_41 rfl (lv_at hl 0 rfl) ?_
        refine t_get_kl X B d_T_type_42 ?_
        exact c_reti X B h d_T_type_45
      · refine lv_iconst (v := iI (-1)) hx hb d_T_type_19 rfl ?_
        exact c_reti X B h d_T_type_20
set_option maxHeartbeats 4000000 in
set_option maxRecDepth 100000 in
theorem c_T_back (l : Launch) (D : va_G) (gA : Nat → Nat) (gC : Nat → ClassId) (u : TS) (post : Int → TS → Prop) (h1 : wm_T_back u post) (sz : Nat) : Met l y_T_back (Cond.code y_T_back b_T_back 1 (some .int) :: tw_tbl) (rmD 0) (cPre D (T_ws gA gC u) (T_tys gC) sz [.ref (gA 0)]) (cPoI D (T_ws gA gC) (T_tys gC) post (va_A (T_ws gA gC u) sz)) 0 0 (va_A (T_ws gA gC u) sz) := by
  refine c_enter (own := R_T) (Qc := fun A => cPoI D (T_ws gA gC) (T_tys gC) post A) (by decide) rfl [.ref (gA 0)] (Nat.le_of_ble_eq_true rfl) (fun p e s m args below meth c A ls X B hl => ?_)
  have hl : lv_has ls 1 [(0, .ref (gA 0))] := hl
  obtain ⟨hx, hb, -⟩ := id X
  have h := h1
  rw [wm_T_back] at h
  refine lv_aload_n hx hb d_T_back_0 rfl (lv_at hl 0 rfl) ?_
  refine t_get_kl X B d_T_back_1 ?_
  refine i_if_ne (tgt := 9) X h d_T_back_4 (by decide) (fun h => ?_) (fun h => ?_)
  · refine lv_aload_n hx hb d_T_back_9 rfl (lv_at hl 0 rfl) ?_
    refine lv_dup hx hb d_T_back_10 rfl ?_
    refine t_get_kl X B d_T_back_11 ?_
    refine lv_iconst (v := iI 1) hx hb d_T_back_14 rfl ?_
    refine i_isub X d_T_back_15 ?_
    refine t_put_kl X B h d_T_back_16 (fun u16 H locs h B => ?_)
    refine lv_aload_n hx hb d_T_back_19 rfl (lv_at hl 0 rfl) ?_
    refine t_get_key X B d_T_back_20 ?_
    refine lv_aload_n hx hb d_T_back_23 rfl (lv_at hl 0 rfl) ?_
    refine t_get_kl X B d_T_back_24 ?_
    refine t_ld_key X B h d_T_back_27 (fun v27 h => ?_)
    exact c_reti X B h d_T_back_28
  · refine lv_iconst (v := iI (-1)) hx hb d_T_back_7 rfl ?_
    exact c_reti X B h d_T_back_8
set_option maxHeartbeats 4000000 in
set_option maxRecDepth 100000 in
theorem c_T_erase (l : Launch) (D : va_G) (gA : Nat → Nat) (gC : Nat → ClassId) (u : TS) (post : TS → Prop) (h1 : wm_T_erase u post) (sz : Nat) : Met l y_T_erase (Cond.code y_T_erase b_T_erase 1 (none) :: tw_tbl) (rmD 0) (cPre D (T_ws gA gC u) (T_tys gC) sz [.ref (gA 0)]) (cPoV D (T_ws gA gC) (T_tys gC) post (va_A (T_ws gA gC u) sz)) 0 0 (va_A (T_ws gA gC u) sz) := by
  refine c_enter (own := R_T) (Qc := fun A => cPoV D (T_ws gA gC) (T_tys gC) post A) (by decide) rfl [.ref (gA 0)] (Nat.le_of_ble_eq_true rfl) (fun p e s m args below meth c A ls X B hl => ?_)
  have hl : lv_has ls 1 [(0, .ref (gA 0))] := hl
  obtain ⟨hx, hb, -⟩ := id X
  have h := h1
  rw [wm_T_erase] at h
  refine lv_aload_n hx hb d_T_erase_0 rfl (lv_at hl 0 rfl) ?_
  refine lv_iconst (v := iI 0) hx hb d_T_erase_1 rfl ?_
  refine t_put_kl X B h d_T_erase_2 (fun u2 H locs h B => ?_)
  exact c_retv X B h d_T_erase_5
set_option maxHeartbeats 4000000 in
set_option maxRecDepth 100000 in
theorem c_T_letter (l : Launch) (D : va_G) (gA : Nat → Nat) (gC : Nat → ClassId) (u : TS) (x1 : Int) (post : Int → TS → Prop) (h1 : wm_T_letter x1 u post) (sz : Nat) : Met l y_T_letter (Cond.code y_T_letter b_T_letter 2 (some .int) :: tw_tbl) (rmD 0) (cPre D (T_ws gA gC u) (T_tys gC) sz [.ref (gA 0), .int (iI x1)]) (cPoI D (T_ws gA gC) (T_tys gC) post (va_A (T_ws gA gC u) sz)) 0 0 (va_A (T_ws gA gC u) sz) := by
  refine c_enter (own := R_T) (Qc := fun A => cPoI D (T_ws gA gC) (T_tys gC) post A) (by decide) rfl [.ref (gA 0), .int (iI x1)] (Nat.le_of_ble_eq_true rfl) (fun p e s m args below meth c A ls X B hl => ?_)
  have hl : lv_has ls 2 [(0, .ref (gA 0)), (1, .int (iI x1))] := hl
  obtain ⟨hx, hb, -⟩ := id X
  have h := h1
  rw [wm_T_letter] at h
  refine lv_iload_n hx hb d_T_letter_0 rfl (lv_at hl 1 rfl) ?_
  refine i_if_lt (tgt := 12) X h d_T_letter_1 (by decide) (fun h => ?_) (fun h => ?_)
  · refine lv_iconst (v := iI (-1)) hx hb d_T_letter_12 rfl ?_
    refine lv_goto (tgt := 22) hx hb d_T_letter_13 (by decide) ?_
    exact c_reti X B h d_T_letter_22
  · refine lv_iload_n hx hb d_T_letter_4 rfl (lv_at hl 1 rfl) ?_
    refine lv_aload_n hx hb d_T_letter_5 rfl (lv_at hl 0 rfl) ?_
    refine t_get_kl X B d_T_letter_6 ?_
    refine i_icmp_lt (tgt := 16) X h d_T_letter_9 (by decide) (fun h => ?_) (fun h => ?_)
    · refine lv_aload_n hx hb d_T_letter_16 rfl (lv_at hl 0 rfl) ?_
      refine t_get_key X B d_T_letter_17 ?_
      refine lv_iload_n hx hb d_T_letter_20 rfl (lv_at hl 1 rfl) ?_
      refine t_ld_key X B h d_T_letter_21 (fun v21 h => ?_)
      exact c_reti X B h d_T_letter_22
    · refine lv_iconst (v := iI (-1)) hx hb d_T_letter_12 rfl ?_
      refine lv_goto (tgt := 22) hx hb d_T_letter_13 (by decide) ?_
      exact c_reti X B h d_T_letter_22
set_option maxHeartbeats 4000000 in
set_option maxRecDepth 100000 in
theorem c_T_size (l : Launch) (D : va_G) (gA : Nat → Nat) (gC : Nat → ClassId) (u : TS) (post : Int → TS → Prop) (h1 : wm_T_size u post) (sz : Nat) : Met l y_T_size (Cond.code y_T_size b_T_size 1 (some .int) :: tw_tbl) (rmD 0) (cPre D (T_ws gA gC u) (T_tys gC) sz [.ref (gA 0)]) (cPoI D (T_ws gA gC) (T_tys gC) post (va_A (T_ws gA gC u) sz)) 0 0 (va_A (T_ws gA gC u) sz) := by
  refine c_enter (own := R_T) (Qc := fun A => cPoI D (T_ws gA gC) (T_tys gC) post A) (by decide) rfl [.ref (gA 0)] (Nat.le_of_ble_eq_true rfl) (fun p e s m args below meth c A ls X B hl => ?_)
  have hl : lv_has ls 1 [(0, .ref (gA 0))] := hl
  obtain ⟨hx, hb, -⟩ := id X
  have h := h1
  rw [wm_T_size] at h
  refine lv_aload_n hx hb d_T_size_0 rfl (lv_at hl 0 rfl) ?_
  refine t_get_tot X B d_T_size_1 ?_
  exact c_reti X B h d_T_size_4
set_option maxHeartbeats 4000000 in
set_option maxRecDepth 100000 in
theorem wk_T_sharedWithKey_2 (X : cX R_T (T_tys gC) (some .int) A p s m args meth c D b_T_sharedWithKey 3) (x1 : Int) {post : Int → TS → Prop} (K : Int → TS → Prop)
    (hK : ∀ (x2 : Int) (u : TS) (H : Heap) (locs : List Loc) (ls : Array Slot), K x2 u → cB D A s H locs (T_ws gA gC u) → lv_has ls 3 [(0, .ref (gA 0)), (2, .int (iI x2))] → W p l e (rmD 0) s m args below meth c H locs 0 0 (MQ below (cPoI D (T_ws gA gC) (T_tys gC) post A) args s 0 0 A) (F0 m 46 ls [])) :
    ∀ (n : Nat) (x2 : Int) (u : TS) (H : Heap) (locs : List Loc) (ls : Array Slot), wl_T_sharedWithKey_2 x1 K n x2 u → cB D A s H locs (T_ws gA gC u) → lv_has ls 3 [(0, .ref (gA 0)), (1, .int (iI x1)), (2, .int (iI x2))] → W p l e (rmD 0) s m args below meth c H locs 0 0 (MQ below (cPoI D (T_ws gA gC) (T_tys gC) post A) args s 0 0 A) (F0 m 2 ls []) := by
  obtain ⟨hx, hb, -⟩ := id X
  intro n
  induction n with
  | zero =>
    intro x2 u H locs ls h
    rw [wl_T_sharedWithKey_2] at h
    exact h.elim
  | succ n ih =>
    intro x2 u H locs ls h B hl
    rw [wl_T_sharedWithKey_2] at h
    refine lv_iload_n hx hb d_T_sharedWithKey_2 rfl (lv_at hl 2 rfl) ?_
    refine lv_aload_n hx hb d_T_sharedWithKey_3 rfl (lv_at hl 0 rfl) ?_
    refine t_get_kl X B d_T_sharedWithKey_4 ?_
    refine i_icmp_ge (tgt := 46) X h d_T_sharedWithKey_7 (by decide) (fun h => ?_) (fun h => ?_)
    · exact hK _ _ _ _ _ h B (lv_sub hl [0, 2] rfl)
    · refine lv_iload_n hx hb d_T_sharedWithKey_10 rfl (lv_at hl 2 rfl) ?_
      refine lv_aload_n hx hb d_T_sharedWithKey_11 rfl (lv_at hl 0 rfl) ?_
      refine t_get_len X B d_T_sharedWithKey_12 ?_
      refine lv_iload_n hx hb d_T_sharedWithKey_15 rfl (lv_at hl 1 rfl) ?_
      refine t_ld_len X B h d_T_sharedWithKey_16 (fun v16 h => ?_)
      refine i_icmp_ge (tgt := 46) X h d_T_sharedWithKey_17 (by decide) (fun h => ?_) (fun h => ?_)
      · exact hK _ _ _ _ _ h B (lv_sub hl [0, 2] rfl)
      · refine lv_aload_n hx hb d_T_sharedWithKey_20 rfl (lv_at hl 0 rfl) ?_
        refine t_get_ll X B d_T_sharedWithKey_21 ?_
        refine lv_bipush (v := iI 6) hx hb d_T_sharedWithKey_24 (by decide) ?_
        refine lv_iload_n hx hb d_T_sharedWithKey_26 rfl (lv_at hl 1 rfl) ?_
        refine i_imul X d_T_sharedWithKey_27 ?_
        refine lv_iload_n hx hb d_T_sharedWithKey_28 rfl (lv_at hl 2 rfl) ?_
        refine i_iadd X d_T_sharedWithKey_29 ?_
        refine t_ld_ll X B h d_T_sharedWithKey_30 (fun v30 h => ?_)
        refine lv_aload_n hx hb d_T_sharedWithKey_31 rfl (lv_at hl 0 rfl) ?_
        refine t_get_key X B d_T_sharedWithKey_32 ?_
        refine lv_iload_n hx hb d_T_sharedWithKey_35 rfl (lv_at hl 2 rfl) ?_
        refine t_ld_key X B h d_T_sharedWithKey_36 (fun v36 h => ?_)
        refine i_icmp_ne (tgt := 46) X h d_T_sharedWithKey_37 (by decide) (fun h => ?_) (fun h => ?_)
        · exact hK _ _ _ _ _ h B (lv_sub hl [0, 2] rfl)
        · refine lv_iinc (v := iI (x2 + 1)) (lv' := [(2, .int (iI (x2 + 1))), (0, .ref (gA 0)), (1, .int (iI x1))]) hx hb d_T_sharedWithKey_40 hl (k := 2) rfl (iI_inc _ _) (by decide) rfl (fun ls hl => ?_)
          refine lv_goto (tgt := 2) hx hb d_T_sharedWithKey_43 (by decide) ?_
          exact ih _ _ _ _ _ h B (lv_sub hl [1, 2, 0] rfl)
set_option maxHeartbeats 4000000 in
set_option maxRecDepth 100000 in
theorem c_T_sharedWithKey (l : Launch) (D : va_G) (gA : Nat → Nat) (gC : Nat → ClassId) (u : TS) (x1 : Int) (post : Int → TS → Prop) (h1 : wm_T_sharedWithKey x1 u post) (sz : Nat) : Met l y_T_sharedWithKey (Cond.code y_T_sharedWithKey b_T_sharedWithKey 3 (some .int) :: tw_tbl) (rmD 0) (cPre D (T_ws gA gC u) (T_tys gC) sz [.ref (gA 0), .int (iI x1)]) (cPoI D (T_ws gA gC) (T_tys gC) post (va_A (T_ws gA gC u) sz)) 0 0 (va_A (T_ws gA gC u) sz) := by
  refine c_enter (own := R_T) (Qc := fun A => cPoI D (T_ws gA gC) (T_tys gC) post A) (by decide) rfl [.ref (gA 0), .int (iI x1)] (Nat.le_of_ble_eq_true rfl) (fun p e s m args below meth c A ls X B hl => ?_)
  have hl : lv_has ls 3 [(0, .ref (gA 0)), (1, .int (iI x1))] := hl
  obtain ⟨hx, hb, -⟩ := id X
  have h := h1
  rw [wm_T_sharedWithKey] at h
  refine lv_iconst (v := iI 0) hx hb d_T_sharedWithKey_0 rfl ?_
  refine lv_istore_n (lv' := [(2, .int (iI 0)), (0, .ref (gA 0)), (1, .int (iI x1))]) hx hb d_T_sharedWithKey_1 rfl hl (by decide) rfl (fun ls hl => ?_)
  obtain ⟨n2, h⟩ := h
  refine wk_T_sharedWithKey_2 X _ _ (fun y46_2 u46 H locs ls h B hl => ?_) n2 _ _ _ _ _ h B (lv_sub hl [1, 2, 0] rfl)
  refine lv_iload_n hx hb d_T_sharedWithKey_46 rfl (lv_at hl 1 rfl) ?_
  exact c_reti X B h d_T_sharedWithKey_47
set_option maxHeartbeats 4000000 in
set_option maxRecDepth 100000 in
theorem wk_T_termsBefore_4 (X : cX R_T (T_tys gC) (some .int) A p s m args meth c D b_T_termsBefore 4) (x1 : Int) {post : Int → TS → Prop} (K : Int → TS → Prop)
    (hK : ∀ (x2 : Int) (u : TS) (H : Heap) (locs : List Loc) (ls : Array Slot), K x2 u → cB D A s H locs (T_ws gA gC u) → lv_has ls 4 [(0, .ref (gA 0)), (2, .int (iI x2))] → W p l e (rmD 0) s m args below meth c H locs 0 0 (MQ below (cPoI D (T_ws gA gC) (T_tys gC) post A) args s 0 0 A) (F0 m 29 ls [])) :
    ∀ (n : Nat) (x2 : Int) (x3 : Int) (u : TS) (H : Heap) (locs : List Loc) (ls : Array Slot), wl_T_termsBefore_4 x1 K n x2 x3 u → cB D A s H locs (T_ws gA gC u) → lv_has ls 4 [(0, .ref (gA 0)), (1, .int (iI x1)), (2, .int (iI x2)), (3, .int (iI x3))] → W p l e (rmD 0) s m args below meth c H locs 0 0 (MQ below (cPoI D (T_ws gA gC) (T_tys gC) post A) args s 0 0 A) (F0 m 4 ls []) := by
  obtain ⟨hx, hb, -⟩ := id X
  intro n
  induction n with
  | zero =>
    intro x2 x3 u H locs ls h
    rw [wl_T_termsBefore_4] at h
    exact h.elim
  | succ n ih =>
    intro x2 x3 u H locs ls h B hl
    rw [wl_T_termsBefore_4] at h
    refine lv_iload_n hx hb d_T_termsBefore_4 rfl (lv_at hl 3 rfl) ?_
    refine lv_iload_n hx hb d_T_termsBefore_5 rfl (lv_at hl 1 rfl) ?_
    refine i_icmp_ge (tgt := 29) X h d_T_termsBefore_6 (by decide) (fun h => ?_) (fun h => ?_)
    · exact hK _ _ _ _ _ h B (lv_sub hl [0, 2] rfl)
    · refine lv_iload_n hx hb d_T_termsBefore_9 rfl (lv_at hl 2 rfl) ?_
      refine lv_aload_n hx hb d_T_termsBefore_10 rfl (lv_at hl 0 rfl) ?_
      refine t_get_siz X B d_T_termsBefore_11 ?_
      refine lv_aload_n hx hb d_T_termsBefore_14 rfl (lv_at hl 0 rfl) ?_
      refine t_get_slot X B d_T_termsBefore_15 ?_
      refine lv_iload_n hx hb d_T_termsBefore_18 rfl (lv_at hl 3 rfl) ?_
      refine t_ld_slot X B h d_T_termsBefore_19 (fun v19 h => ?_)
      refine t_ld_siz X B h d_T_termsBefore_20 (fun v20 h => ?_)
      refine i_iadd X d_T_termsBefore_21 ?_
      refine lv_istore_n (lv' := [(2, .int (iI (x2 + v20))), (0, .ref (gA 0)), (1, .int (iI x1)), (3, .int (iI x3))]) hx hb d_T_termsBefore_22 rfl hl (by decide) rfl (fun ls hl => ?_)
      refine lv_iinc (v := iI (x3 + 1)) (lv' := [(3, .int (iI (x3 + 1))), (2, .int (iI (x2 + v20))), (0, .ref (gA 0)), (1, .int (iI x1))]) hx hb d_T_termsBefore_23 hl (k := 3) rfl (iI_inc _ _) (by decide) rfl (fun ls hl => ?_)
      refine lv_goto (tgt := 4) hx hb d_T_termsBefore_26 (by decide) ?_
      exact ih _ _ _ _ _ _ h B (lv_sub hl [2, 3, 1, 0] rfl)
set_option maxHeartbeats 4000000 in
set_option maxRecDepth 100000 in
theorem c_T_termsBefore (l : Launch) (D : va_G) (gA : Nat → Nat) (gC : Nat → ClassId) (u : TS) (x1 : Int) (post : Int → TS → Prop) (h1 : wm_T_termsBefore x1 u post) (sz : Nat) : Met l y_T_termsBefore (Cond.code y_T_termsBefore b_T_termsBefore 4 (some .int) :: tw_tbl) (rmD 0) (cPre D (T_ws gA gC u) (T_tys gC) sz [.ref (gA 0), .int (iI x1)]) (cPoI D (T_ws gA gC) (T_tys gC) post (va_A (T_ws gA gC u) sz)) 0 0 (va_A (T_ws gA gC u) sz) := by
  refine c_enter (own := R_T) (Qc := fun A => cPoI D (T_ws gA gC) (T_tys gC) post A) (by decide) rfl [.ref (gA 0), .int (iI x1)] (Nat.le_of_ble_eq_true rfl) (fun p e s m args below meth c A ls X B hl => ?_)
  have hl : lv_has ls 4 [(0, .ref (gA 0)), (1, .int (iI x1))] := hl
  obtain ⟨hx, hb, -⟩ := id X
  have h := h1
  rw [wm_T_termsBefore] at h
  refine lv_iconst (v := iI 0) hx hb d_T_termsBefore_0 rfl ?_
  refine lv_istore_n (lv' := [(2, .int (iI 0)), (0, .ref (gA 0)), (1, .int (iI x1))]) hx hb d_T_termsBefore_1 rfl hl (by decide) rfl (fun ls hl => ?_)
  refine lv_iconst (v := iI 0) hx hb d_T_termsBefore_2 rfl ?_
  refine lv_istore_n (lv' := [(3, .int (iI 0)), (2, .int (iI 0)), (0, .ref (gA 0)), (1, .int (iI x1))]) hx hb d_T_termsBefore_3 rfl hl (by decide) rfl (fun ls hl => ?_)
  obtain ⟨n4, h⟩ := h
  refine wk_T_termsBefore_4 X _ _ (fun y29_2 u29 H locs ls h B hl => ?_) n4 _ _ _ _ _ _ h B (lv_sub hl [2, 3, 1, 0] rfl)
  refine lv_iload_n hx hb d_T_termsBefore_29 rfl (lv_at hl 1 rfl) ?_
  exact c_reti X B h d_T_termsBefore_30
set_option maxHeartbeats 4000000 in
set_option maxRecDepth 100000 in
theorem wk_T_blockOfRank_4 (X : cX R_T (T_tys gC) (some .int) A p s m args meth c D b_T_blockOfRank 4) (x1 : Int) {post : Int → TS → Prop} (K : TS → Prop)
    (hK : ∀ (u : TS) (H : Heap) (locs : List Loc) (ls : Array Slot), K u → cB D A s H locs (T_ws gA gC u) → lv_has ls 4 [(0, .ref (gA 0))] → W p l e (rmD 0) s m args below meth c H locs 0 0 (MQ below (cPoI D (T_ws gA gC) (T_tys gC) post A) args s 0 0 A) (F0 m 39 ls [])) :
    ∀ (n : Nat) (x2 : Int) (x3 : Int) (u : TS) (H : Heap) (locs : List Loc) (ls : Array Slot), wl_T_blockOfRank_4 x1 post K n x2 x3 u → cB D A s H locs (T_ws gA gC u) → lv_has ls 4 [(0, .ref (gA 0)), (1, .int (iI x1)), (2, .int (iI x2)), (3, .int (iI x3))] → W p l e (rmD 0) s m args below meth c H locs 0 0 (MQ below (cPoI D (T_ws gA gC) (T_tys gC) post A) args s 0 0 A) (F0 m 4 ls []) := by
  obtain ⟨hx, hb, -⟩ := id X
  intro n
  induction n with
  | zero =>
    intro x2 x3 u H locs ls h
    rw [wl_T_blockOfRank_4] at h
    exact h.elim
  | succ n ih =>
    intro x2 x3 u H locs ls h B hl
    rw [wl_T_blockOfRank_4] at h
    refine lv_iload_n hx hb d_T_blockOfRank_4 rfl (lv_at hl 3 rfl) ?_
    refine lv_aload_n hx hb d_T_blockOfRank_5 rfl (lv_at hl 0 rfl) ?_
    refine t_get_bl X B d_T_blockOfRank_6 ?_
    refine i_icmp_ge (tgt := 39) X h d_T_blockOfRank_9 (by decide) (fun h => ?_) (fun h => ?_)
    · exact hK _ _ _ _ h B (lv_sub hl [0] rfl)
    · refine lv_iload_n hx hb d_T_blockOfRank_12 rfl (lv_at hl 2 rfl) ?_
      refine lv_aload_n hx hb d_T_blockOfRank_13 rfl (lv_at hl 0 rfl) ?_
      refine t_get_siz X B d_T_blockOfRank_14 ?_
      refine lv_aload_n hx hb d_T_blockOfRank_17 rfl (lv_at hl 0 rfl) ?_
      refine t_get_slot X B d_T_blockOfRank_18 ?_
      refine lv_iload_n hx hb d_T_blockOfRank_21 rfl (lv_at hl 3 rfl) ?_
      refine t_ld_slot X B h d_T_blockOfRank_22 (fun v22 h => ?_)
      refine t_ld_siz X B h d_T_blockOfRank_23 (fun v23 h => ?_)
      refine i_iadd X d_T_blockOfRank_24 ?_
      refine lv_istore_n (lv' := [(2, .int (iI (x2 + v23))), (0, .ref (gA 0)), (1, .int (iI x1)), (3, .int (iI x3))]) hx hb d_T_blockOfRank_25 rfl hl (by decide) rfl (fun ls hl => ?_)
      refine lv_iload_n hx hb d_T_blockOfRank_26 rfl (lv_at hl 2 rfl) ?_
      refine lv_iload_n hx hb d_T_blockOfRank_27 rfl (lv_at hl 0 rfl) ?_
      refine i_icmp_ge (tgt := 33) X h d_T_blockOfRank_28 (by decide) (fun h => ?_) (fun h => ?_)
      · refine lv_iinc (v := iI (x3 + 1)) (lv' := [(3, .int (iI (x3 + 1))), (2, .int (iI (x2 + v23))), (0, .ref (gA 0)), (1, .int (iI x1))]) hx hb d_T_blockOfRank_33 hl (k := 3) rfl (iI_inc _ _) (by decide) rfl (fun ls hl => ?_)
        refine lv_goto (tgt := 4) hx hb d_T_blockOfRank_36 (by decide) ?_
        exact ih _ _ _ _ _ _ h B (lv_sub hl [2, 3, 1, 0] rfl)
      · refine lv_iload_n hx hb d_T_blockOfRank_31 rfl (lv_at hl 3 rfl) ?_
        exact c_reti X B h d_T_blockOfRank_32
set_option maxHeartbeats 4000000 in
set_option maxRecDepth 100000 in
theorem c_T_blockOfRank (l : Launch) (D : va_G) (gA : Nat → Nat) (gC : Nat → ClassId) (u : TS) (x1 : Int) (post : Int → TS → Prop) (h1 : wm_T_blockOfRank x1 u post) (sz : Nat) : Met l y_T_blockOfRank (Cond.code y_T_blockOfRank b_T_blockOfRank 4 (some .int) :: tw_tbl) (rmD 0) (cPre D (T_ws gA gC u) (T_tys gC) sz [.ref (gA 0), .int (iI x1)]) (cPoI D (T_ws gA gC) (T_tys gC) post (va_A (T_ws gA gC u) sz)) 0 0 (va_A (T_ws gA gC u) sz) := by
  refine c_enter (own := R_T) (Qc := fun A => cPoI D (T_ws gA gC) (T_tys gC) post A) (by decide) rfl [.ref (gA 0), .int (iI x1)] (Nat.le_of_ble_eq_true rfl) (fun p e s m args below meth c A ls X B hl => ?_)
  have hl : lv_has ls 4 [(0, .ref (gA 0)), (1, .int (iI x1))] := hl
  obtain ⟨hx, hb, -⟩ := id X
  have h := h1
  rw [wm_T_blockOfRank] at h
  refine lv_iconst (v := iI 0) hx hb d_T_blockOfRank_0 rfl ?_
  refine lv_istore_n (lv' := [(2, .int (iI 0)), (0, .ref (gA 0)), (1, .int (iI x1))]) hx hb d_T_blockOfRank_1 rfl hl (by decide) rfl (fun ls hl => ?_)
  refine lv_iconst (v := iI 0) hx hb d_T_blockOfRank_2 rfl ?_
  refine lv_istore_n (lv' := [(3, .int (iI 0)), (2, .int (iI 0)), (0, .ref (gA 0)), (1, .int (iI x1))]) hx hb d_T_blockOfRank_3 rfl hl (by decide) rfl (fun ls hl => ?_)
  obtain ⟨n4, h⟩ := h
  refine wk_T_blockOfRank_4 X _ _ (fun u39 H locs ls h B hl => ?_) n4 _ _ _ _ _ _ h B (lv_sub hl [2, 3, 1, 0] rfl)
  refine lv_iconst (v := iI 0) hx hb d_T_blockOfRank_39 rfl ?_
  exact c_reti X B h d_T_blockOfRank_40
set_option maxHeartbeats 4000000 in
set_option maxRecDepth 100000 in
theorem wk_T_matched_19 (X : cX R_T (T_tys gC) (some .int) A p s m args meth c D b_T_matched 5) (x1 : Int) (x4 : Int) {post : Int → TS → Prop} (K : Int → TS → Prop)
    (hK : ∀ (x3 : Int) (u : TS) (H : Heap) (locs : List Loc) (ls : Array Slot), K x3 u → cB D A s H locs (T_ws gA gC u) → lv_has ls 5 [(0, .ref (gA 0)), (3, .int (iI x3))] → W p l e (rmD 0) s m args below meth c H locs 0 0 (MQ below (cPoI D (T_ws gA gC) (T_tys gC) post A) args s 0 0 A) (F0 m 65 ls [])) :
    ∀ (n : Nat) (x3 : Int) (u : TS) (H : Heap) (locs : List Loc) (ls : Array Slot), wl_T_matched_19 x1 x4 K n x3 u → cB D A s H locs (T_ws gA gC u) → lv_has ls 5 [(0, .ref (gA 0)), (1, .int (iI x1)), (3, .int (iI x3)), (4, .int (iI x4))] → W p l e (rmD 0) s m args below meth c H locs 0 0 (MQ below (cPoI D (T_ws gA gC) (T_tys gC) post A) args s 0 0 A) (F0 m 19 ls []) := by
  obtain ⟨hx, hb, -⟩ := id X
  intro n
  induction n with
  | zero =>
    intro x3 u H locs ls h
    rw [wl_T_matched_19] at h
    exact h.elim
  | succ n ih =>
    intro x3 u H locs ls h B hl
    rw [wl_T_matched_19] at h
    refine lv_iload_n hx hb d_T_matched_19 rfl (lv_at hl 2 rfl) ?_
    refine lv_aload_n hx hb d_T_matched_20 rfl (lv_at hl 0 rfl) ?_
    refine t_get_kl X B d_T_matched_21 ?_
    refine i_icmp_ge (tgt := 65) X h d_T_matched_24 (by decide) (fun h => ?_) (fun h => ?_)
    · exact hK _ _ _ _ _ h B (lv_sub hl [0, 2] rfl)
    · refine lv_iload_n hx hb d_T_matched_27 rfl (lv_at hl 2 rfl) ?_
      refine lv_iload hx hb d_T_matched_28 (lv_at hl 3 rfl) ?_
      refine i_icmp_ge (tgt := 65) X h d_T_matched_30 (by decide) (fun h => ?_) (fun h => ?_)
      · exact hK _ _ _ _ _ h B (lv_sub hl [0, 2] rfl)
      · refine lv_aload_n hx hb d_T_matched_33 rfl (lv_at hl 0 rfl) ?_
        refine t_get_dat X B d_T_matched_34 ?_
        refine lv_iload_n hx hb d_T_matched_37 rfl (lv_at hl 1 rfl) ?_
        refine lv_iconst (v := iI 2) hx hb d_T_matched_38 rfl ?_
        refine i_iadd X d_T_matched_39 ?_
        refine lv_iload_n hx hb d_T_matched_40 rfl (lv_at hl 2 rfl) ?_
        refine i_iadd X d_T_matched_41 ?_
        refine lv_aload_n hx hb d_T_matched_42 rfl (lv_at hl 0 rfl) ?_
        refine t_get_dat X B d_T_matched_43 ?_
        refine lv_iload_n hx hb d_T_matched_46 rfl (lv_at hl 1 rfl) ?_
        refine t_ld_dat X B h d_T_matched_47 (fun v47 h => ?_)
        refine i_isub X d_T_matched_48 ?_
        refine t_ld_dat X B h d_T_matched_49 (fun v49 h => ?_)
        refine lv_aload_n hx hb d_T_matched_50 rfl (lv_at hl 0 rfl) ?_
        refine t_get_key X B d_T_matched_51 ?_
        refine lv_iload_n hx hb d_T_matched_54 rfl (lv_at hl 2 rfl) ?_
        refine t_ld_key X B h d_T_matched_55 (fun v55 h => ?_)
        refine i_icmp_ne (tgt := 65) X h d_T_matched_56 (by decide) (fun h => ?_) (fun h => ?_)
        · exact hK _ _ _ _ _ h B (lv_sub hl [0, 2] rfl)
        · refine lv_iinc (v := iI (x3 + 1)) (lv' := [(3, .int (iI (x3 + 1))), (0, .ref (gA 0)), (1, .int (iI x1)), (4, .int (iI x4))]) hx hb d_T_matched_59 hl (k := 2) rfl (iI_inc _ _) (by decide) rfl (fun ls hl => ?_)
          refine lv_goto (tgt := 19) hx hb d_T_matched_62 (by decide) ?_
          exact ih _ _ _ _ _ h B (lv_sub hl [1, 2, 0, 3] rfl)
set_option maxHeartbeats 4000000 in
set_option maxRecDepth 100000 in
theorem c_T_matched (l : Launch) (D : va_G) (gA : Nat → Nat) (gC : Nat → ClassId) (u : TS) (x1 : Int) (x2 : Int) (post : Int → TS → Prop) (h1 : wm_T_matched x1 x2 u post) (sz : Nat) : Met l y_T_matched (Cond.code y_T_matched b_T_matched 5 (some .int) :: tw_tbl) (rmD 0) (cPre D (T_ws gA gC u) (T_tys gC) sz [.ref (gA 0), .int (iI x1), .int (iI x2)]) (cPoI D (T_ws gA gC) (T_tys gC) post (va_A (T_ws gA gC u) sz)) 0 0 (va_A (T_ws gA gC u) sz) := by
  refine c_enter (own := R_T) (Qc := fun A => cPoI D (T_ws gA gC) (T_tys gC) post A) (by decide) rfl [.ref (gA 0), .int (iI x1), .int (iI x2)] (Nat.le_of_ble_eq_true rfl) (fun p e s m args below meth c A ls X B hl => ?_)
  have hl : lv_has ls 5 [(0, .ref (gA 0)), (1, .int (iI x1)), (2, .int (iI x2))] := hl
  obtain ⟨hx, hb, -⟩ := id X
  have h := h1
  rw [wm_T_matched] at h
  refine lv_iload_n hx hb d_T_matched_0 rfl (lv_at hl 2 rfl) ?_
  refine lv_istore_n (lv' := [(3, .int (iI x2)), (0, .ref (gA 0)), (1, .int (iI x1)), (2, .int (iI x2))]) hx hb d_T_matched_1 rfl hl (by decide) rfl (fun ls hl => ?_)
  refine lv_aload_n hx hb d_T_matched_2 rfl (lv_at hl 1 rfl) ?_
  refine t_get_dat X B d_T_matched_3 ?_
  refine lv_iload_n hx hb d_T_matched_6 rfl (lv_at hl 2 rfl) ?_
  refine t_ld_dat X B h d_T_matched_7 (fun v7 h => ?_)
  refine lv_aload_n hx hb d_T_matched_8 rfl (lv_at hl 1 rfl) ?_
  refine t_get_dat X B d_T_matched_9 ?_
  refine lv_iload_n hx hb d_T_matched_12 rfl (lv_at hl 2 rfl) ?_
  refine lv_iconst (v := iI 1) hx hb d_T_matched_13 rfl ?_
  refine i_iadd X d_T_matched_14 ?_
  refine t_ld_dat X B h d_T_matched_15 (fun v15 h => ?_)
  refine i_iadd X d_T_matched_16 ?_
  refine lv_istore (lv' := [(4, .int (iI (v7 + v15))), (3, .int (iI x2)), (0, .ref (gA 0)), (1, .int (iI x1)), (2, .int (iI x2))]) hx hb d_T_matched_17 hl (by decide) rfl (fun ls hl => ?_)
  obtain ⟨n19, h⟩ := h
  refine wk_T_matched_19 X _ _ _ (fun y65_3 u65 H locs ls h B hl => ?_) n19 _ _ _ _ _ h B (lv_sub hl [2, 3, 1, 0] rfl)
  refine lv_iload_n hx hb d_T_matched_65 rfl (lv_at hl 1 rfl) ?_
  exact c_reti X B h d_T_matched_66
set_option maxHeartbeats 4000000 in
set_option maxRecDepth 100000 in
theorem c_T_isLess (l : Launch) (D : va_G) (gA : Nat → Nat) (gC : Nat → ClassId) (u : TS) (x1 : Int) (x2 : Int) (x3 : Int) (post : Int → TS → Prop) (h1 : wm_T_isLess x1 x2 x3 u post) (sz : Nat) : Met l y_T_isLess (Cond.code y_T_isLess b_T_isLess 4 (some .boolean) :: tw_tbl) (rmD 0) (cPre D (T_ws gA gC u) (T_tys gC) sz [.ref (gA 0), .int (iI x1), .int (iI x2), .int (iI x3)]) (cPoI D (T_ws gA gC) (T_tys gC) post (va_A (T_ws gA gC u) sz)) 0 0 (va_A (T_ws gA gC u) sz) := by
  refine c_enter (own := R_T) (Qc := fun A => cPoI D (T_ws gA gC) (T_tys gC) post A) (by decide) rfl [.ref (gA 0), .int (iI x1), .int (iI x2), .int (iI x3)] (Nat.le_of_ble_eq_true rfl) (fun p e s m args below meth c A ls X B hl => ?_)
  have hl : lv_has ls 4 [(0, .ref (gA 0)), (1, .int (iI x1)), (2, .int (iI x2)), (3, .int (iI x3))] := hl
  obtain ⟨hx, hb, -⟩ := id X
  have h := h1
  rw [wm_T_isLess] at h
  refine lv_iload_n hx hb d_T_isLess_0 rfl (lv_at hl 2 rfl) ?_
  refine lv_aload_n hx hb d_T_isLess_1 rfl (lv_at hl 0 rfl) ?_
  refine t_get_kl X B d_T_isLess_2 ?_
  refine i_icmp_ne (tgt := 10) X h d_T_isLess_5 (by decide) (fun h => ?_) (fun h => ?_)
  · refine lv_iload_n hx hb d_T_isLess_10 rfl (lv_at hl 2 rfl) ?_
    refine lv_aload_n hx hb d_T_isLess_11 rfl (lv_at hl 0 rfl) ?_
    refine t_get_dat X B d_T_isLess_12 ?_
    refine lv_iload_n hx hb d_T_isLess_15 rfl (lv_at hl 1 rfl) ?_
    refine t_ld_dat X B h d_T_isLess_16 (fun v16 h => ?_)
    refine lv_aload_n hx hb d_T_isLess_17 rfl (lv_at hl 0 rfl) ?_
    refine t_get_dat X B d_T_isLess_18 ?_
    refine lv_iload_n hx hb d_T_isLess_21 rfl (lv_at hl 1 rfl) ?_
    refine lv_iconst (v := iI 1) hx hb d_T_isLess_22 rfl ?_
    refine i_iadd X d_T_isLess_23 ?_
    refine t_ld_dat X B h d_T_isLess_24 (fun v24 h => ?_)
    refine i_iadd X d_T_isLess_25 ?_
    refine i_icmp_eq (tgt := 55) X h d_T_isLess_26 (by decide) (fun h => ?_) (fun h => ?_)
    · refine lv_iconst (v := iI 1) hx hb d_T_isLess_55 rfl ?_
      refine lv_goto (tgt := 60) hx hb d_T_isLess_56 (by decide) ?_
      exact c_retz X B h.1 h.2 d_T_isLess_60
    · refine lv_aload_n hx hb d_T_isLess_29 rfl (lv_at hl 0 rfl) ?_
      refine t_get_dat X B d_T_isLess_30 ?_
      refine lv_iload_n hx hb d_T_isLess_33 rfl (lv_at hl 1 rfl) ?_
      refine lv_iconst (v := iI 2) hx hb d_T_isLess_34 rfl ?_
      refine i_iadd X d_T_isLess_35 ?_
      refine lv_iload_n hx hb d_T_isLess_36 rfl (lv_at hl 2 rfl) ?_
      refine i_iadd X d_T_isLess_37 ?_
      refine lv_aload_n hx hb d_T_isLess_38 rfl (lv_at hl 0 rfl) ?_
      refine t_get_dat X B d_T_isLess_39 ?_
      refine lv_iload_n hx hb d_T_isLess_42 rfl (lv_at hl 1 rfl) ?_
      refine t_ld_dat X B h d_T_isLess_43 (fun v43 h => ?_)
      refine i_isub X d_T_isLess_44 ?_
      refine t_ld_dat X B h d_T_isLess_45 (fun v45 h => ?_)
      refine lv_aload_n hx hb d_T_isLess_46 rfl (lv_at hl 0 rfl) ?_
      refine t_get_key X B d_T_isLess_47 ?_
      refine lv_iload_n hx hb d_T_isLess_50 rfl (lv_at hl 2 rfl) ?_
      refine t_ld_key X B h d_T_isLess_51 (fun v51 h => ?_)
      refine i_icmp_ge (tgt := 59) X h d_T_isLess_52 (by decide) (fun h => ?_) (fun h => ?_)
      · refine lv_iconst (v := iI 0) hx hb d_T_isLess_59 rfl ?_
        exact c_retz X B h.1 h.2 d_T_isLess_60
      · refine lv_iconst (v := iI 1) hx hb d_T_isLess_55 rfl ?_
        refine lv_goto (tgt := 60) hx hb d_T_isLess_56 (by decide) ?_
        exact c_retz X B h.1 h.2 d_T_isLess_60
  · refine lv_iload_n hx hb d_T_isLess_8 rfl (lv_at hl 3 rfl) ?_
    exact c_retz X B h.1 h.2 d_T_isLess_9
set_option maxHeartbeats 4000000 in
set_option maxRecDepth 100000 in
theorem wk_T_unpack_34 (X : cX R_T (T_tys gC) (none) A p s m args meth c D b_T_unpack 6) (x1 : Int) (x2 : Int) (x3 : Int) (x4 : Int) {post : TS → Prop} (K : TS → Prop)
    (hK : ∀ (u : TS) (H : Heap) (locs : List Loc) (ls : Array Slot), K u → cB D A s H locs (T_ws gA gC u) → lv_has ls 6 [(0, .ref (gA 0)), (1, .int (iI x1)), (2, .int (iI x2)), (4, .int (iI x4))] → W p l e (rmD 0) s m args below meth c H locs 0 0 (MQ below (cPoV D (T_ws gA gC) (T_tys gC) post A) args s 0 0 A) (F0 m 75 ls [])) :
    ∀ (n : Nat) (x5 : Int) (u : TS) (H : Heap) (locs : List Loc) (ls : Array Slot), wl_T_unpack_34 x2 x3 K n x5 u → cB D A s H locs (T_ws gA gC u) → lv_has ls 6 [(0, .ref (gA 0)), (1, .int (iI x1)), (2, .int (iI x2)), (3, .int (iI x3)), (4, .int (iI x4)), (5, .int (iI x5))] → W p l e (rmD 0) s m args below meth c H locs 0 0 (MQ below (cPoV D (T_ws gA gC) (T_tys gC) post A) args s 0 0 A) (F0 m 34 ls []) := by
  obtain ⟨hx, hb, -⟩ := id X
  intro n
  induction n with
  | zero =>
    intro x5 u H locs ls h
    rw [wl_T_unpack_34] at h
    exact h.elim
  | succ n ih =>
    intro x5 u H locs ls h B hl
    rw [wl_T_unpack_34] at h
    refine lv_iload hx hb d_T_unpack_34 (lv_at hl 5 rfl) ?_
    refine lv_aload_n hx hb d_T_unpack_36 rfl (lv_at hl 0 rfl) ?_
    refine t_get_dat X B d_T_unpack_37 ?_
    refine lv_iload_n hx hb d_T_unpack_40 rfl (lv_at hl 2 rfl) ?_
    refine t_ld_dat X B h d_T_unpack_41 (fun v41 h => ?_)
    refine i_icmp_ge (tgt := 75) X h d_T_unpack_42 (by decide) (fun h => ?_) (fun h => ?_)
    · exact hK _ _ _ _ h B (lv_sub hl [0, 1, 2, 4] rfl)
    · refine lv_aload_n hx hb d_T_unpack_45 rfl (lv_at hl 0 rfl) ?_
      refine t_get_ll X B d_T_unpack_46 ?_
      refine lv_bipush (v := iI 6) hx hb d_T_unpack_49 (by decide) ?_
      refine lv_aload_n hx hb d_T_unpack_51 rfl (lv_at hl 0 rfl) ?_
      refine t_get_li X B d_T_unpack_52 ?_
      refine i_imul X d_T_unpack_55 ?_
      refine lv_iload hx hb d_T_unpack_56 (lv_at hl 5 rfl) ?_
      refine i_iadd X d_T_unpack_58 ?_
      refine lv_aload_n hx hb d_T_unpack_59 rfl (lv_at hl 0 rfl) ?_
      refine t_get_ll X B d_T_unpack_60 ?_
      refine lv_iload_n hx hb d_T_unpack_63 rfl (lv_at hl 3 rfl) ?_
      refine lv_iload hx hb d_T_unpack_64 (lv_at hl 5 rfl) ?_
      refine i_iadd X d_T_unpack_66 ?_
      refine t_ld_ll X B h d_T_unpack_67 (fun v67 h => ?_)
      refine t_st_ll X B h d_T_unpack_68 (fun u68 H locs h B => ?_)
      refine lv_iinc (v := iI (x5 + 1)) (lv' := [(5, .int (iI (x5 + 1))), (0, .ref (gA 0)), (1, .int (iI x1)), (2, .int (iI x2)), (3, .int (iI x3)), (4, .int (iI x4))]) hx hb d_T_unpack_69 hl (k := 5) rfl (iI_inc _ _) (by decide) rfl (fun ls hl => ?_)
      refine lv_goto (tgt := 34) hx hb d_T_unpack_72 (by decide) ?_
      exact ih _ _ _ _ _ h B (lv_sub hl [1, 2, 3, 4, 5, 0] rfl)
set_option maxHeartbeats 4000000 in
set_option maxRecDepth 100000 in
theorem wk_T_unpack_78 (X : cX R_T (T_tys gC) (none) A p s m args meth c D b_T_unpack 6) (x1 : Int) (x2 : Int) (x4 : Int) {post : TS → Prop} (K : TS → Prop)
    (hK : ∀ (u : TS) (H : Heap) (locs : List Loc) (ls : Array Slot), K u → cB D A s H locs (T_ws gA gC u) → lv_has ls 6 [(0, .ref (gA 0)), (1, .int (iI x1)), (2, .int (iI x2)), (4, .int (iI x4))] → W p l e (rmD 0) s m args below meth c H locs 0 0 (MQ below (cPoV D (T_ws gA gC) (T_tys gC) post A) args s 0 0 A) (F0 m 130 ls [])) :
    ∀ (n : Nat) (x5 : Int) (u : TS) (H : Heap) (locs : List Loc) (ls : Array Slot), wl_T_unpack_78 x2 K n x5 u → cB D A s H locs (T_ws gA gC u) → lv_has ls 6 [(0, .ref (gA 0)), (1, .int (iI x1)), (2, .int (iI x2)), (4, .int (iI x4)), (5, .int (iI x5))] → W p l e (rmD 0) s m args below meth c H locs 0 0 (MQ below (cPoV D (T_ws gA gC) (T_tys gC) post A) args s 0 0 A) (F0 m 78 ls []) := by
  obtain ⟨hx, hb, -⟩ := id X
  intro n
  induction n with
  | zero =>
    intro x5 u H locs ls h
    rw [wl_T_unpack_78] at h
    exact h.elim
  | succ n ih =>
    intro x5 u H locs ls h B hl
    rw [wl_T_unpack_78] at h
    refine lv_iload hx hb d_T_unpack_78 (lv_at hl 4 rfl) ?_
    refine lv_aload_n hx hb d_T_unpack_80 rfl (lv_at hl 0 rfl) ?_
    refine t_get_dat X B d_T_unpack_81 ?_
    refine lv_iload_n hx hb d_T_unpack_84 rfl (lv_at hl 2 rfl) ?_
    refine lv_iconst (v := iI 1) hx hb d_T_unpack_85 rfl ?_
    refine i_iadd X d_T_unpack_86 ?_
    refine t_ld_dat X B h d_T_unpack_87 (fun v87 h => ?_)
    refine i_icmp_ge (tgt := 130) X h d_T_unpack_88 (by decide) (fun h => ?_) (fun h => ?_)
    · exact hK _ _ _ _ h B (lv_sub hl [0, 1, 2, 3] rfl)
    · refine lv_aload_n hx hb d_T_unpack_91 rfl (lv_at hl 0 rfl) ?_
      refine t_get_ll X B d_T_unpack_92 ?_
      refine lv_bipush (v := iI 6) hx hb d_T_unpack_95 (by decide) ?_
      refine lv_aload_n hx hb d_T_unpack_97 rfl (lv_at hl 0 rfl) ?_
      refine t_get_li X B d_T_unpack_98 ?_
      refine i_imul X d_T_unpack_101 ?_
      refine lv_aload_n hx hb d_T_unpack_102 rfl (lv_at hl 0 rfl) ?_
      refine t_get_dat X B d_T_unpack_103 ?_
      refine lv_iload_n hx hb d_T_unpack_106 rfl (lv_at hl 2 rfl) ?_
      refine t_ld_dat X B h d_T_unpack_107 (fun v107 h => ?_)
      refine i_iadd X d_T_unpack_108 ?_
      refine lv_iload hx hb d_T_unpack_109 (lv_at hl 4 rfl) ?_
      refine i_iadd X d_T_unpack_111 ?_
      refine lv_aload_n hx hb d_T_unpack_112 rfl (lv_at hl 0 rfl) ?_
      refine t_get_dat X B d_T_unpack_113 ?_
      refine lv_iload_n hx hb d_T_unpack_116 rfl (lv_at hl 2 rfl) ?_
      refine lv_iconst (v := iI 2) hx hb d_T_unpack_117 rfl ?_
      refine i_iadd X d_T_unpack_118 ?_
      refine lv_iload hx hb d_T_unpack_119 (lv_at hl 4 rfl) ?_
      refine i_iadd X d_T_unpack_121 ?_
      refine t_ld_dat X B h d_T_unpack_122 (fun v122 h => ?_)
      refine t_st_ll X B h d_T_unpack_123 (fun u123 H locs h B => ?_)
      refine lv_iinc (v := iI (x5 + 1)) (lv' := [(5, .int (iI (x5 + 1))), (0, .ref (gA 0)), (1, .int (iI x1)), (2, .int (iI x2)), (4, .int (iI x4))]) hx hb d_T_unpack_124 hl (k := 4) rfl (iI_inc _ _) (by decide) rfl (fun ls hl => ?_)
      refine lv_goto (tgt := 78) hx hb d_T_unpack_127 (by decide) ?_
      exact ih _ _ _ _ _ h B (lv_sub hl [1, 2, 3, 4, 0] rfl)
set_option maxHeartbeats 4000000 in
set_option maxRecDepth 100000 in
theorem wk_T_unpack_15 (X : cX R_T (T_tys gC) (none) A p s m args meth c D b_T_unpack 6) (x1 : Int) {post : TS → Prop} (K : TS → Prop)
    (hK : ∀ (u : TS) (H : Heap) (locs : List Loc) (ls : Array Slot), K u → cB D A s H locs (T_ws gA gC u) → lv_has ls 6 [(0, .ref (gA 0))] → W p l e (rmD 0) s m args below meth c H locs 0 0 (MQ below (cPoV D (T_ws gA gC) (T_tys gC) post A) args s 0 0 A) (F0 m 191 ls [])) :
    ∀ (n : Nat) (x2 : Int) (x3 : Int) (x4 : Int) (u : TS) (H : Heap) (locs : List Loc) (ls : Array Slot), wl_T_unpack_15 x1 K n x2 x3 x4 u → cB D A s H locs (T_ws gA gC u) → lv_has ls 6 [(0, .ref (gA 0)), (1, .int (iI x1)), (2, .int (iI x2)), (3, .int (iI x3)), (4, .int (iI x4))] → W p l e (rmD 0) s m args below meth c H locs 0 0 (MQ below (cPoV D (T_ws gA gC) (T_tys gC) post A) args s 0 0 A) (F0 m 15 ls []) := by
  obtain ⟨hx, hb, -⟩ := id X
  intro n
  induction n with
  | zero =>
    intro x2 x3 x4 u H locs ls h
    rw [wl_T_unpack_15] at h
    exact h.elim
  | succ n ih =>
    intro x2 x3 x4 u H locs ls h B hl
    rw [wl_T_unpack_15] at h
    refine lv_iload hx hb d_T_unpack_15 (lv_at hl 4 rfl) ?_
    refine lv_aload_n hx hb d_T_unpack_17 rfl (lv_at hl 0 rfl) ?_
    refine t_get_siz X B d_T_unpack_18 ?_
    refine lv_aload_n hx hb d_T_unpack_21 rfl (lv_at hl 0 rfl) ?_
    refine t_get_slot X B d_T_unpack_22 ?_
    refine lv_iload_n hx hb d_T_unpack_25 rfl (lv_at hl 1 rfl) ?_
    refine t_ld_slot X B h d_T_unpack_26 (fun v26 h => ?_)
    refine t_ld_siz X B h d_T_unpack_27 (fun v27 h => ?_)
    refine i_icmp_ge (tgt := 191) X h d_T_unpack_28 (by decide) (fun h => ?_) (fun h => ?_)
    · exact hK _ _ _ _ h B (lv_sub hl [0] rfl)
    · refine lv_iconst (v := iI 0) hx hb d_T_unpack_31 rfl ?_
      refine lv_istore (lv' := [(5, .int (iI 0)), (0, .ref (gA 0)), (1, .int (iI x1)), (2, .int (iI x2)), (3, .int (iI x3)), (4, .int (iI x4))]) hx hb d_T_unpack_32 hl (by decide) rfl (fun ls hl => ?_)
      obtain ⟨n34, h⟩ := h
      refine wk_T_unpack_34 X _ _ _ _ _ (fun u75 H locs ls h B hl => ?_) n34 _ _ _ _ _ h B (lv_sub hl [1, 2, 3, 4, 5, 0] rfl)
      refine lv_iconst (v := iI 0) hx hb d_T_unpack_75 rfl ?_
      refine lv_istore (lv' := [(5, .int (iI 0)), (0, .ref (gA 0)), (1, .int (iI x1)), (2, .int (iI x2)), (4, .int (iI x4))]) hx hb d_T_unpack_76 hl (by decide) rfl (fun ls hl => ?_)
      obtain ⟨n78, h⟩ := h
      refine wk_T_unpack_78 X _ _ _ _ (fun u130 H locs ls h B hl => ?_) n78 _ _ _ _ _ h B (lv_sub hl [1, 2, 3, 4, 0] rfl)
      refine lv_aload_n hx hb d_T_unpack_130 rfl (lv_at hl 0 rfl) ?_
      refine t_get_len X B d_T_unpack_131 ?_
      refine lv_aload_n hx hb d_T_unpack_134 rfl (lv_at hl 0 rfl) ?_
      refine t_get_li X B d_T_unpack_135 ?_
      refine lv_aload_n hx hb d_T_unpack_138 rfl (lv_at hl 0 rfl) ?_
      refine t_get_dat X B d_T_unpack_139 ?_
      refine lv_iload_n hx hb d_T_unpack_142 rfl (lv_at hl 2 rfl) ?_
      refine t_ld_dat X B h d_T_unpack_143 (fun v143 h => ?_)
      refine lv_aload_n hx hb d_T_unpack_144 rfl (lv_at hl 0 rfl) ?_
      refine t_get_dat X B d_T_unpack_145 ?_
      refine lv_iload_n hx hb d_T_unpack_148 rfl (lv_at hl 2 rfl) ?_
      refine lv_iconst (v := iI 1) hx hb d_T_unpack_149 rfl ?_
      refine i_iadd X d_T_unpack_150 ?_
      refine t_ld_dat X B h d_T_unpack_151 (fun v151 h => ?_)
      refine i_iadd X d_T_unpack_152 ?_
      refine t_st_len X B h d_T_unpack_153 (fun u153 H locs h B => ?_)
      refine lv_bipush (v := iI 6) hx hb d_T_unpack_154 (by decide) ?_
      refine lv_aload_n hx hb d_T_unpack_156 rfl (lv_at hl 0 rfl) ?_
      refine t_get_li X B d_T_unpack_157 ?_
      refine i_imul X d_T_unpack_160 ?_
      refine lv_istore_n (lv' := [(3, .int (iI (6 * (tli u153)))), (0, .ref (gA 0)), (1, .int (iI x1)), (2, .int (iI x2)), (4, .int (iI x4))]) hx hb d_T_unpack_161 rfl hl (by decide) rfl (fun ls hl => ?_)
      refine lv_aload_n hx hb d_T_unpack_162 rfl (lv_at hl 1 rfl) ?_
      refine lv_dup hx hb d_T_unpack_163 rfl ?_
      refine t_get_li X B d_T_unpack_164 ?_
      refine lv_iconst (v := iI 1) hx hb d_T_unpack_167 rfl ?_
      refine i_iadd X d_T_unpack_168 ?_
      refine t_put_li X B h d_T_unpack_169 (fun u169 H locs h B => ?_)
      refine lv_iload_n hx hb d_T_unpack_172 rfl (lv_at hl 3 rfl) ?_
      refine lv_iconst (v := iI 2) hx hb d_T_unpack_173 rfl ?_
      refine lv_aload_n hx hb d_T_unpack_174 rfl (lv_at hl 1 rfl) ?_
      refine t_get_dat X B d_T_unpack_175 ?_
      refine lv_iload_n hx hb d_T_unpack_178 rfl (lv_at hl 3 rfl) ?_
      refine lv_iconst (v := iI 1) hx hb d_T_unpack_179 rfl ?_
      refine i_iadd X d_T_unpack_180 ?_
      refine t_ld_dat X B h d_T_unpack_181 (fun v181 h => ?_)
      refine i_iadd X d_T_unpack_182 ?_
      refine i_iadd X d_T_unpack_183 ?_
      refine lv_istore_n (lv' := [(2, .int (iI (x2 + (2 + v181)))), (3, .int (iI (6 * (tli u153)))), (0, .ref (gA 0)), (1, .int (iI x1)), (4, .int (iI x4))]) hx hb d_T_unpack_184 rfl hl (by decide) rfl (fun ls hl => ?_)
      refine lv_iinc (v := iI (x4 + 1)) (lv' := [(4, .int (iI (x4 + 1))), (2, .int (iI (x2 + (2 + v181)))), (3, .int (iI (6 * (tli u153)))), (0, .ref (gA 0)), (1, .int (iI x1))]) hx hb d_T_unpack_185 hl (k := 4) rfl (iI_inc _ _) (by decide) rfl (fun ls hl => ?_)
      refine lv_goto (tgt := 15) hx hb d_T_unpack_188 (by decide) ?_
      exact ih _ _ _ _ _ _ _ h B (lv_sub hl [3, 4, 1, 2, 0] rfl)
set_option maxHeartbeats 4000000 in
set_option maxRecDepth 100000 in
theorem c_T_unpack (l : Launch) (D : va_G) (gA : Nat → Nat) (gC : Nat → ClassId) (u : TS) (x1 : Int) (post : TS → Prop) (h1 : wm_T_unpack x1 u post) (sz : Nat) : Met l y_T_unpack (Cond.code y_T_unpack b_T_unpack 6 (none) :: tw_tbl) (rmD 0) (cPre D (T_ws gA gC u) (T_tys gC) sz [.ref (gA 0), .int (iI x1)]) (cPoV D (T_ws gA gC) (T_tys gC) post (va_A (T_ws gA gC u) sz)) 0 0 (va_A (T_ws gA gC u) sz) := by
  refine c_enter (own := R_T) (Qc := fun A => cPoV D (T_ws gA gC) (T_tys gC) post A) (by decide) rfl [.ref (gA 0), .int (iI x1)] (Nat.le_of_ble_eq_true rfl) (fun p e s m args below meth c A ls X B hl => ?_)
  have hl : lv_has ls 6 [(0, .ref (gA 0)), (1, .int (iI x1))] := hl
  obtain ⟨hx, hb, -⟩ := id X
  have h := h1
  rw [wm_T_unpack] at h
  refine lv_bipush (v := iI 48) hx hb d_T_unpack_0 (by decide) ?_
  refine lv_aload_n hx hb d_T_unpack_2 rfl (lv_at hl 0 rfl) ?_
  refine t_get_slot X B d_T_unpack_3 ?_
  refine lv_iload_n hx hb d_T_unpack_6 rfl (lv_at hl 1 rfl) ?_
  refine t_ld_slot X B h d_T_unpack_7 (fun v7 h => ?_)
  refine i_imul X d_T_unpack_8 ?_
  refine lv_istore_n (lv' := [(2, .int (iI (48 * v7))), (0, .ref (gA 0)), (1, .int (iI x1))]) hx hb d_T_unpack_9 rfl hl (by decide) rfl (fun ls hl => ?_)
  refine lv_iconst (v := iI 0) hx hb d_T_unpack_10 rfl ?_
  refine lv_istore_n (lv' := [(3, .int (iI 0)), (2, .int (iI (48 * v7))), (0, .ref (gA 0)), (1, .int (iI x1))]) hx hb d_T_unpack_11 rfl hl (by decide) rfl (fun ls hl => ?_)
  refine lv_iconst (v := iI 0) hx hb d_T_unpack_12 rfl ?_
  refine lv_istore (lv' := [(4, .int (iI 0)), (3, .int (iI 0)), (2, .int (iI (48 * v7))), (0, .ref (gA 0)), (1, .int (iI x1))]) hx hb d_T_unpack_13 hl (by decide) rfl (fun ls hl => ?_)
  obtain ⟨n15, h⟩ := h
  refine wk_T_unpack_15 X _ _ (fun u191 H locs ls h B hl => ?_) n15 _ _ _ _ _ _ _ h B (lv_sub hl [3, 4, 2, 1, 0] rfl)
  exact c_retv X B h d_T_unpack_191
end WalkT1
end
section
section WalkT2
variable {p : Program} {l : Launch} {e : Env} {s : State} {m : MethodId} {args : Array Value} {below : List Frame} {meth : Method} {c : Code} {D : va_G} {gA : Nat → Nat} {gC : Nat → ClassId} {A : Nat → Prop}
set_option maxHeartbeats 4000000 in
set_option maxRecDepth 100000 in
theorem wk_T_copyInList_2 (X : cX R_T (T_tys gC) (none) A p s m args meth c D b_T_copyInList 4) (x1 : Int) (x2 : Int) {post : TS → Prop} (K : TS → Prop)
    (hK : ∀ (u : TS) (H : Heap) (locs : List Loc) (ls : Array Slot), K u → cB D A s H locs (T_ws gA gC u) → lv_has ls 4 [(0, .ref (gA 0)), (1, .int (iI x1)), (2, .int (iI x2))] → W p l e (rmD 0) s m args below meth c H locs 0 0 (MQ below (cPoV D (T_ws gA gC) (T_tys gC) post A) args s 0 0 A) (F0 m 40 ls [])) :
    ∀ (n : Nat) (x3 : Int) (u : TS) (H : Heap) (locs : List Loc) (ls : Array Slot), wl_T_copyInList_2 x1 x2 K n x3 u → cB D A s H locs (T_ws gA gC u) → lv_has ls 4 [(0, .ref (gA 0)), (1, .int (iI x1)), (2, .int (iI x2)), (3, .int (iI x3))] → W p l e (rmD 0) s m args below meth c H locs 0 0 (MQ below (cPoV D (T_ws gA gC) (T_tys gC) post A) args s 0 0 A) (F0 m 2 ls []) := by
  obtain ⟨hx, hb, -⟩ := id X
  intro n
  induction n with
  | zero =>
    intro x3 u H locs ls h
    rw [wl_T_copyInList_2] at h
    exact h.elim
  | succ n ih =>
    intro x3 u H locs ls h B hl
    rw [wl_T_copyInList_2] at h
    refine lv_iload_n hx hb d_T_copyInList_2 rfl (lv_at hl 3 rfl) ?_
    refine lv_aload_n hx hb d_T_copyInList_3 rfl (lv_at hl 0 rfl) ?_
    refine t_get_len X B d_T_copyInList_4 ?_
    refine lv_iload_n hx hb d_T_copyInList_7 rfl (lv_at hl 1 rfl) ?_
    refine t_ld_len X B h d_T_copyInList_8 (fun v8 h => ?_)
    refine i_icmp_ge (tgt := 40) X h d_T_copyInList_9 (by decide) (fun h => ?_) (fun h => ?_)
    · exact hK _ _ _ _ h B (lv_sub hl [0, 1, 2] rfl)
    · refine lv_aload_n hx hb d_T_copyInList_12 rfl (lv_at hl 0 rfl) ?_
      refine t_get_ll X B d_T_copyInList_13 ?_
      refine lv_bipush (v := iI 6) hx hb d_T_copyInList_16 (by decide) ?_
      refine lv_iload_n hx hb d_T_copyInList_18 rfl (lv_at hl 2 rfl) ?_
      refine i_imul X d_T_copyInList_19 ?_
      refine lv_iload_n hx hb d_T_copyInList_20 rfl (lv_at hl 3 rfl) ?_
      refine i_iadd X d_T_copyInList_21 ?_
      refine lv_aload_n hx hb d_T_copyInList_22 rfl (lv_at hl 0 rfl) ?_
      refine t_get_ll X B d_T_copyInList_23 ?_
      refine lv_bipush (v := iI 6) hx hb d_T_copyInList_26 (by decide) ?_
      refine lv_iload_n hx hb d_T_copyInList_28 rfl (lv_at hl 1 rfl) ?_
      refine i_imul X d_T_copyInList_29 ?_
      refine lv_iload_n hx hb d_T_copyInList_30 rfl (lv_at hl 3 rfl) ?_
      refine i_iadd X d_T_copyInList_31 ?_
      refine t_ld_ll X B h d_T_copyInList_32 (fun v32 h => ?_)
      refine t_st_ll X B h d_T_copyInList_33 (fun u33 H locs h B => ?_)
      refine lv_iinc (v := iI (x3 + 1)) (lv' := [(3, .int (iI (x3 + 1))), (0, .ref (gA 0)), (1, .int (iI x1)), (2, .int (iI x2))]) hx hb d_T_copyInList_34 hl (k := 3) rfl (iI_inc _ _) (by decide) rfl (fun ls hl => ?_)
      refine lv_goto (tgt := 2) hx hb d_T_copyInList_37 (by decide) ?_
      exact ih _ _ _ _ _ h B (lv_sub hl [1, 2, 3, 0] rfl)
set_option maxHeartbeats 4000000 in
set_option maxRecDepth 100000 in
theorem c_T_copyInList (l : Launch) (D : va_G) (gA : Nat → Nat) (gC : Nat → ClassId) (u : TS) (x1 : Int) (x2 : Int) (post : TS → Prop) (h1 : wm_T_copyInList x1 x2 u post) (sz : Nat) : Met l y_T_copyInList (Cond.code y_T_copyInList b_T_copyInList 4 (none) :: tw_tbl) (rmD 0) (cPre D (T_ws gA gC u) (T_tys gC) sz [.ref (gA 0), .int (iI x1), .int (iI x2)]) (cPoV D (T_ws gA gC) (T_tys gC) post (va_A (T_ws gA gC u) sz)) 0 0 (va_A (T_ws gA gC u) sz) := by
  refine c_enter (own := R_T) (Qc := fun A => cPoV D (T_ws gA gC) (T_tys gC) post A) (by decide) rfl [.ref (gA 0), .int (iI x1), .int (iI x2)] (Nat.le_of_ble_eq_true rfl) (fun p e s m args below meth c A ls X B hl => ?_)
  have hl : lv_has ls 4 [(0, .ref (gA 0)), (1, .int (iI x1)), (2, .int (iI x2))] := hl
  obtain ⟨hx, hb, -⟩ := id X
  have h := h1
  rw [wm_T_copyInList] at h
  refine lv_iconst (v := iI 0) hx hb d_T_copyInList_0 rfl ?_
  refine lv_istore_n (lv' := [(3, .int (iI 0)), (0, .ref (gA 0)), (1, .int (iI x1)), (2, .int (iI x2))]) hx hb d_T_copyInList_1 rfl hl (by decide) rfl (fun ls hl => ?_)
  obtain ⟨n2, h⟩ := h
  refine wk_T_copyInList_2 X _ _ _ (fun u40 H locs ls h B hl => ?_) n2 _ _ _ _ _ h B (lv_sub hl [1, 2, 3, 0] rfl)
  refine lv_aload_n hx hb d_T_copyInList_40 rfl (lv_at hl 0 rfl) ?_
  refine t_get_len X B d_T_copyInList_41 ?_
  refine lv_iload_n hx hb d_T_copyInList_44 rfl (lv_at hl 2 rfl) ?_
  refine lv_aload_n hx hb d_T_copyInList_45 rfl (lv_at hl 0 rfl) ?_
  refine t_get_len X B d_T_copyInList_46 ?_
  refine lv_iload_n hx hb d_T_copyInList_49 rfl (lv_at hl 1 rfl) ?_
  refine t_ld_len X B h d_T_copyInList_50 (fun v50 h => ?_)
  refine t_st_len X B h d_T_copyInList_51 (fun u51 H locs h B => ?_)
  exact c_retv X B h d_T_copyInList_52
set_option maxHeartbeats 4000000 in
set_option maxRecDepth 100000 in
theorem wk_T_openBlock_5 (X : cX R_T (T_tys gC) (none) A p s m args meth c D b_T_openBlock 4) (x1 : Int) {post : TS → Prop} (K : Int → TS → Prop)
    (hK : ∀ (x2 : Int) (u : TS) (H : Heap) (locs : List Loc) (ls : Array Slot), K x2 u → cB D A s H locs (T_ws gA gC u) → lv_has ls 4 [(0, .ref (gA 0)), (1, .int (iI x1)), (2, .int (iI x2))] → W p l e (rmD 0) s m args below meth c H locs 0 0 (MQ below (cPoV D (T_ws gA gC) (T_tys gC) post A) args s 0 0 A) (F0 m 26 ls [])) :
    ∀ (n : Nat) (x2 : Int) (x3 : Int) (u : TS) (H : Heap) (locs : List Loc) (ls : Array Slot), wl_T_openBlock_5 K n x2 x3 u → cB D A s H locs (T_ws gA gC u) → lv_has ls 4 [(0, .ref (gA 0)), (1, .int (iI x1)), (2, .int (iI x2)), (3, .int (iI x3))] → W p l e (rmD 0) s m args below meth c H locs 0 0 (MQ below (cPoV D (T_ws gA gC) (T_tys gC) post A) args s 0 0 A) (F0 m 5 ls []) := by
  obtain ⟨hx, hb, -⟩ := id X
  intro n
  induction n with
  | zero =>
    intro x2 x3 u H locs ls h
    rw [wl_T_openBlock_5] at h
    exact h.elim
  | succ n ih =>
    intro x2 x3 u H locs ls h B hl
    rw [wl_T_openBlock_5] at h
    refine lv_iload_n hx hb d_T_openBlock_5 rfl (lv_at hl 3 rfl) ?_
    refine i_if_lt (tgt := 26) X h d_T_openBlock_6 (by decide) (fun h => ?_) (fun h => ?_)
    · exact hK _ _ _ _ _ h B (lv_sub hl [0, 1, 2] rfl)
    · refine lv_aload_n hx hb d_T_openBlock_9 rfl (lv_at hl 0 rfl) ?_
      refine t_get_tak X B d_T_openBlock_10 ?_
      refine lv_iload_n hx hb d_T_openBlock_13 rfl (lv_at hl 3 rfl) ?_
      refine t_ld_tak X B h d_T_openBlock_14 (fun v14 h => ?_)
      refine i_if_ne (tgt := 20) X h d_T_openBlock_15 (by decide) (fun h => ?_) (fun h => ?_)
      · refine lv_iinc (v := iI (x3 + (-1))) (lv' := [(3, .int (iI (x3 + (-1)))), (0, .ref (gA 0)), (1, .int (iI x1)), (2, .int (iI x2))]) hx hb d_T_openBlock_20 hl (k := 3) rfl (iI_inc _ _) (by decide) rfl (fun ls hl => ?_)
        refine lv_goto (tgt := 5) hx hb d_T_openBlock_23 (by decide) ?_
        exact ih _ _ _ _ _ _ h B (lv_sub hl [1, 2, 3, 0] rfl)
      · refine lv_iload_n hx hb d_T_openBlock_18 rfl (lv_at hl 3 rfl) ?_
        refine lv_istore_n (lv' := [(2, .int (iI x3)), (0, .ref (gA 0)), (1, .int (iI x1)), (3, .int (iI x3))]) hx hb d_T_openBlock_19 rfl hl (by decide) rfl (fun ls hl => ?_)
        refine lv_iinc (v := iI (x3 + (-1))) (lv' := [(3, .int (iI (x3 + (-1)))), (2, .int (iI x3)), (0, .ref (gA 0)), (1, .int (iI x1))]) hx hb d_T_openBlock_20 hl (k := 3) rfl (iI_inc _ _) (by decide) rfl (fun ls hl => ?_)
        refine lv_goto (tgt := 5) hx hb d_T_openBlock_23 (by decide) ?_
        exact ih _ _ _ _ _ _ h B (lv_sub hl [2, 3, 1, 0] rfl)
set_option maxHeartbeats 4000000 in
set_option maxRecDepth 100000 in
theorem wk_T_openBlock_45 (X : cX R_T (T_tys gC) (none) A p s m args meth c D b_T_openBlock 4) (x1 : Int) (x2 : Int) {post : TS → Prop} (K : TS → Prop)
    (hK : ∀ (u : TS) (H : Heap) (locs : List Loc) (ls : Array Slot), K u → cB D A s H locs (T_ws gA gC u) → lv_has ls 4 [(0, .ref (gA 0)), (1, .int (iI x1)), (2, .int (iI x2))] → W p l e (rmD 0) s m args below meth c H locs 0 0 (MQ below (cPoV D (T_ws gA gC) (T_tys gC) post A) args s 0 0 A) (F0 m 70 ls [])) :
    ∀ (n : Nat) (x3 : Int) (u : TS) (H : Heap) (locs : List Loc) (ls : Array Slot), wl_T_openBlock_45 x1 K n x3 u → cB D A s H locs (T_ws gA gC u) → lv_has ls 4 [(0, .ref (gA 0)), (1, .int (iI x1)), (2, .int (iI x2)), (3, .int (iI x3))] → W p l e (rmD 0) s m args below meth c H locs 0 0 (MQ below (cPoV D (T_ws gA gC) (T_tys gC) post A) args s 0 0 A) (F0 m 45 ls []) := by
  obtain ⟨hx, hb, -⟩ := id X
  intro n
  induction n with
  | zero =>
    intro x3 u H locs ls h
    rw [wl_T_openBlock_45] at h
    exact h.elim
  | succ n ih =>
    intro x3 u H locs ls h B hl
    rw [wl_T_openBlock_45] at h
    refine lv_iload_n hx hb d_T_openBlock_45 rfl (lv_at hl 3 rfl) ?_
    refine lv_iload_n hx hb d_T_openBlock_46 rfl (lv_at hl 1 rfl) ?_
    refine i_icmp_le (tgt := 70) X h d_T_openBlock_47 (by decide) (fun h => ?_) (fun h => ?_)
    · exact hK _ _ _ _ h B (lv_sub hl [0, 1, 2] rfl)
    · refine lv_aload_n hx hb d_T_openBlock_50 rfl (lv_at hl 0 rfl) ?_
      refine t_get_slot X B d_T_openBlock_51 ?_
      refine lv_iload_n hx hb d_T_openBlock_54 rfl (lv_at hl 3 rfl) ?_
      refine lv_aload_n hx hb d_T_openBlock_55 rfl (lv_at hl 0 rfl) ?_
      refine t_get_slot X B d_T_openBlock_56 ?_
      refine lv_iload_n hx hb d_T_openBlock_59 rfl (lv_at hl 3 rfl) ?_
      refine lv_iconst (v := iI 1) hx hb d_T_openBlock_60 rfl ?_
      refine i_isub X d_T_openBlock_61 ?_
      refine t_ld_slot X B h d_T_openBlock_62 (fun v62 h => ?_)
      refine t_st_slot X B h d_T_openBlock_63 (fun u63 H locs h B => ?_)
      refine lv_iinc (v := iI (x3 + (-1))) (lv' := [(3, .int (iI (x3 + (-1)))), (0, .ref (gA 0)), (1, .int (iI x1)), (2, .int (iI x2))]) hx hb d_T_openBlock_64 hl (k := 3) rfl (iI_inc _ _) (by decide) rfl (fun ls hl => ?_)
      refine lv_goto (tgt := 45) hx hb d_T_openBlock_67 (by decide) ?_
      exact ih _ _ _ _ _ h B (lv_sub hl [1, 2, 3, 0] rfl)
set_option maxHeartbeats 4000000 in
set_option maxRecDepth 100000 in
theorem c_T_openBlock (l : Launch) (D : va_G) (gA : Nat → Nat) (gC : Nat → ClassId) (u : TS) (x1 : Int) (post : TS → Prop) (h1 : wm_T_openBlock x1 u post) (sz : Nat) : Met l y_T_openBlock (Cond.code y_T_openBlock b_T_openBlock 4 (none) :: tw_tbl) (rmD 0) (cPre D (T_ws gA gC u) (T_tys gC) sz [.ref (gA 0), .int (iI x1)]) (cPoV D (T_ws gA gC) (T_tys gC) post (va_A (T_ws gA gC u) sz)) 0 0 (va_A (T_ws gA gC u) sz) := by
  refine c_enter (own := R_T) (Qc := fun A => cPoV D (T_ws gA gC) (T_tys gC) post A) (by decide) rfl [.ref (gA 0), .int (iI x1)] (Nat.le_of_ble_eq_true rfl) (fun p e s m args below meth c A ls X B hl => ?_)
  have hl : lv_has ls 4 [(0, .ref (gA 0)), (1, .int (iI x1))] := hl
  obtain ⟨hx, hb, -⟩ := id X
  have h := h1
  rw [wm_T_openBlock] at h
  refine lv_iconst (v := iI 0) hx hb d_T_openBlock_0 rfl ?_
  refine lv_istore_n (lv' := [(2, .int (iI 0)), (0, .ref (gA 0)), (1, .int (iI x1))]) hx hb d_T_openBlock_1 rfl hl (by decide) rfl (fun ls hl => ?_)
  refine lv_bipush (v := iI 15) hx hb d_T_openBlock_2 (by decide) ?_
  refine lv_istore_n (lv' := [(3, .int (iI 15)), (2, .int (iI 0)), (0, .ref (gA 0)), (1, .int (iI x1))]) hx hb d_T_openBlock_4 rfl hl (by decide) rfl (fun ls hl => ?_)
  obtain ⟨n5, h⟩ := h
  refine wk_T_openBlock_5 X _ _ (fun y26_2 u26 H locs ls h B hl => ?_) n5 _ _ _ _ _ _ h B (lv_sub hl [2, 3, 1, 0] rfl)
  refine lv_aload_n hx hb d_T_openBlock_26 rfl (lv_at hl 0 rfl) ?_
  refine t_get_tak X B d_T_openBlock_27 ?_
  refine lv_iload_n hx hb d_T_openBlock_30 rfl (lv_at hl 2 rfl) ?_
  refine lv_iconst (v := iI 1) hx hb d_T_openBlock_31 rfl ?_
  refine t_st_tak X B (by decide) h d_T_openBlock_32 (fun u32 H locs h B => ?_)
  refine lv_aload_n hx hb d_T_openBlock_33 rfl (lv_at hl 0 rfl) ?_
  refine t_get_siz X B d_T_openBlock_34 ?_
  refine lv_iload_n hx hb d_T_openBlock_37 rfl (lv_at hl 2 rfl) ?_
  refine lv_iconst (v := iI 0) hx hb d_T_openBlock_38 rfl ?_
  refine t_st_siz X B h d_T_openBlock_39 (fun u39 H locs h B => ?_)
  refine lv_aload_n hx hb d_T_openBlock_40 rfl (lv_at hl 0 rfl) ?_
  refine t_get_bl X B d_T_openBlock_41 ?_
  refine lv_istore_n (lv' := [(3, .int (iI (tbl u39))), (0, .ref (gA 0)), (1, .int (iI x1)), (2, .int (iI y26_2))]) hx hb d_T_openBlock_44 rfl hl (by decide) rfl (fun ls hl => ?_)
  obtain ⟨n45, h⟩ := h
  refine wk_T_openBlock_45 X _ _ _ (fun u70 H locs ls h B hl => ?_) n45 _ _ _ _ _ h B (lv_sub hl [1, 2, 3, 0] rfl)
  refine lv_aload_n hx hb d_T_openBlock_70 rfl (lv_at hl 0 rfl) ?_
  refine t_get_slot X B d_T_openBlock_71 ?_
  refine lv_iload_n hx hb d_T_openBlock_74 rfl (lv_at hl 1 rfl) ?_
  refine lv_iload_n hx hb d_T_openBlock_75 rfl (lv_at hl 2 rfl) ?_
  refine t_st_slot X B h d_T_openBlock_76 (fun u76 H locs h B => ?_)
  refine lv_aload_n hx hb d_T_openBlock_77 rfl (lv_at hl 0 rfl) ?_
  refine lv_dup hx hb d_T_openBlock_78 rfl ?_
  refine t_get_bl X B d_T_openBlock_79 ?_
  refine lv_iconst (v := iI 1) hx hb d_T_openBlock_82 rfl ?_
  refine i_iadd X d_T_openBlock_83 ?_
  refine t_put_bl X B h d_T_openBlock_84 (fun u84 H locs h B => ?_)
  exact c_retv X B h d_T_openBlock_87
set_option maxHeartbeats 4000000 in
set_option maxRecDepth 100000 in
theorem wk_T_closeBlock_14 (X : cX R_T (T_tys gC) (none) A p s m args meth c D b_T_closeBlock 3) {post : TS → Prop} (K : TS → Prop)
    (hK : ∀ (u : TS) (H : Heap) (locs : List Loc) (ls : Array Slot), K u → cB D A s H locs (T_ws gA gC u) → lv_has ls 3 [(0, .ref (gA 0))] → W p l e (rmD 0) s m args below meth c H locs 0 0 (MQ below (cPoV D (T_ws gA gC) (T_tys gC) post A) args s 0 0 A) (F0 m 44 ls [])) :
    ∀ (n : Nat) (x2 : Int) (u : TS) (H : Heap) (locs : List Loc) (ls : Array Slot), wl_T_closeBlock_14 K n x2 u → cB D A s H locs (T_ws gA gC u) → lv_has ls 3 [(0, .ref (gA 0)), (2, .int (iI x2))] → W p l e (rmD 0) s m args below meth c H locs 0 0 (MQ below (cPoV D (T_ws gA gC) (T_tys gC) post A) args s 0 0 A) (F0 m 14 ls []) := by
  obtain ⟨hx, hb, -⟩ := id X
  intro n
  induction n with
  | zero =>
    intro x2 u H locs ls h
    rw [wl_T_closeBlock_14] at h
    exact h.elim
  | succ n ih =>
    intro x2 u H locs ls h B hl
    rw [wl_T_closeBlock_14] at h
    refine lv_iload_n hx hb d_T_closeBlock_14 rfl (lv_at hl 1 rfl) ?_
    refine lv_iconst (v := iI 1) hx hb d_T_closeBlock_15 rfl ?_
    refine i_iadd X d_T_closeBlock_16 ?_
    refine lv_aload_n hx hb d_T_closeBlock_17 rfl (lv_at hl 0 rfl) ?_
    refine t_get_bl X B d_T_closeBlock_18 ?_
    refine i_icmp_ge (tgt := 44) X h d_T_closeBlock_21 (by decide) (fun h => ?_) (fun h => ?_)
    · exact hK _ _ _ _ h B (lv_sub hl [0] rfl)
    · refine lv_aload_n hx hb d_T_closeBlock_24 rfl (lv_at hl 0 rfl) ?_
      refine t_get_slot X B d_T_closeBlock_25 ?_
      refine lv_iload_n hx hb d_T_closeBlock_28 rfl (lv_at hl 1 rfl) ?_
      refine lv_aload_n hx hb d_T_closeBlock_29 rfl (lv_at hl 0 rfl) ?_
      refine t_get_slot X B d_T_closeBlock_30 ?_
      refine lv_iload_n hx hb d_T_closeBlock_33 rfl (lv_at hl 1 rfl) ?_
      refine lv_iconst (v := iI 1) hx hb d_T_closeBlock_34 rfl ?_
      refine i_iadd X d_T_closeBlock_35 ?_
      refine t_ld_slot X B h d_T_closeBlock_36 (fun v36 h => ?_)
      refine t_st_slot X B h d_T_closeBlock_37 (fun u37 H locs h B => ?_)
      refine lv_iinc (v := iI (x2 + 1)) (lv' := [(2, .int (iI (x2 + 1))), (0, .ref (gA 0))]) hx hb d_T_closeBlock_38 hl (k := 1) rfl (iI_inc _ _) (by decide) rfl (fun ls hl => ?_)
      refine lv_goto (tgt := 14) hx hb d_T_closeBlock_41 (by decide) ?_
      exact ih _ _ _ _ _ h B (lv_sub hl [1, 0] rfl)
set_option maxHeartbeats 4000000 in
set_option maxRecDepth 100000 in
theorem c_T_closeBlock (l : Launch) (D : va_G) (gA : Nat → Nat) (gC : Nat → ClassId) (u : TS) (x1 : Int) (post : TS → Prop) (h1 : wm_T_closeBlock x1 u post) (sz : Nat) : Met l y_T_closeBlock (Cond.code y_T_closeBlock b_T_closeBlock 3 (none) :: tw_tbl) (rmD 0) (cPre D (T_ws gA gC u) (T_tys gC) sz [.ref (gA 0), .int (iI x1)]) (cPoV D (T_ws gA gC) (T_tys gC) post (va_A (T_ws gA gC u) sz)) 0 0 (va_A (T_ws gA gC u) sz) := by
  refine c_enter (own := R_T) (Qc := fun A => cPoV D (T_ws gA gC) (T_tys gC) post A) (by decide) rfl [.ref (gA 0), .int (iI x1)] (Nat.le_of_ble_eq_true rfl) (fun p e s m args below meth c A ls X B hl => ?_)
  have hl : lv_has ls 3 [(0, .ref (gA 0)), (1, .int (iI x1))] := hl
  obtain ⟨hx, hb, -⟩ := id X
  have h := h1
  rw [wm_T_closeBlock] at h
  refine lv_aload_n hx hb d_T_closeBlock_0 rfl (lv_at hl 0 rfl) ?_
  refine t_get_tak X B d_T_closeBlock_1 ?_
  refine lv_aload_n hx hb d_T_closeBlock_4 rfl (lv_at hl 0 rfl) ?_
  refine t_get_slot X B d_T_closeBlock_5 ?_
  refine lv_iload_n hx hb d_T_closeBlock_8 rfl (lv_at hl 1 rfl) ?_
  refine t_ld_slot X B h d_T_closeBlock_9 (fun v9 h => ?_)
  refine lv_iconst (v := iI 0) hx hb d_T_closeBlock_10 rfl ?_
  refine t_st_tak X B (by decide) h d_T_closeBlock_11 (fun u11 H locs h B => ?_)
  refine lv_iload_n hx hb d_T_closeBlock_12 rfl (lv_at hl 1 rfl) ?_
  refine lv_istore_n (lv' := [(2, .int (iI x1)), (0, .ref (gA 0)), (1, .int (iI x1))]) hx hb d_T_closeBlock_13 rfl hl (by decide) rfl (fun ls hl => ?_)
  obtain ⟨n14, h⟩ := h
  refine wk_T_closeBlock_14 X _ (fun u44 H locs ls h B hl => ?_) n14 _ _ _ _ _ h B (lv_sub hl [1, 0] rfl)
  refine lv_aload_n hx hb d_T_closeBlock_44 rfl (lv_at hl 0 rfl) ?_
  refine lv_dup hx hb d_T_closeBlock_45 rfl ?_
  refine t_get_bl X B d_T_closeBlock_46 ?_
  refine lv_iconst (v := iI 1) hx hb d_T_closeBlock_49 rfl ?_
  refine i_isub X d_T_closeBlock_50 ?_
  refine t_put_bl X B h d_T_closeBlock_51 (fun u51 H locs h B => ?_)
  exact c_retv X B h d_T_closeBlock_54
set_option maxHeartbeats 4000000 in
set_option maxRecDepth 100000 in
theorem wk_T_sharedInList_2 (X : cX R_T (T_tys gC) (some .int) A p s m args meth c D b_T_sharedInList 4) (x1 : Int) (x2 : Int) {post : Int → TS → Prop} (K : Int → TS → Prop)
    (hK : ∀ (x3 : Int) (u : TS) (H : Heap) (locs : List Loc) (ls : Array Slot), K x3 u → cB D A s H locs (T_ws gA gC u) → lv_has ls 4 [(0, .ref (gA 0)), (3, .int (iI x3))] → W p l e (rmD 0) s m args below meth c H locs 0 0 (MQ below (cPoI D (T_ws gA gC) (T_tys gC) post A) args s 0 0 A) (F0 m 53 ls [])) :
    ∀ (n : Nat) (x3 : Int) (u : TS) (H : Heap) (locs : List Loc) (ls : Array Slot), wl_T_sharedInList_2 x1 x2 K n x3 u → cB D A s H locs (T_ws gA gC u) → lv_has ls 4 [(0, .ref (gA 0)), (1, .int (iI x1)), (2, .int (iI x2)), (3, .int (iI x3))] → W p l e (rmD 0) s m args below meth c H locs 0 0 (MQ below (cPoI D (T_ws gA gC) (T_tys gC) post A) args s 0 0 A) (F0 m 2 ls []) := by
  obtain ⟨hx, hb, -⟩ := id X
  intro n
  induction n with
  | zero =>
    intro x3 u H locs ls h
    rw [wl_T_sharedInList_2] at h
    exact h.elim
  | succ n ih =>
    intro x3 u H locs ls h B hl
    rw [wl_T_sharedInList_2] at h
    refine lv_iload_n hx hb d_T_sharedInList_2 rfl (lv_at hl 3 rfl) ?_
    refine lv_aload_n hx hb d_T_sharedInList_3 rfl (lv_at hl 0 rfl) ?_
    refine t_get_len X B d_T_sharedInList_4 ?_
    refine lv_iload_n hx hb d_T_sharedInList_7 rfl (lv_at hl 1 rfl) ?_
    refine t_ld_len X B h d_T_sharedInList_8 (fun v8 h => ?_)
    refine i_icmp_ge (tgt := 53) X h d_T_sharedInList_9 (by decide) (fun h => ?_) (fun h => ?_)
    · exact hK _ _ _ _ _ h B (lv_sub hl [0, 3] rfl)
    · refine lv_iload_n hx hb d_T_sharedInList_12 rfl (lv_at hl 3 rfl) ?_
      refine lv_aload_n hx hb d_T_sharedInList_13 rfl (lv_at hl 0 rfl) ?_
      refine t_get_len X B d_T_sharedInList_14 ?_
      refine lv_iload_n hx hb d_T_sharedInList_17 rfl (lv_at hl 2 rfl) ?_
      refine t_ld_len X B h d_T_sharedInList_18 (fun v18 h => ?_)
      refine i_icmp_ge (tgt := 53) X h d_T_sharedInList_19 (by decide) (fun h => ?_) (fun h => ?_)
      · exact hK _ _ _ _ _ h B (lv_sub hl [0, 3] rfl)
      · refine lv_aload_n hx hb d_T_sharedInList_22 rfl (lv_at hl 0 rfl) ?_
        refine t_get_ll X B d_T_sharedInList_23 ?_
        refine lv_bipush (v := iI 6) hx hb d_T_sharedInList_26 (by decide) ?_
        refine lv_iload_n hx hb d_T_sharedInList_28 rfl (lv_at hl 1 rfl) ?_
        refine i_imul X d_T_sharedInList_29 ?_
        refine lv_iload_n hx hb d_T_sharedInList_30 rfl (lv_at hl 3 rfl) ?_
        refine i_iadd X d_T_sharedInList_31 ?_
        refine t_ld_ll X B h d_T_sharedInList_32 (fun v32 h => ?_)
        refine lv_aload_n hx hb d_T_sharedInList_33 rfl (lv_at hl 0 rfl) ?_
        refine t_get_ll X B d_T_sharedInList_34 ?_
        refine lv_bipush (v := iI 6) hx hb d_T_sharedInList_37 (by decide) ?_
        refine lv_iload_n hx hb d_T_sharedInList_39 rfl (lv_at hl 2 rfl) ?_
        refine i_imul X d_T_sharedInList_40 ?_
        refine lv_iload_n hx hb d_T_sharedInList_41 rfl (lv_at hl 3 rfl) ?_
        refine i_iadd X d_T_sharedInList_42 ?_
        refine t_ld_ll X B h d_T_sharedInList_43 (fun v43 h => ?_)
        refine i_icmp_ne (tgt := 53) X h d_T_sharedInList_44 (by decide) (fun h => ?_) (fun h => ?_)
        · exact hK _ _ _ _ _ h B (lv_sub hl [0, 3] rfl)
        · refine lv_iinc (v := iI (x3 + 1)) (lv' := [(3, .int (iI (x3 + 1))), (0, .ref (gA 0)), (1, .int (iI x1)), (2, .int (iI x2))]) hx hb d_T_sharedInList_47 hl (k := 3) rfl (iI_inc _ _) (by decide) rfl (fun ls hl => ?_)
          refine lv_goto (tgt := 2) hx hb d_T_sharedInList_50 (by decide) ?_
          exact ih _ _ _ _ _ h B (lv_sub hl [1, 2, 3, 0] rfl)
set_option maxHeartbeats 4000000 in
set_option maxRecDepth 100000 in
theorem c_T_sharedInList (l : Launch) (D : va_G) (gA : Nat → Nat) (gC : Nat → ClassId) (u : TS) (x1 : Int) (x2 : Int) (post : Int → TS → Prop) (h1 : wm_T_sharedInList x1 x2 u post) (sz : Nat) : Met l y_T_sharedInList (Cond.code y_T_sharedInList b_T_sharedInList 4 (some .int) :: tw_tbl) (rmD 0) (cPre D (T_ws gA gC u) (T_tys gC) sz [.ref (gA 0), .int (iI x1), .int (iI x2)]) (cPoI D (T_ws gA gC) (T_tys gC) post (va_A (T_ws gA gC u) sz)) 0 0 (va_A (T_ws gA gC u) sz) := by
  refine c_enter (own := R_T) (Qc := fun A => cPoI D (T_ws gA gC) (T_tys gC) post A) (by decide) rfl [.ref (gA 0), .int (iI x1), .int (iI x2)] (Nat.le_of_ble_eq_true rfl) (fun p e s m args below meth c A ls X B hl => ?_)
  have hl : lv_has ls 4 [(0, .ref (gA 0)), (1, .int (iI x1)), (2, .int (iI x2))] := hl
  obtain ⟨hx, hb, -⟩ := id X
  have h := h1
  rw [wm_T_sharedInList] at h
  refine lv_iconst (v := iI 0) hx hb d_T_sharedInList_0 rfl ?_
  refine lv_istore_n (lv' := [(3, .int (iI 0)), (0, .ref (gA 0)), (1, .int (iI x1)), (2, .int (iI x2))]) hx hb d_T_sharedInList_1 rfl hl (by decide) rfl (fun ls hl => ?_)
  obtain ⟨n2, h⟩ := h
  refine wk_T_sharedInList_2 X _ _ _ (fun y53_3 u53 H locs ls h B hl => ?_) n2 _ _ _ _ _ h B (lv_sub hl [1, 2, 3, 0] rfl)
  refine lv_iload_n hx hb d_T_sharedInList_53 rfl (lv_at hl 1 rfl) ?_
  exact c_reti X B h d_T_sharedInList_54
set_option maxHeartbeats 4000000 in
set_option maxRecDepth 100000 in
theorem wk_T_load_51 (X : cX R_T (T_tys gC) (some .int) A p s m args meth c D b_T_load 5) (x3 : Int) {post : Int → TS → Prop} (K : TS → Prop)
    (hK : ∀ (u : TS) (H : Heap) (locs : List Loc) (ls : Array Slot), K u → cB D A s H locs (T_ws gA gC u) → lv_has ls 5 [(0, .ref (gA 0))] → W p l e (rmD 1) s m args below meth c H locs 0 0 (MQ below (cPoI D (T_ws gA gC) (T_tys gC) post A) args s 0 0 A) (F0 m 85 ls [])) :
    ∀ (n : Nat) (x4 : Int) (u : TS) (H : Heap) (locs : List Loc) (ls : Array Slot), wl_T_load_51 x3 K n x4 u → cB D A s H locs (T_ws gA gC u) → lv_has ls 5 [(0, .ref (gA 0)), (3, .int (iI x3)), (4, .int (iI x4))] → W p l e (rmD 1) s m args below meth c H locs 0 0 (MQ below (cPoI D (T_ws gA gC) (T_tys gC) post A) args s 0 0 A) (F0 m 51 ls []) := by
  obtain ⟨hx, hb, -⟩ := id X
  intro n
  induction n with
  | zero =>
    intro x4 u H locs ls h
    rw [wl_T_load_51] at h
    exact h.elim
  | succ n ih =>
    intro x4 u H locs ls h B hl
    rw [wl_T_load_51] at h
    refine lv_iload hx hb d_T_load_51 (lv_at hl 2 rfl) ?_
    refine lv_aload_n hx hb d_T_load_53 rfl (lv_at hl 0 rfl) ?_
    refine t_get_kl X B d_T_load_54 ?_
    refine i_icmp_ge (tgt := 85) X h d_T_load_57 (by decide) (fun h => ?_) (fun h => ?_)
    · exact hK _ _ _ _ h B (lv_sub hl [0] rfl)
    · refine lv_aload_n hx hb d_T_load_60 rfl (lv_at hl 0 rfl) ?_
      refine t_get_key X B d_T_load_61 ?_
      refine lv_iload hx hb d_T_load_64 (lv_at hl 2 rfl) ?_
      refine lv_aload_n hx hb d_T_load_66 rfl (lv_at hl 0 rfl) ?_
      refine t_get_ll X B d_T_load_67 ?_
      refine lv_bipush (v := iI 6) hx hb d_T_load_70 (by decide) ?_
      refine lv_iload_n hx hb d_T_load_72 rfl (lv_at hl 1 rfl) ?_
      refine i_imul X d_T_load_73 ?_
      refine lv_iload hx hb d_T_load_74 (lv_at hl 2 rfl) ?_
      refine i_iadd X d_T_load_76 ?_
      refine t_ld_ll X B h d_T_load_77 (fun v77 h => ?_)
      refine t_st_key X B h d_T_load_78 (fun u78 H locs h B => ?_)
      refine lv_iinc (v := iI (x4 + 1)) (lv' := [(4, .int (iI (x4 + 1))), (0, .ref (gA 0)), (3, .int (iI x3))]) hx hb d_T_load_79 hl (k := 2) rfl (iI_inc _ _) (by decide) rfl (fun ls hl => ?_)
      refine lv_goto (tgt := 51) hx hb d_T_load_82 (by decide) ?_
      exact ih _ _ _ _ _ h B (lv_sub hl [1, 2, 0] rfl)
set_option maxHeartbeats 4000000 in
set_option maxRecDepth 100000 in
theorem c_T_load (l : Launch) (D : va_G) (gA : Nat → Nat) (gC : Nat → ClassId) (u : TS) (x1 : Int) (post : Int → TS → Prop) (h1 : wm_T_load x1 u post) (sz : Nat) : Met l y_T_load (Cond.code y_T_load b_T_load 5 (some .int) :: tw_tbl) (rmD 1) (cPre D (T_ws gA gC u) (T_tys gC) sz [.ref (gA 0), .int (iI x1)]) (cPoI D (T_ws gA gC) (T_tys gC) post (va_A (T_ws gA gC u) sz)) 0 0 (va_A (T_ws gA gC u) sz) := by
  refine c_enter (own := R_T) (Qc := fun A => cPoI D (T_ws gA gC) (T_tys gC) post A) (by decide) rfl [.ref (gA 0), .int (iI x1)] (Nat.le_of_ble_eq_true rfl) (fun p e s m args below meth c A ls X B hl => ?_)
  have hl : lv_has ls 5 [(0, .ref (gA 0)), (1, .int (iI x1))] := hl
  obtain ⟨hx, hb, -⟩ := id X
  have h := h1
  rw [wm_T_load] at h
  refine lv_iload_n hx hb d_T_load_0 rfl (lv_at hl 1 rfl) ?_
  refine i_if_lt (tgt := 12) X h d_T_load_1 (by decide) (fun h => ?_) (fun h => ?_)
  · refine lv_iconst (v := iI (-1)) hx hb d_T_load_12 rfl ?_
    exact c_reti X B h d_T_load_13
  · refine lv_iload_n hx hb d_T_load_4 rfl (lv_at hl 1 rfl) ?_
    refine lv_aload_n hx hb d_T_load_5 rfl (lv_at hl 0 rfl) ?_
    refine t_get_tot X B d_T_load_6 ?_
    refine i_icmp_lt (tgt := 14) X h d_T_load_9 (by decide) (fun h => ?_) (fun h => ?_)
    · refine lv_aload_n hx hb d_T_load_14 rfl (lv_at hl 0 rfl) ?_
      refine lv_iload_n hx hb d_T_load_15 rfl (lv_at hl 1 rfl) ?_
      refine c_calli (ci := 0) (nL := 5) (As := [.int (iI x1)]) (rest := []) X hl.1 B (fun sz => c_T_blockOfRank l D gA gC _ _ _ h sz) cw_T_T_blockOfRank (by decide) rfl (Nat.le_of_ble_eq_true rfl) rfl rfl rfl ⟨Nat.zero_le _, Nat.zero_le _⟩ d_T_load_16 (fun r16 u16 H locs h B => ?_)
      refine lv_istore_n (lv' := [(2, .int (iI r16)), (0, .ref (gA 0)), (1, .int (iI x1))]) hx hb d_T_load_19 rfl hl (by decide) rfl (fun ls hl => ?_)
      refine lv_aload_n hx hb d_T_load_20 rfl (lv_at hl 1 rfl) ?_
      refine lv_iconst (v := iI 0) hx hb d_T_load_21 rfl ?_
      refine t_put_li X B h d_T_load_22 (fun u22 H locs h B => ?_)
      refine lv_aload_n hx hb d_T_load_25 rfl (lv_at hl 1 rfl) ?_
      refine lv_iload_n hx hb d_T_load_26 rfl (lv_at hl 0 rfl) ?_
      refine c_callv (ci := 0) (nL := 5) (As := [.int (iI r16)]) (rest := []) X hl.1 B (fun sz => c_T_unpack l D gA gC _ _ _ h sz) cw_T_T_unpack (by decide) rfl (Nat.le_of_ble_eq_true rfl) rfl rfl rfl ⟨Nat.zero_le _, Nat.zero_le _⟩ d_T_load_27 (fun u27 H locs h B => ?_)
      refine lv_iload_n hx hb d_T_load_30 rfl (lv_at hl 2 rfl) ?_
      refine lv_aload_n hx hb d_T_load_31 rfl (lv_at hl 1 rfl) ?_
      refine lv_iload_n hx hb d_T_load_32 rfl (lv_at hl 0 rfl) ?_
      refine c_calli (ci := 0) (nL := 5) (As := [.int (iI r16)]) (rest := [.int (iI x1)]) X hl.1 B (fun sz => c_T_termsBefore l D gA gC _ _ _ h sz) cw_T_T_termsBefore (by decide) rfl (Nat.le_of_ble_eq_true rfl) rfl rfl rfl ⟨Nat.zero_le _, Nat.zero_le _⟩ d_T_load_33 (fun r33 u33 H locs h B => ?_)
      refine i_isub X d_T_load_36 ?_
      refine lv_istore_n (lv' := [(3, .int (iI (x1 - r33))), (2, .int (iI r16)), (0, .ref (gA 0)), (1, .int (iI x1))]) hx hb d_T_load_37 rfl hl (by decide) rfl (fun ls hl => ?_)
      refine lv_aload_n hx hb d_T_load_38 rfl (lv_at hl 2 rfl) ?_
      refine lv_aload_n hx hb d_T_load_39 rfl (lv_at hl 2 rfl) ?_
      refine t_get_len X B d_T_load_40 ?_
      refine lv_iload_n hx hb d_T_load_43 rfl (lv_at hl 0 rfl) ?_
      refine t_ld_len X B h d_T_load_44 (fun v44 h => ?_)
      refine t_put_kl X B h d_T_load_45 (fun u45 H locs h B => ?_)
      refine lv_iconst (v := iI 0) hx hb d_T_load_48 rfl ?_
      refine lv_istore (lv' := [(4, .int (iI 0)), (3, .int (iI (x1 - r33))), (2, .int (iI r16)), (0, .ref (gA 0)), (1, .int (iI x1))]) hx hb d_T_load_49 hl (by decide) rfl (fun ls hl => ?_)
      obtain ⟨n51, h⟩ := h
      refine wk_T_load_51 X _ _ (fun u85 H locs ls h B hl => ?_) n51 _ _ _ _ _ h B (lv_sub hl [3, 1, 0] rfl)
      refine lv_aload_n hx hb d_T_load_85 rfl (lv_at hl 0 rfl) ?_
      refine t_get_kl X B d_T_load_86 ?_
      exact c_reti X B h d_T_load_89
    · refine lv_iconst (v := iI (-1)) hx hb d_T_load_12 rfl ?_
      exact c_reti X B h d_T_load_13
set_option maxHeartbeats 4000000 in
set_option maxRecDepth 100000 in
theorem c_T_sharedAtRank (l : Launch) (D : va_G) (gA : Nat → Nat) (gC : Nat → ClassId) (u : TS) (x1 : Int) (post : Int → TS → Prop) (h1 : wm_T_sharedAtRank x1 u post) (sz : Nat) : Met l y_T_sharedAtRank (Cond.code y_T_sharedAtRank b_T_sharedAtRank 4 (some .int) :: tw_tbl) (rmD 1) (cPre D (T_ws gA gC u) (T_tys gC) sz [.ref (gA 0), .int (iI x1)]) (cPoI D (T_ws gA gC) (T_tys gC) post (va_A (T_ws gA gC u) sz)) 0 0 (va_A (T_ws gA gC u) sz) := by
  refine c_enter (own := R_T) (Qc := fun A => cPoI D (T_ws gA gC) (T_tys gC) post A) (by decide) rfl [.ref (gA 0), .int (iI x1)] (Nat.le_of_ble_eq_true rfl) (fun p e s m args below meth c A ls X B hl => ?_)
  have hl : lv_has ls 4 [(0, .ref (gA 0)), (1, .int (iI x1))] := hl
  obtain ⟨hx, hb, -⟩ := id X
  have h := h1
  rw [wm_T_sharedAtRank] at h
  refine lv_aload_n hx hb d_T_sharedAtRank_0 rfl (lv_at hl 0 rfl) ?_
  refine lv_iload_n hx hb d_T_sharedAtRank_1 rfl (lv_at hl 1 rfl) ?_
  refine c_calli (ci := 0) (nL := 4) (As := [.int (iI x1)]) (rest := []) X hl.1 B (fun sz => c_T_blockOfRank l D gA gC _ _ _ h sz) cw_T_T_blockOfRank (by decide) rfl (Nat.le_of_ble_eq_true rfl) rfl rfl rfl ⟨Nat.zero_le _, Nat.zero_le _⟩ d_T_sharedAtRank_2 (fun r2 u2 H locs h B => ?_)
  refine lv_istore_n (lv' := [(2, .int (iI r2)), (0, .ref (gA 0)), (1, .int (iI x1))]) hx hb d_T_sharedAtRank_5 rfl hl (by decide) rfl (fun ls hl => ?_)
  refine lv_aload_n hx hb d_T_sharedAtRank_6 rfl (lv_at hl 1 rfl) ?_
  refine lv_iconst (v := iI 0) hx hb d_T_sharedAtRank_7 rfl ?_
  refine t_put_li X B h d_T_sharedAtRank_8 (fun u8 H locs h B => ?_)
  refine lv_aload_n hx hb d_T_sharedAtRank_11 rfl (lv_at hl 1 rfl) ?_
  refine lv_iload_n hx hb d_T_sharedAtRank_12 rfl (lv_at hl 0 rfl) ?_
  refine c_callv (ci := 0) (nL := 4) (As := [.int (iI r2)]) (rest := []) X hl.1 B (fun sz => c_T_unpack l D gA gC _ _ _ h sz) cw_T_T_unpack (by decide) rfl (Nat.le_of_ble_eq_true rfl) rfl rfl rfl ⟨Nat.zero_le _, Nat.zero_le _⟩ d_T_sharedAtRank_13 (fun u13 H locs h B => ?_)
  refine lv_iload_n hx hb d_T_sharedAtRank_16 rfl (lv_at hl 2 rfl) ?_
  refine lv_aload_n hx hb d_T_sharedAtRank_17 rfl (lv_at hl 1 rfl) ?_
  refine lv_iload_n hx hb d_T_sharedAtRank_18 rfl (lv_at hl 0 rfl) ?_
  refine c_calli (ci := 0) (nL := 4) (As := [.int (iI r2)]) (rest := [.int (iI x1)]) X hl.1 B (fun sz => c_T_termsBefore l D gA gC _ _ _ h sz) cw_T_T_termsBefore (by decide) rfl (Nat.le_of_ble_eq_true rfl) rfl rfl rfl ⟨Nat.zero_le _, Nat.zero_le _⟩ d_T_sharedAtRank_19 (fun r19 u19 H locs h B => ?_)
  refine i_isub X d_T_sharedAtRank_22 ?_
  refine lv_istore_n (lv' := [(3, .int (iI (x1 - r19))), (2, .int (iI r2)), (0, .ref (gA 0)), (1, .int (iI x1))]) hx hb d_T_sharedAtRank_23 rfl hl (by decide) rfl (fun ls hl => ?_)
  refine lv_aload_n hx hb d_T_sharedAtRank_24 rfl (lv_at hl 2 rfl) ?_
  refine lv_iload_n hx hb d_T_sharedAtRank_25 rfl (lv_at hl 0 rfl) ?_
  refine c_calli (ci := 0) (nL := 4) (As := [.int (iI (x1 - r19))]) (rest := []) X hl.1 B (fun sz => c_T_sharedWithKey l D gA gC _ _ _ h sz) cw_T_T_sharedWithKey (by decide) rfl (Nat.le_of_ble_eq_true rfl) rfl rfl rfl ⟨Nat.zero_le _, Nat.zero_le _⟩ d_T_sharedAtRank_26 (fun r26 u26 H locs h B => ?_)
  exact c_reti X B h d_T_sharedAtRank_29
set_option maxHeartbeats 4000000 in
set_option maxRecDepth 100000 in
theorem c_T_headIsLess (l : Launch) (D : va_G) (gA : Nat → Nat) (gC : Nat → ClassId) (u : TS) (x1 : Int) (x2 : Int) (post : Int → TS → Prop) (h1 : wm_T_headIsLess x1 x2 u post) (sz : Nat) : Met l y_T_headIsLess (Cond.code y_T_headIsLess b_T_headIsLess 5 (some .boolean) :: tw_tbl) (rmD 1) (cPre D (T_ws gA gC u) (T_tys gC) sz [.ref (gA 0), .int (iI x1), .int (iI x2)]) (cPoI D (T_ws gA gC) (T_tys gC) post (va_A (T_ws gA gC u) sz)) 0 0 (va_A (T_ws gA gC u) sz) := by
  refine c_enter (own := R_T) (Qc := fun A => cPoI D (T_ws gA gC) (T_tys gC) post A) (by decide) rfl [.ref (gA 0), .int (iI x1), .int (iI x2)] (Nat.le_of_ble_eq_true rfl) (fun p e s m args below meth c A ls X B hl => ?_)
  have hl : lv_has ls 5 [(0, .ref (gA 0)), (1, .int (iI x1)), (2, .int (iI x2))] := hl
  obtain ⟨hx, hb, -⟩ := id X
  have h := h1
  rw [wm_T_headIsLess] at h
  refine lv_bipush (v := iI 48) hx hb d_T_headIsLess_0 (by decide) ?_
  refine lv_aload_n hx hb d_T_headIsLess_2 rfl (lv_at hl 0 rfl) ?_
  refine t_get_slot X B d_T_headIsLess_3 ?_
  refine lv_iload_n hx hb d_T_headIsLess_6 rfl (lv_at hl 1 rfl) ?_
  refine t_ld_slot X B h d_T_headIsLess_7 (fun v7 h => ?_)
  refine i_imul X d_T_headIsLess_8 ?_
  refine lv_istore_n (lv' := [(3, .int (iI (48 * v7))), (0, .ref (gA 0)), (1, .int (iI x1)), (2, .int (iI x2))]) hx hb d_T_headIsLess_9 rfl hl (by decide) rfl (fun ls hl => ?_)
  refine lv_aload_n hx hb d_T_headIsLess_10 rfl (lv_at hl 1 rfl) ?_
  refine lv_iload_n hx hb d_T_headIsLess_11 rfl (lv_at hl 0 rfl) ?_
  refine lv_iconst (v := iI 0) hx hb d_T_headIsLess_12 rfl ?_
  refine c_calli (ci := 0) (nL := 5) (As := [.int (iI (48 * v7)), .int (iI 0)]) (rest := []) X hl.1 B (fun sz => c_T_matched l D gA gC _ _ _ _ h sz) cw_T_T_matched (by decide) rfl (Nat.le_of_ble_eq_true rfl) rfl rfl rfl ⟨Nat.zero_le _, Nat.zero_le _⟩ d_T_headIsLess_13 (fun r13 u13 H locs h B => ?_)
  refine lv_istore (lv' := [(4, .int (iI r13)), (3, .int (iI (48 * v7))), (0, .ref (gA 0)), (1, .int (iI x1)), (2, .int (iI x2))]) hx hb d_T_headIsLess_16 hl (by decide) rfl (fun ls hl => ?_)
  refine lv_aload_n hx hb d_T_headIsLess_18 rfl (lv_at hl 2 rfl) ?_
  refine lv_iload_n hx hb d_T_headIsLess_19 rfl (lv_at hl 1 rfl) ?_
  refine lv_iload hx hb d_T_headIsLess_20 (lv_at hl 0 rfl) ?_
  refine lv_iload_n hx hb d_T_headIsLess_22 rfl (lv_at hl 4 rfl) ?_
  refine c_calli (ci := 0) (nL := 5) (As := [.int (iI (48 * v7)), .int (iI r13), .int (iI x2)]) (rest := []) X hl.1 B (fun sz => c_T_isLess l D gA gC _ _ _ _ _ h sz) cw_T_T_isLess (by decide) rfl (Nat.le_of_ble_eq_true rfl) rfl rfl rfl ⟨Nat.zero_le _, Nat.zero_le _⟩ d_T_headIsLess_23 (fun r23 u23 H locs h B => ?_)
  exact c_retz X B h.1 h.2 d_T_headIsLess_26
set_option maxHeartbeats 4000000 in
set_option maxRecDepth 100000 in
theorem wk_T_scanBlock_19 (X : cX R_T (T_tys gC) (some .int) A p s m args meth c D b_T_scanBlock 7) (x1 : Int) (x2 : Int) {post : Int → TS → Prop} (K : Int → TS → Prop)
    (hK : ∀ (x5 : Int) (u : TS) (H : Heap) (locs : List Loc) (ls : Array Slot), K x5 u → cB D A s H locs (T_ws gA gC u) → lv_has ls 7 [(0, .ref (gA 0)), (5, .int (iI x5))] → W p l e (rmD 1) s m args below meth c H locs 0 0 (MQ below (cPoI D (T_ws gA gC) (T_tys gC) post A) args s 0 0 A) (F0 m 100 ls [])) :
    ∀ (n : Nat) (x3 : Int) (x4 : Int) (x5 : Int) (x6 : Int) (u : TS) (H : Heap) (locs : List Loc) (ls : Array Slot), wl_T_scanBlock_19 x1 x2 post K n x3 x4 x5 x6 u → cB D A s H locs (T_ws gA gC u) → lv_has ls 7 [(0, .ref (gA 0)), (1, .int (iI x1)), (2, .int (iI x2)), (3, .int (iI x3)), (4, .int (iI x4)), (5, .int (iI x5)), (6, .int (iI x6))] → W p l e (rmD 1) s m args below meth c H locs 0 0 (MQ below (cPoI D (T_ws gA gC) (T_tys gC) post A) args s 0 0 A) (F0 m 19 ls []) := by
  obtain ⟨hx, hb, -⟩ := id X
  intro n
  induction n with
  | zero =>
    intro x3 x4 x5 x6 u H locs ls h
    rw [wl_T_scanBlock_19] at h
    exact h.elim
  | succ n ih =>
    intro x3 x4 x5 x6 u H locs ls h B hl
    rw [wl_T_scanBlock_19] at h
    refine lv_iload hx hb d_T_scanBlock_19 (lv_at hl 6 rfl) ?_
    refine lv_aload_n hx hb d_T_scanBlock_21 rfl (lv_at hl 0 rfl) ?_
    refine t_get_siz X B d_T_scanBlock_22 ?_
    refine lv_iload_n hx hb d_T_scanBlock_25 rfl (lv_at hl 1 rfl) ?_
    refine t_ld_siz X B h d_T_scanBlock_26 (fun v26 h => ?_)
    refine i_icmp_ge (tgt := 100) X h d_T_scanBlock_27 (by decide) (fun h => ?_) (fun h => ?_)
    · exact hK _ _ _ _ _ h B (lv_sub hl [0, 5] rfl)
    · refine lv_iload_n hx hb d_T_scanBlock_30 rfl (lv_at hl 3 rfl) ?_
      refine lv_iconst (v := iI 2) hx hb d_T_scanBlock_31 rfl ?_
      refine lv_aload_n hx hb d_T_scanBlock_32 rfl (lv_at hl 0 rfl) ?_
      refine t_get_dat X B d_T_scanBlock_33 ?_
      refine lv_iload_n hx hb d_T_scanBlock_36 rfl (lv_at hl 3 rfl) ?_
      refine lv_iconst (v := iI 1) hx hb d_T_scanBlock_37 rfl ?_
      refine i_iadd X d_T_scanBlock_38 ?_
      refine t_ld_dat X B h d_T_scanBlock_39 (fun v39 h => ?_)
      refine i_iadd X d_T_scanBlock_40 ?_
      refine i_iadd X d_T_scanBlock_41 ?_
      refine lv_istore_n (lv' := [(3, .int (iI (x3 + (2 + v39)))), (0, .ref (gA 0)), (1, .int (iI x1)), (2, .int (iI x2)), (4, .int (iI x4)), (5, .int (iI x5)), (6, .int (iI x6))]) hx hb d_T_scanBlock_42 rfl hl (by decide) rfl (fun ls hl => ?_)
      refine lv_aload_n hx hb d_T_scanBlock_43 rfl (lv_at hl 1 rfl) ?_
      refine t_get_dat X B d_T_scanBlock_44 ?_
      refine lv_iload_n hx hb d_T_scanBlock_47 rfl (lv_at hl 0 rfl) ?_
      refine t_ld_dat X B h d_T_scanBlock_48 (fun v48 h => ?_)
      refine lv_iload hx hb d_T_scanBlock_49 (lv_at hl 4 rfl) ?_
      refine i_icmp_ge (tgt := 57) X h d_T_scanBlock_51 (by decide) (fun h => ?_) (fun h => ?_)
      · refine lv_aload_n hx hb d_T_scanBlock_57 rfl (lv_at hl 1 rfl) ?_
        refine t_get_dat X B d_T_scanBlock_58 ?_
        refine lv_iload_n hx hb d_T_scanBlock_61 rfl (lv_at hl 0 rfl) ?_
        refine t_ld_dat X B h d_T_scanBlock_62 (fun v62 h => ?_)
        refine lv_iload hx hb d_T_scanBlock_63 (lv_at hl 4 rfl) ?_
        refine i_icmp_ne (tgt := 91) X h d_T_scanBlock_65 (by decide) (fun h => ?_) (fun h => ?_)
        · refine lv_iinc (v := iI (x5 + 1)) (lv' := [(5, .int (iI (x5 + 1))), (3, .int (iI (x3 + (2 + v39)))), (0, .ref (gA 0)), (1, .int (iI x1)), (2, .int (iI x2)), (4, .int (iI x4)), (6, .int (iI x6))]) hx hb d_T_scanBlock_91 hl (k := 5) rfl (iI_inc _ _) (by decide) rfl (fun ls hl => ?_)
          refine lv_iinc (v := iI (x6 + 1)) (lv' := [(6, .int (iI (x6 + 1))), (5, .int (iI (x5 + 1))), (3, .int (iI (x3 + (2 + v39)))), (0, .ref (gA 0)), (1, .int (iI x1)), (2, .int (iI x2)), (4, .int (iI x4))]) hx hb d_T_scanBlock_94 hl (k := 6) rfl (iI_inc _ _) (by decide) rfl (fun ls hl => ?_)
          refine lv_goto (tgt := 19) hx hb d_T_scanBlock_97 (by decide) ?_
          exact ih _ _ _ _ _ _ _ _ h B (lv_sub hl [3, 4, 5, 2, 6, 1, 0] rfl)
        · refine lv_aload_n hx hb d_T_scanBlock_68 rfl (lv_at hl 1 rfl) ?_
          refine lv_iload_n hx hb d_T_scanBlock_69 rfl (lv_at hl 0 rfl) ?_
          refine lv_iload hx hb d_T_scanBlock_70 (lv_at hl 4 rfl) ?_
          refine c_calli (ci := 0) (nL := 7) (As := [.int (iI (x3 + (2 + v39))), .int (iI x4)]) (rest := []) X hl.1 B (fun sz => c_T_matched l D gA gC _ _ _ _ h sz) cw_T_T_matched (by decide) rfl (Nat.le_of_ble_eq_true rfl) rfl rfl rfl ⟨Nat.zero_le _, Nat.zero_le _⟩ d_T_scanBlock_72 (fun r72 u72 H locs h B => ?_)
          refine lv_istore (lv' := [(4, .int (iI r72)), (3, .int (iI (x3 + (2 + v39)))), (0, .ref (gA 0)), (1, .int (iI x1)), (2, .int (iI x2)), (5, .int (iI x5)), (6, .int (iI x6))]) hx hb d_T_scanBlock_75 hl (by decide) rfl (fun ls hl => ?_)
          refine lv_aload_n hx hb d_T_scanBlock_77 rfl (lv_at hl 2 rfl) ?_
          refine lv_iload_n hx hb d_T_scanBlock_78 rfl (lv_at hl 1 rfl) ?_
          refine lv_iload hx hb d_T_scanBlock_79 (lv_at hl 0 rfl) ?_
          refine lv_iload_n hx hb d_T_scanBlock_81 rfl (lv_at hl 4 rfl) ?_
          refine c_calli (ci := 0) (nL := 7) (As := [.int (iI (x3 + (2 + v39))), .int (iI r72), .int (iI x2)]) (rest := []) X hl.1 B (fun sz => c_T_isLess l D gA gC _ _ _ _ _ h sz) cw_T_T_isLess (by decide) rfl (Nat.le_of_ble_eq_true rfl) rfl rfl rfl ⟨Nat.zero_le _, Nat.zero_le _⟩ d_T_scanBlock_82 (fun r82 u82 H locs h B => ?_)
          refine i_if_ne (tgt := 91) X h d_T_scanBlock_85 (by decide) (fun h => ?_) (fun h => ?_)
          · refine lv_iinc (v := iI (x5 + 1)) (lv' := [(5, .int (iI (x5 + 1))), (4, .int (iI r72)), (3, .int (iI (x3 + (2 + v39)))), (0, .ref (gA 0)), (1, .int (iI x1)), (2, .int (iI x2)), (6, .int (iI x6))]) hx hb d_T_scanBlock_91 hl (k := 5) rfl (iI_inc _ _) (by decide) rfl (fun ls hl => ?_)
            refine lv_iinc (v := iI (x6 + 1)) (lv' := [(6, .int (iI (x6 + 1))), (5, .int (iI (x5 + 1))), (4, .int (iI r72)), (3, .int (iI (x3 + (2 + v39)))), (0, .ref (gA 0)), (1, .int (iI x1)), (2, .int (iI x2))]) hx hb d_T_scanBlock_94 hl (k := 6) rfl (iI_inc _ _) (by decide) rfl (fun ls hl => ?_)
            refine lv_goto (tgt := 19) hx hb d_T_scanBlock_97 (by decide) ?_
            exact ih _ _ _ _ _ _ _ _ h B (lv_sub hl [4, 5, 6, 3, 2, 1, 0] rfl)
          · refine lv_iload hx hb d_T_scanBlock_88 (lv_at hl 5 rfl) ?_
            exact c_reti X B h d_T_scanBlock_90
      · refine lv_iload hx hb d_T_scanBlock_54 (lv_at hl 5 rfl) ?_
        exact c_reti X B h d_T_scanBlock_56
set_option maxHeartbeats 4000000 in
set_option maxRecDepth 100000 in
theorem c_T_scanBlock (l : Launch) (D : va_G) (gA : Nat → Nat) (gC : Nat → ClassId) (u : TS) (x1 : Int) (x2 : Int) (post : Int → TS → Prop) (h1 : wm_T_scanBlock x1 x2 u post) (sz : Nat) : Met l y_T_scanBlock (Cond.code y_T_scanBlock b_T_scanBlock 7 (some .int) :: tw_tbl) (rmD 1) (cPre D (T_ws gA gC u) (T_tys gC) sz [.ref (gA 0), .int (iI x1), .int (iI x2)]) (cPoI D (T_ws gA gC) (T_tys gC) post (va_A (T_ws gA gC u) sz)) 0 0 (va_A (T_ws gA gC u) sz) := by
  refine c_enter (own := R_T) (Qc := fun A => cPoI D (T_ws gA gC) (T_tys gC) post A) (by decide) rfl [.ref (gA 0), .int (iI x1), .int (iI x2)] (Nat.le_of_ble_eq_true rfl) (fun p e s m args below meth c A ls X B hl => ?_)
  have hl : lv_has ls 7 [(0, .ref (gA 0)), (1, .int (iI x1)), (2, .int (iI x2))] := hl
  obtain ⟨hx, hb, -⟩ := id X
  have h := h1
  rw [wm_T_scanBlock] at h
  refine lv_bipush (v := iI 48) hx hb d_T_scanBlock_0 (by decide) ?_
  refine lv_iload_n hx hb d_T_scanBlock_2 rfl (lv_at hl 1 rfl) ?_
  refine i_imul X d_T_scanBlock_3 ?_
  refine lv_istore_n (lv' := [(3, .int (iI (48 * x1))), (0, .ref (gA 0)), (1, .int (iI x1)), (2, .int (iI x2))]) hx hb d_T_scanBlock_4 rfl hl (by decide) rfl (fun ls hl => ?_)
  refine lv_aload_n hx hb d_T_scanBlock_5 rfl (lv_at hl 1 rfl) ?_
  refine lv_iload_n hx hb d_T_scanBlock_6 rfl (lv_at hl 0 rfl) ?_
  refine lv_iconst (v := iI 0) hx hb d_T_scanBlock_7 rfl ?_
  refine c_calli (ci := 0) (nL := 7) (As := [.int (iI (48 * x1)), .int (iI 0)]) (rest := []) X hl.1 B (fun sz => c_T_matched l D gA gC _ _ _ _ h sz) cw_T_T_matched (by decide) rfl (Nat.le_of_ble_eq_true rfl) rfl rfl rfl ⟨Nat.zero_le _, Nat.zero_le _⟩ d_T_scanBlock_8 (fun r8 u8 H locs h B => ?_)
  refine lv_istore (lv' := [(4, .int (iI r8)), (3, .int (iI (48 * x1))), (0, .ref (gA 0)), (1, .int (iI x1)), (2, .int (iI x2))]) hx hb d_T_scanBlock_11 hl (by decide) rfl (fun ls hl => ?_)
  refine lv_iconst (v := iI 1) hx hb d_T_scanBlock_13 rfl ?_
  refine lv_istore (lv' := [(5, .int (iI 1)), (4, .int (iI r8)), (3, .int (iI (48 * x1))), (0, .ref (gA 0)), (1, .int (iI x1)), (2, .int (iI x2))]) hx hb d_T_scanBlock_14 hl (by decide) rfl (fun ls hl => ?_)
  refine lv_iconst (v := iI 1) hx hb d_T_scanBlock_16 rfl ?_
  refine lv_istore (lv' := [(6, .int (iI 1)), (5, .int (iI 1)), (4, .int (iI r8)), (3, .int (iI (48 * x1))), (0, .ref (gA 0)), (1, .int (iI x1)), (2, .int (iI x2))]) hx hb d_T_scanBlock_17 hl (by decide) rfl (fun ls hl => ?_)
  obtain ⟨n19, h⟩ := h
  refine wk_T_scanBlock_19 X _ _ _ (fun y100_5 u100 H locs ls h B hl => ?_) n19 _ _ _ _ _ _ _ _ h B (lv_sub hl [4, 5, 6, 3, 2, 1, 0] rfl)
  refine lv_iload hx hb d_T_scanBlock_100 (lv_at hl 1 rfl) ?_
  exact c_reti X B h d_T_scanBlock_102
end WalkT2
end
section
section WalkT3
variable {p : Program} {l : Launch} {e : Env} {s : State} {m : MethodId} {args : Array Value} {below : List Frame} {meth : Method} {c : Code} {D : va_G} {gA : Nat → Nat} {gC : Nat → ClassId} {A : Nat → Prop}
set_option maxHeartbeats 4000000 in
set_option maxRecDepth 100000 in
theorem wk_T_putKeyInList_5 (X : cX R_T (T_tys gC) (none) A p s m args meth c D b_T_putKeyInList 3) (x1 : Int) {post : TS → Prop} (K : TS → Prop)
    (hK : ∀ (u : TS) (H : Heap) (locs : List Loc) (ls : Array Slot), K u → cB D A s H locs (T_ws gA gC u) → lv_has ls 3 [(0, .ref (gA 0)), (1, .int (iI x1))] → W p l e (rmD 1) s m args below meth c H locs 0 0 (MQ below (cPoV D (T_ws gA gC) (T_tys gC) post A) args s 0 0 A) (F0 m 24 ls [])) :
    ∀ (n : Nat) (x2 : Int) (u : TS) (H : Heap) (locs : List Loc) (ls : Array Slot), wl_T_putKeyInList_5 x1 K n x2 u → cB D A s H locs (T_ws gA gC u) → lv_has ls 3 [(0, .ref (gA 0)), (1, .int (iI x1)), (2, .int (iI x2))] → W p l e (rmD 1) s m args below meth c H locs 0 0 (MQ below (cPoV D (T_ws gA gC) (T_tys gC) post A) args s 0 0 A) (F0 m 5 ls []) := by
  obtain ⟨hx, hb, -⟩ := id X
  intro n
  induction n with
  | zero =>
    intro x2 u H locs ls h
    rw [wl_T_putKeyInList_5] at h
    exact h.elim
  | succ n ih =>
    intro x2 u H locs ls h B hl
    rw [wl_T_putKeyInList_5] at h
    refine lv_iload_n hx hb d_T_putKeyInList_5 rfl (lv_at hl 2 rfl) ?_
    refine lv_iload_n hx hb d_T_putKeyInList_6 rfl (lv_at hl 1 rfl) ?_
    refine i_icmp_le (tgt := 24) X h d_T_putKeyInList_7 (by decide) (fun h => ?_) (fun h => ?_)
    · exact hK _ _ _ _ h B (lv_sub hl [0, 1] rfl)
    · refine lv_aload_n hx hb d_T_putKeyInList_10 rfl (lv_at hl 0 rfl) ?_
      refine lv_iload_n hx hb d_T_putKeyInList_11 rfl (lv_at hl 2 rfl) ?_
      refine lv_iconst (v := iI 1) hx hb d_T_putKeyInList_12 rfl ?_
      refine i_isub X d_T_putKeyInList_13 ?_
      refine lv_iload_n hx hb d_T_putKeyInList_14 rfl (lv_at hl 2 rfl) ?_
      refine c_callv (ci := 0) (nL := 3) (As := [.int (iI (x2 - 1)), .int (iI x2)]) (rest := []) X hl.1 B (fun sz => c_T_copyInList l D gA gC _ _ _ _ h sz) cw_T_T_copyInList (by decide) rfl (Nat.le_of_ble_eq_true rfl) rfl rfl rfl ⟨Nat.zero_le _, Nat.zero_le _⟩ d_T_putKeyInList_15 (fun u15 H locs h B => ?_)
      refine lv_iinc (v := iI (x2 + (-1))) (lv' := [(2, .int (iI (x2 + (-1)))), (0, .ref (gA 0)), (1, .int (iI x1))]) hx hb d_T_putKeyInList_18 hl (k := 2) rfl (iI_inc _ _) (by decide) rfl (fun ls hl => ?_)
      refine lv_goto (tgt := 5) hx hb d_T_putKeyInList_21 (by decide) ?_
      exact ih _ _ _ _ _ h B (lv_sub hl [1, 2, 0] rfl)
set_option maxHeartbeats 4000000 in
set_option maxRecDepth 100000 in
theorem wk_T_putKeyInList_26 (X : cX R_T (T_tys gC) (none) A p s m args meth c D b_T_putKeyInList 3) (x1 : Int) {post : TS → Prop} (K : TS → Prop)
    (hK : ∀ (u : TS) (H : Heap) (locs : List Loc) (ls : Array Slot), K u → cB D A s H locs (T_ws gA gC u) → lv_has ls 3 [(0, .ref (gA 0)), (1, .int (iI x1))] → W p l e (rmD 1) s m args below meth c H locs 0 0 (MQ below (cPoV D (T_ws gA gC) (T_tys gC) post A) args s 0 0 A) (F0 m 57 ls [])) :
    ∀ (n : Nat) (x2 : Int) (u : TS) (H : Heap) (locs : List Loc) (ls : Array Slot), wl_T_putKeyInList_26 x1 K n x2 u → cB D A s H locs (T_ws gA gC u) → lv_has ls 3 [(0, .ref (gA 0)), (1, .int (iI x1)), (2, .int (iI x2))] → W p l e (rmD 1) s m args below meth c H locs 0 0 (MQ below (cPoV D (T_ws gA gC) (T_tys gC) post A) args s 0 0 A) (F0 m 26 ls []) := by
  obtain ⟨hx, hb, -⟩ := id X
  intro n
  induction n with
  | zero =>
    intro x2 u H locs ls h
    rw [wl_T_putKeyInList_26] at h
    exact h.elim
  | succ n ih =>
    intro x2 u H locs ls h B hl
    rw [wl_T_putKeyInList_26] at h
    refine lv_iload_n hx hb d_T_putKeyInList_26 rfl (lv_at hl 2 rfl) ?_
    refine lv_aload_n hx hb d_T_putKeyInList_27 rfl (lv_at hl 0 rfl) ?_
    refine t_get_kl X B d_T_putKeyInList_28 ?_
    refine i_icmp_ge (tgt := 57) X h d_T_putKeyInList_31 (by decide) (fun h => ?_) (fun h => ?_)
    · exact hK _ _ _ _ h B (lv_sub hl [0, 1] rfl)
    · refine lv_aload_n hx hb d_T_putKeyInList_34 rfl (lv_at hl 0 rfl) ?_
      refine t_get_ll X B d_T_putKeyInList_35 ?_
      refine lv_bipush (v := iI 6) hx hb d_T_putKeyInList_38 (by decide) ?_
      refine lv_iload_n hx hb d_T_putKeyInList_40 rfl (lv_at hl 1 rfl) ?_
      refine i_imul X d_T_putKeyInList_41 ?_
      refine lv_iload_n hx hb d_T_putKeyInList_42 rfl (lv_at hl 2 rfl) ?_
      refine i_iadd X d_T_putKeyInList_43 ?_
      refine lv_aload_n hx hb d_T_putKeyInList_44 rfl (lv_at hl 0 rfl) ?_
      refine t_get_key X B d_T_putKeyInList_45 ?_
      refine lv_iload_n hx hb d_T_putKeyInList_48 rfl (lv_at hl 2 rfl) ?_
      refine t_ld_key X B h d_T_putKeyInList_49 (fun v49 h => ?_)
      refine t_st_ll X B h d_T_putKeyInList_50 (fun u50 H locs h B => ?_)
      refine lv_iinc (v := iI (x2 + 1)) (lv' := [(2, .int (iI (x2 + 1))), (0, .ref (gA 0)), (1, .int (iI x1))]) hx hb d_T_putKeyInList_51 hl (k := 2) rfl (iI_inc _ _) (by decide) rfl (fun ls hl => ?_)
      refine lv_goto (tgt := 26) hx hb d_T_putKeyInList_54 (by decide) ?_
      exact ih _ _ _ _ _ h B (lv_sub hl [1, 2, 0] rfl)
set_option maxHeartbeats 4000000 in
set_option maxRecDepth 100000 in
theorem c_T_putKeyInList (l : Launch) (D : va_G) (gA : Nat → Nat) (gC : Nat → ClassId) (u : TS) (x1 : Int) (post : TS → Prop) (h1 : wm_T_putKeyInList x1 u post) (sz : Nat) : Met l y_T_putKeyInList (Cond.code y_T_putKeyInList b_T_putKeyInList 3 (none) :: tw_tbl) (rmD 1) (cPre D (T_ws gA gC u) (T_tys gC) sz [.ref (gA 0), .int (iI x1)]) (cPoV D (T_ws gA gC) (T_tys gC) post (va_A (T_ws gA gC u) sz)) 0 0 (va_A (T_ws gA gC u) sz) := by
  refine c_enter (own := R_T) (Qc := fun A => cPoV D (T_ws gA gC) (T_tys gC) post A) (by decide) rfl [.ref (gA 0), .int (iI x1)] (Nat.le_of_ble_eq_true rfl) (fun p e s m args below meth c A ls X B hl => ?_)
  have hl : lv_has ls 3 [(0, .ref (gA 0)), (1, .int (iI x1))] := hl
  obtain ⟨hx, hb, -⟩ := id X
  have h := h1
  rw [wm_T_putKeyInList] at h
  refine lv_aload_n hx hb d_T_putKeyInList_0 rfl (lv_at hl 0 rfl) ?_
  refine t_get_li X B d_T_putKeyInList_1 ?_
  refine lv_istore_n (lv' := [(2, .int (iI (tli u))), (0, .ref (gA 0)), (1, .int (iI x1))]) hx hb d_T_putKeyInList_4 rfl hl (by decide) rfl (fun ls hl => ?_)
  obtain ⟨n5, h⟩ := h
  refine wk_T_putKeyInList_5 X _ _ (fun u24 H locs ls h B hl => ?_) n5 _ _ _ _ _ h B (lv_sub hl [1, 2, 0] rfl)
  refine lv_iconst (v := iI 0) hx hb d_T_putKeyInList_24 rfl ?_
  refine lv_istore_n (lv' := [(2, .int (iI 0)), (0, .ref (gA 0)), (1, .int (iI x1))]) hx hb d_T_putKeyInList_25 rfl hl (by decide) rfl (fun ls hl => ?_)
  obtain ⟨n26, h⟩ := h
  refine wk_T_putKeyInList_26 X _ _ (fun u57 H locs ls h B hl => ?_) n26 _ _ _ _ _ h B (lv_sub hl [1, 2, 0] rfl)
  refine lv_aload_n hx hb d_T_putKeyInList_57 rfl (lv_at hl 0 rfl) ?_
  refine t_get_len X B d_T_putKeyInList_58 ?_
  refine lv_iload_n hx hb d_T_putKeyInList_61 rfl (lv_at hl 1 rfl) ?_
  refine lv_aload_n hx hb d_T_putKeyInList_62 rfl (lv_at hl 0 rfl) ?_
  refine t_get_kl X B d_T_putKeyInList_63 ?_
  refine t_st_len X B h d_T_putKeyInList_66 (fun u66 H locs h B => ?_)
  refine lv_aload_n hx hb d_T_putKeyInList_67 rfl (lv_at hl 0 rfl) ?_
  refine lv_dup hx hb d_T_putKeyInList_68 rfl ?_
  refine t_get_li X B d_T_putKeyInList_69 ?_
  refine lv_iconst (v := iI 1) hx hb d_T_putKeyInList_72 rfl ?_
  refine i_iadd X d_T_putKeyInList_73 ?_
  refine t_put_li X B h d_T_putKeyInList_74 (fun u74 H locs h B => ?_)
  exact c_retv X B h d_T_putKeyInList_77
set_option maxHeartbeats 4000000 in
set_option maxRecDepth 100000 in
theorem wk_T_takeFromList_2 (X : cX R_T (T_tys gC) (none) A p s m args meth c D b_T_takeFromList 3) {post : TS → Prop} (K : TS → Prop)
    (hK : ∀ (u : TS) (H : Heap) (locs : List Loc) (ls : Array Slot), K u → cB D A s H locs (T_ws gA gC u) → lv_has ls 3 [(0, .ref (gA 0))] → W p l e (rmD 1) s m args below meth c H locs 0 0 (MQ below (cPoV D (T_ws gA gC) (T_tys gC) post A) args s 0 0 A) (F0 m 26 ls [])) :
    ∀ (n : Nat) (x2 : Int) (u : TS) (H : Heap) (locs : List Loc) (ls : Array Slot), wl_T_takeFromList_2 K n x2 u → cB D A s H locs (T_ws gA gC u) → lv_has ls 3 [(0, .ref (gA 0)), (2, .int (iI x2))] → W p l e (rmD 1) s m args below meth c H locs 0 0 (MQ below (cPoV D (T_ws gA gC) (T_tys gC) post A) args s 0 0 A) (F0 m 2 ls []) := by
  obtain ⟨hx, hb, -⟩ := id X
  intro n
  induction n with
  | zero =>
    intro x2 u H locs ls h
    rw [wl_T_takeFromList_2] at h
    exact h.elim
  | succ n ih =>
    intro x2 u H locs ls h B hl
    rw [wl_T_takeFromList_2] at h
    refine lv_iload_n hx hb d_T_takeFromList_2 rfl (lv_at hl 1 rfl) ?_
    refine lv_iconst (v := iI 1) hx hb d_T_takeFromList_3 rfl ?_
    refine i_iadd X d_T_takeFromList_4 ?_
    refine lv_aload_n hx hb d_T_takeFromList_5 rfl (lv_at hl 0 rfl) ?_
    refine t_get_li X B d_T_takeFromList_6 ?_
    refine i_icmp_ge (tgt := 26) X h d_T_takeFromList_9 (by decide) (fun h => ?_) (fun h => ?_)
    · exact hK _ _ _ _ h B (lv_sub hl [0] rfl)
    · refine lv_aload_n hx hb d_T_takeFromList_12 rfl (lv_at hl 0 rfl) ?_
      refine lv_iload_n hx hb d_T_takeFromList_13 rfl (lv_at hl 1 rfl) ?_
      refine lv_iconst (v := iI 1) hx hb d_T_takeFromList_14 rfl ?_
      refine i_iadd X d_T_takeFromList_15 ?_
      refine lv_iload_n hx hb d_T_takeFromList_16 rfl (lv_at hl 1 rfl) ?_
      refine c_callv (ci := 0) (nL := 3) (As := [.int (iI (x2 + 1)), .int (iI x2)]) (rest := []) X hl.1 B (fun sz => c_T_copyInList l D gA gC _ _ _ _ h sz) cw_T_T_copyInList (by decide) rfl (Nat.le_of_ble_eq_true rfl) rfl rfl rfl ⟨Nat.zero_le _, Nat.zero_le _⟩ d_T_takeFromList_17 (fun u17 H locs h B => ?_)
      refine lv_iinc (v := iI (x2 + 1)) (lv' := [(2, .int (iI (x2 + 1))), (0, .ref (gA 0))]) hx hb d_T_takeFromList_20 hl (k := 1) rfl (iI_inc _ _) (by decide) rfl (fun ls hl => ?_)
      refine lv_goto (tgt := 2) hx hb d_T_takeFromList_23 (by decide) ?_
      exact ih _ _ _ _ _ h B (lv_sub hl [1, 0] rfl)
set_option maxHeartbeats 4000000 in
set_option maxRecDepth 100000 in
theorem c_T_takeFromList (l : Launch) (D : va_G) (gA : Nat → Nat) (gC : Nat → ClassId) (u : TS) (x1 : Int) (post : TS → Prop) (h1 : wm_T_takeFromList x1 u post) (sz : Nat) : Met l y_T_takeFromList (Cond.code y_T_takeFromList b_T_takeFromList 3 (none) :: tw_tbl) (rmD 1) (cPre D (T_ws gA gC u) (T_tys gC) sz [.ref (gA 0), .int (iI x1)]) (cPoV D (T_ws gA gC) (T_tys gC) post (va_A (T_ws gA gC u) sz)) 0 0 (va_A (T_ws gA gC u) sz) := by
  refine c_enter (own := R_T) (Qc := fun A => cPoV D (T_ws gA gC) (T_tys gC) post A) (by decide) rfl [.ref (gA 0), .int (iI x1)] (Nat.le_of_ble_eq_true rfl) (fun p e s m args below meth c A ls X B hl => ?_)
  have hl : lv_has ls 3 [(0, .ref (gA 0)), (1, .int (iI x1))] := hl
  obtain ⟨hx, hb, -⟩ := id X
  have h := h1
  rw [wm_T_takeFromList] at h
  refine lv_iload_n hx hb d_T_takeFromList_0 rfl (lv_at hl 1 rfl) ?_
  refine lv_istore_n (lv' := [(2, .int (iI x1)), (0, .ref (gA 0)), (1, .int (iI x1))]) hx hb d_T_takeFromList_1 rfl hl (by decide) rfl (fun ls hl => ?_)
  obtain ⟨n2, h⟩ := h
  refine wk_T_takeFromList_2 X _ (fun u26 H locs ls h B hl => ?_) n2 _ _ _ _ _ h B (lv_sub hl [1, 0] rfl)
  refine lv_aload_n hx hb d_T_takeFromList_26 rfl (lv_at hl 0 rfl) ?_
  refine lv_dup hx hb d_T_takeFromList_27 rfl ?_
  refine t_get_li X B d_T_takeFromList_28 ?_
  refine lv_iconst (v := iI 1) hx hb d_T_takeFromList_31 rfl ?_
  refine i_isub X d_T_takeFromList_32 ?_
  refine t_put_li X B h d_T_takeFromList_33 (fun u33 H locs h B => ?_)
  exact c_retv X B h d_T_takeFromList_36
set_option maxHeartbeats 4000000 in
set_option maxRecDepth 100000 in
theorem wk_T_pack_78 (X : cX R_T (T_tys gC) (none) A p s m args meth c D b_T_pack 9) (x2 : Int) (x3 : Int) (x4 : Int) (x5 : Int) (x6 : Int) (x7 : Int) {post : TS → Prop} (K : TS → Prop)
    (hK : ∀ (u : TS) (H : Heap) (locs : List Loc) (ls : Array Slot), K u → cB D A s H locs (T_ws gA gC u) → lv_has ls 9 [(0, .ref (gA 0)), (2, .int (iI x2)), (3, .int (iI x3)), (4, .int (iI x4)), (5, .int (iI x5)), (6, .int (iI x6)), (7, .int (iI x7))] → W p l e (rmD 1) s m args below meth c H locs 0 0 (MQ below (cPoV D (T_ws gA gC) (T_tys gC) post A) args s 0 0 A) (F0 m 124 ls [])) :
    ∀ (n : Nat) (x8 : Int) (u : TS) (H : Heap) (locs : List Loc) (ls : Array Slot), wl_T_pack_78 x5 x6 x7 K n x8 u → cB D A s H locs (T_ws gA gC u) → lv_has ls 9 [(0, .ref (gA 0)), (2, .int (iI x2)), (3, .int (iI x3)), (4, .int (iI x4)), (5, .int (iI x5)), (6, .int (iI x6)), (7, .int (iI x7)), (8, .int (iI x8))] → W p l e (rmD 1) s m args below meth c H locs 0 0 (MQ below (cPoV D (T_ws gA gC) (T_tys gC) post A) args s 0 0 A) (F0 m 78 ls []) := by
  obtain ⟨hx, hb, -⟩ := id X
  intro n
  induction n with
  | zero =>
    intro x8 u H locs ls h
    rw [wl_T_pack_78] at h
    exact h.elim
  | succ n ih =>
    intro x8 u H locs ls h B hl
    rw [wl_T_pack_78] at h
    refine lv_iload hx hb d_T_pack_78 (lv_at hl 7 rfl) ?_
    refine lv_aload_n hx hb d_T_pack_80 rfl (lv_at hl 0 rfl) ?_
    refine t_get_len X B d_T_pack_81 ?_
    refine lv_iload hx hb d_T_pack_84 (lv_at hl 5 rfl) ?_
    refine t_ld_len X B h d_T_pack_86 (fun v86 h => ?_)
    refine i_icmp_ge (tgt := 124) X h d_T_pack_87 (by decide) (fun h => ?_) (fun h => ?_)
    · exact hK _ _ _ _ h B (lv_sub hl [0, 1, 2, 3, 4, 5, 6] rfl)
    · refine lv_aload_n hx hb d_T_pack_90 rfl (lv_at hl 0 rfl) ?_
      refine t_get_dat X B d_T_pack_91 ?_
      refine lv_iload hx hb d_T_pack_94 (lv_at hl 4 rfl) ?_
      refine lv_iconst (v := iI 2) hx hb d_T_pack_96 rfl ?_
      refine i_iadd X d_T_pack_97 ?_
      refine lv_iload hx hb d_T_pack_98 (lv_at hl 7 rfl) ?_
      refine i_iadd X d_T_pack_100 ?_
      refine lv_iload hx hb d_T_pack_101 (lv_at hl 6 rfl) ?_
      refine i_isub X d_T_pack_103 ?_
      refine lv_aload_n hx hb d_T_pack_104 rfl (lv_at hl 0 rfl) ?_
      refine t_get_ll X B d_T_pack_105 ?_
      refine lv_bipush (v := iI 6) hx hb d_T_pack_108 (by decide) ?_
      refine lv_iload hx hb d_T_pack_110 (lv_at hl 5 rfl) ?_
      refine i_imul X d_T_pack_112 ?_
      refine lv_iload hx hb d_T_pack_113 (lv_at hl 7 rfl) ?_
      refine i_iadd X d_T_pack_115 ?_
      refine t_ld_ll X B h d_T_pack_116 (fun v116 h => ?_)
      refine t_st_dat X B h d_T_pack_117 (fun u117 H locs h B => ?_)
      refine lv_iinc (v := iI (x8 + 1)) (lv' := [(8, .int (iI (x8 + 1))), (0, .ref (gA 0)), (2, .int (iI x2)), (3, .int (iI x3)), (4, .int (iI x4)), (5, .int (iI x5)), (6, .int (iI x6)), (7, .int (iI x7))]) hx hb d_T_pack_118 hl (k := 7) rfl (iI_inc _ _) (by decide) rfl (fun ls hl => ?_)
      refine lv_goto (tgt := 78) hx hb d_T_pack_121 (by decide) ?_
      exact ih _ _ _ _ _ h B (lv_sub hl [1, 2, 3, 4, 5, 6, 7, 0] rfl)
set_option maxHeartbeats 4000000 in
set_option maxRecDepth 100000 in
theorem wkj_T_pack_44 (X : cX R_T (T_tys gC) (none) A p s m args meth c D b_T_pack 9) {post : TS → Prop} (C18 : Int → Int → TS → Prop) (x2 : Int) (x3 : Int) (x4 : Int) (x5 : Int) (x6 : Int) (z0 : Int) (hC18 : ∀ (x5 : Int) (x6 : Int) (u : TS) (H : Heap) (locs : List Loc) (ls : Array Slot), C18 x5 x6 u → cB D A s H locs (T_ws gA gC u) → lv_has ls 9 [(0, .ref (gA 0)), (2, .int (iI x2)), (3, .int (iI x3)), (4, .int (iI x4)), (5, .int (iI x5)), (6, .int (iI x6))] → W p l e (rmD 1) s m args below meth c H locs 0 0 (MQ below (cPoV D (T_ws gA gC) (T_tys gC) post A) args s 0 0 A) (F0 m 18 ls [])) {u : TS} {H : Heap} {locs : List Loc} {ls : Array Slot} (h : wj_T_pack_44 C18 x5 x6 z0 u) (B : cB D A s H locs (T_ws gA gC u)) (hl : lv_has ls 9 [(0, .ref (gA 0)), (2, .int (iI x2)), (3, .int (iI x3)), (4, .int (iI x4)), (5, .int (iI x5)), (6, .int (iI x6))]) : W p l e (rmD 1) s m args below meth c H locs 0 0 (MQ below (cPoV D (T_ws gA gC) (T_tys gC) post A) args s 0 0 A) (F0 m 44 ls [.int (iI z0)]) := by
  obtain ⟨hx, hb, -⟩ := id X
  rw [wj_T_pack_44] at h
  refine lv_istore (lv' := [(7, .int (iI z0)), (0, .ref (gA 0)), (2, .int (iI x2)), (3, .int (iI x3)), (4, .int (iI x4)), (5, .int (iI x5)), (6, .int (iI x6))]) hx hb d_T_pack_44 hl (by decide) rfl (fun ls hl => ?_)
  refine lv_aload_n hx hb d_T_pack_46 rfl (lv_at hl 1 rfl) ?_
  refine t_get_dat X B d_T_pack_47 ?_
  refine lv_iload hx hb d_T_pack_50 (lv_at hl 5 rfl) ?_
  refine lv_iload hx hb d_T_pack_52 (lv_at hl 0 rfl) ?_
  refine t_st_dat X B h d_T_pack_54 (fun u54 H locs h B => ?_)
  refine lv_aload_n hx hb d_T_pack_55 rfl (lv_at hl 1 rfl) ?_
  refine t_get_dat X B d_T_pack_56 ?_
  refine lv_iload hx hb d_T_pack_59 (lv_at hl 5 rfl) ?_
  refine lv_iconst (v := iI 1) hx hb d_T_pack_61 rfl ?_
  refine i_iadd X d_T_pack_62 ?_
  refine lv_aload_n hx hb d_T_pack_63 rfl (lv_at hl 1 rfl) ?_
  refine t_get_len X B d_T_pack_64 ?_
  refine lv_iload hx hb d_T_pack_67 (lv_at hl 6 rfl) ?_
  refine t_ld_len X B h d_T_pack_69 (fun v69 h => ?_)
  refine lv_iload hx hb d_T_pack_70 (lv_at hl 0 rfl) ?_
  refine i_isub X d_T_pack_72 ?_
  refine t_st_dat X B h d_T_pack_73 (fun u73 H locs h B => ?_)
  refine lv_iload hx hb d_T_pack_74 (lv_at hl 0 rfl) ?_
  refine lv_istore (lv' := [(8, .int (iI z0)), (7, .int (iI z0)), (0, .ref (gA 0)), (2, .int (iI x2)), (3, .int (iI x3)), (4, .int (iI x4)), (5, .int (iI x5)), (6, .int (iI x6))]) hx hb d_T_pack_76 hl (by decide) rfl (fun ls hl => ?_)
  obtain ⟨n78, h⟩ := h
  refine wk_T_pack_78 X _ _ _ _ _ _ _ (fun u124 H locs ls h B hl => ?_) n78 _ _ _ _ _ h B (lv_sub hl [2, 3, 4, 5, 6, 7, 1, 0] rfl)
  refine lv_iload hx hb d_T_pack_124 (lv_at hl 4 rfl) ?_
  refine lv_iconst (v := iI 2) hx hb d_T_pack_126 rfl ?_
  refine lv_aload_n hx hb d_T_pack_127 rfl (lv_at hl 0 rfl) ?_
  refine t_get_len X B d_T_pack_128 ?_
  refine lv_iload hx hb d_T_pack_131 (lv_at hl 5 rfl) ?_
  refine t_ld_len X B h d_T_pack_133 (fun v133 h => ?_)
  refine i_iadd X d_T_pack_134 ?_
  refine lv_iload hx hb d_T_pack_135 (lv_at hl 6 rfl) ?_
  refine i_isub X d_T_pack_137 ?_
  refine i_iadd X d_T_pack_138 ?_
  refine lv_istore (lv' := [(5, .int (iI (x5 + ((2 + v133) - z0)))), (0, .ref (gA 0)), (2, .int (iI x2)), (3, .int (iI x3)), (4, .int (iI x4)), (6, .int (iI x6)), (7, .int (iI z0))]) hx hb d_T_pack_139 hl (by decide) rfl (fun ls hl => ?_)
  refine lv_iinc (v := iI (x6 + 1)) (lv' := [(6, .int (iI (x6 + 1))), (5, .int (iI (x5 + ((2 + v133) - z0)))), (0, .ref (gA 0)), (2, .int (iI x2)), (3, .int (iI x3)), (4, .int (iI x4)), (7, .int (iI z0))]) hx hb d_T_pack_141 hl (k := 5) rfl (iI_inc _ _) (by decide) rfl (fun ls hl => ?_)
  refine lv_goto (tgt := 18) hx hb d_T_pack_144 (by decide) ?_
  exact hC18 _ _ _ _ _ _ h B (lv_sub hl [2, 3, 4, 5, 1, 0] rfl)
set_option maxHeartbeats 4000000 in
set_option maxRecDepth 100000 in
theorem wk_T_pack_18 (X : cX R_T (T_tys gC) (none) A p s m args meth c D b_T_pack 9) (x2 : Int) (x3 : Int) (x4 : Int) {post : TS → Prop} (K : TS → Prop)
    (hK : ∀ (u : TS) (H : Heap) (locs : List Loc) (ls : Array Slot), K u → cB D A s H locs (T_ws gA gC u) → lv_has ls 9 [(0, .ref (gA 0)), (2, .int (iI x2)), (3, .int (iI x3)), (4, .int (iI x4))] → W p l e (rmD 1) s m args below meth c H locs 0 0 (MQ below (cPoV D (T_ws gA gC) (T_tys gC) post A) args s 0 0 A) (F0 m 147 ls [])) :
    ∀ (n : Nat) (x5 : Int) (x6 : Int) (u : TS) (H : Heap) (locs : List Loc) (ls : Array Slot), wl_T_pack_18 x2 x3 K n x5 x6 u → cB D A s H locs (T_ws gA gC u) → lv_has ls 9 [(0, .ref (gA 0)), (2, .int (iI x2)), (3, .int (iI x3)), (4, .int (iI x4)), (5, .int (iI x5)), (6, .int (iI x6))] → W p l e (rmD 1) s m args below meth c H locs 0 0 (MQ below (cPoV D (T_ws gA gC) (T_tys gC) post A) args s 0 0 A) (F0 m 18 ls []) := by
  obtain ⟨hx, hb, -⟩ := id X
  intro n
  induction n with
  | zero =>
    intro x5 x6 u H locs ls h
    rw [wl_T_pack_18] at h
    exact h.elim
  | succ n ih =>
    intro x5 x6 u H locs ls h B hl
    rw [wl_T_pack_18] at h
    refine lv_iload hx hb d_T_pack_18 (lv_at hl 5 rfl) ?_
    refine lv_iload_n hx hb d_T_pack_20 rfl (lv_at hl 2 rfl) ?_
    refine i_icmp_ge (tgt := 147) X h d_T_pack_21 (by decide) (fun h => ?_) (fun h => ?_)
    · exact hK _ _ _ _ h B (lv_sub hl [0, 1, 2, 3] rfl)
    · refine lv_iload hx hb d_T_pack_24 (lv_at hl 5 rfl) ?_
      refine lv_iload_n hx hb d_T_pack_26 rfl (lv_at hl 1 rfl) ?_
      refine i_icmp_ne (tgt := 34) X h d_T_pack_27 (by decide) (fun h => ?_) (fun h => ?_)
      · refine lv_aload_n hx hb d_T_pack_34 rfl (lv_at hl 0 rfl) ?_
        refine lv_iload hx hb d_T_pack_35 (lv_at hl 5 rfl) ?_
        refine lv_iconst (v := iI 1) hx hb d_T_pack_37 rfl ?_
        refine i_isub X d_T_pack_38 ?_
        refine lv_iload hx hb d_T_pack_39 (lv_at hl 5 rfl) ?_
        refine c_calli (ci := 0) (nL := 9) (As := [.int (iI (x6 - 1)), .int (iI x6)]) (rest := []) X hl.1 B (fun sz => c_T_sharedInList l D gA gC _ _ _ _ h sz) cw_T_T_sharedInList (by decide) rfl (Nat.le_of_ble_eq_true rfl) rfl rfl rfl ⟨Nat.zero_le _, Nat.zero_le _⟩ d_T_pack_41 (fun r41 u41 H locs h B => ?_)
        exact wkj_T_pack_44 X _ _ _ _ _ _ _ ih h B (lv_sub hl [0, 1, 2, 3, 4, 5] rfl)
      · refine lv_iconst (v := iI 0) hx hb d_T_pack_30 rfl ?_
        refine lv_goto (tgt := 44) hx hb d_T_pack_31 (by decide) ?_
        exact wkj_T_pack_44 X _ _ _ _ _ _ _ ih h B (lv_sub hl [0, 1, 2, 3, 4, 5] rfl)
set_option maxHeartbeats 4000000 in
set_option maxRecDepth 100000 in
theorem c_T_pack (l : Launch) (D : va_G) (gA : Nat → Nat) (gC : Nat → ClassId) (u : TS) (x1 : Int) (x2 : Int) (x3 : Int) (post : TS → Prop) (h1 : wm_T_pack x1 x2 x3 u post) (sz : Nat) : Met l y_T_pack (Cond.code y_T_pack b_T_pack 9 (none) :: tw_tbl) (rmD 1) (cPre D (T_ws gA gC u) (T_tys gC) sz [.ref (gA 0), .int (iI x1), .int (iI x2), .int (iI x3)]) (cPoV D (T_ws gA gC) (T_tys gC) post (va_A (T_ws gA gC u) sz)) 0 0 (va_A (T_ws gA gC u) sz) := by
  refine c_enter (own := R_T) (Qc := fun A => cPoV D (T_ws gA gC) (T_tys gC) post A) (by decide) rfl [.ref (gA 0), .int (iI x1), .int (iI x2), .int (iI x3)] (Nat.le_of_ble_eq_true rfl) (fun p e s m args below meth c A ls X B hl => ?_)
  have hl : lv_has ls 9 [(0, .ref (gA 0)), (1, .int (iI x1)), (2, .int (iI x2)), (3, .int (iI x3))] := hl
  obtain ⟨hx, hb, -⟩ := id X
  have h := h1
  rw [wm_T_pack] at h
  refine lv_aload_n hx hb d_T_pack_0 rfl (lv_at hl 0 rfl) ?_
  refine t_get_slot X B d_T_pack_1 ?_
  refine lv_iload_n hx hb d_T_pack_4 rfl (lv_at hl 1 rfl) ?_
  refine t_ld_slot X B h d_T_pack_5 (fun v5 h => ?_)
  refine lv_istore (lv' := [(4, .int (iI v5)), (0, .ref (gA 0)), (1, .int (iI x1)), (2, .int (iI x2)), (3, .int (iI x3))]) hx hb d_T_pack_6 hl (by decide) rfl (fun ls hl => ?_)
  refine lv_bipush (v := iI 48) hx hb d_T_pack_8 (by decide) ?_
  refine lv_iload hx hb d_T_pack_10 (lv_at hl 0 rfl) ?_
  refine i_imul X d_T_pack_12 ?_
  refine lv_istore (lv' := [(5, .int (iI (48 * v5))), (4, .int (iI v5)), (0, .ref (gA 0)), (1, .int (iI x1)), (2, .int (iI x2)), (3, .int (iI x3))]) hx hb d_T_pack_13 hl (by decide) rfl (fun ls hl => ?_)
  refine lv_iload_n hx hb d_T_pack_15 rfl (lv_at hl 4 rfl) ?_
  refine lv_istore (lv' := [(6, .int (iI x2)), (5, .int (iI (48 * v5))), (4, .int (iI v5)), (0, .ref (gA 0)), (1, .int (iI x1)), (2, .int (iI x2)), (3, .int (iI x3))]) hx hb d_T_pack_16 hl (by decide) rfl (fun ls hl => ?_)
  obtain ⟨n18, h⟩ := h
  refine wk_T_pack_18 X _ _ _ _ (fun u147 H locs ls h B hl => ?_) n18 _ _ _ _ _ _ h B (lv_sub hl [3, 5, 6, 2, 1, 0] rfl)
  refine lv_aload_n hx hb d_T_pack_147 rfl (lv_at hl 0 rfl) ?_
  refine t_get_siz X B d_T_pack_148 ?_
  refine lv_iload hx hb d_T_pack_151 (lv_at hl 3 rfl) ?_
  refine lv_iload_n hx hb d_T_pack_153 rfl (lv_at hl 2 rfl) ?_
  refine lv_iload_n hx hb d_T_pack_154 rfl (lv_at hl 1 rfl) ?_
  refine i_isub X d_T_pack_155 ?_
  refine t_st_siz X B h d_T_pack_156 (fun u156 H locs h B => ?_)
  exact c_retv X B h d_T_pack_157
set_option maxHeartbeats 4000000 in
set_option maxRecDepth 100000 in
theorem wk_T_countLess_10 (X : cX R_T (T_tys gC) (some .int) A p s m args meth c D b_T_countLess 6) (x1 : Int) {post : Int → TS → Prop} (K : Int → TS → Prop)
    (hK : ∀ (x2 : Int) (u : TS) (H : Heap) (locs : List Loc) (ls : Array Slot), K x2 u → cB D A s H locs (T_ws gA gC u) → lv_has ls 6 [(0, .ref (gA 0)), (1, .int (iI x1)), (2, .int (iI x2))] → W p l e (rmD 2) s m args below meth c H locs 0 0 (MQ below (cPoI D (T_ws gA gC) (T_tys gC) post A) args s 0 0 A) (F0 m 55 ls [])) :
    ∀ (n : Nat) (x2 : Int) (x3 : Int) (x4 : Int) (u : TS) (H : Heap) (locs : List Loc) (ls : Array Slot), wl_T_countLess_10 x1 K n x2 x3 x4 u → cB D A s H locs (T_ws gA gC u) → lv_has ls 6 [(0, .ref (gA 0)), (1, .int (iI x1)), (2, .int (iI x2)), (3, .int (iI x3)), (4, .int (iI x4))] → W p l e (rmD 2) s m args below meth c H locs 0 0 (MQ below (cPoI D (T_ws gA gC) (T_tys gC) post A) args s 0 0 A) (F0 m 10 ls []) := by
  obtain ⟨hx, hb, -⟩ := id X
  intro n
  induction n with
  | zero =>
    intro x2 x3 x4 u H locs ls h
    rw [wl_T_countLess_10] at h
    exact h.elim
  | succ n ih =>
    intro x2 x3 x4 u H locs ls h B hl
    rw [wl_T_countLess_10] at h
    refine lv_iload hx hb d_T_countLess_10 (lv_at hl 4 rfl) ?_
    refine lv_iconst (v := iI 5) hx hb d_T_countLess_12 rfl ?_
    refine i_icmp_ge (tgt := 55) X h d_T_countLess_13 (by decide) (fun h => ?_) (fun h => ?_)
    · exact hK _ _ _ _ _ h B (lv_sub hl [0, 1, 2] rfl)
    · refine lv_iload_n hx hb d_T_countLess_16 rfl (lv_at hl 2 rfl) ?_
      refine lv_iload_n hx hb d_T_countLess_17 rfl (lv_at hl 3 rfl) ?_
      refine i_icmp_ge (tgt := 55) X h d_T_countLess_18 (by decide) (fun h => ?_) (fun h => ?_)
      · exact hK _ _ _ _ _ h B (lv_sub hl [0, 1, 2] rfl)
      · refine lv_iload_n hx hb d_T_countLess_21 rfl (lv_at hl 2 rfl) ?_
        refine lv_iload_n hx hb d_T_countLess_22 rfl (lv_at hl 3 rfl) ?_
        refine i_iadd X d_T_countLess_23 ?_
        refine lv_iconst (v := iI 2) hx hb d_T_countLess_24 rfl ?_
        refine i_idiv2 X h.1 d_T_countLess_25 ?_
        have h := h.2
        refine lv_istore (lv' := [(5, .int (iI ((x2 + x3) / 2))), (0, .ref (gA 0)), (1, .int (iI x1)), (2, .int (iI x2)), (3, .int (iI x3)), (4, .int (iI x4))]) hx hb d_T_countLess_26 hl (by decide) rfl (fun ls hl => ?_)
        refine lv_aload_n hx hb d_T_countLess_28 rfl (lv_at hl 1 rfl) ?_
        refine lv_iload hx hb d_T_countLess_29 (lv_at hl 0 rfl) ?_
        refine lv_iload_n hx hb d_T_countLess_31 rfl (lv_at hl 2 rfl) ?_
        refine c_calli (ci := 0) (nL := 6) (As := [.int (iI ((x2 + x3) / 2)), .int (iI x1)]) (rest := []) X hl.1 B (fun sz => c_T_headIsLess l D gA gC _ _ _ _ h sz) cw_T_T_headIsLess (by decide) rfl (Nat.le_of_ble_eq_true rfl) rfl rfl rfl ⟨Nat.zero_le _, Nat.zero_le _⟩ d_T_countLess_32 (fun r32 u32 H locs h B => ?_)
        refine i_if_eq (tgt := 46) X h d_T_countLess_35 (by decide) (fun h => ?_) (fun h => ?_)
        · refine lv_iload hx hb d_T_countLess_46 (lv_at hl 0 rfl) ?_
          refine lv_istore_n (lv' := [(3, .int (iI ((x2 + x3) / 2))), (5, .int (iI ((x2 + x3) / 2))), (0, .ref (gA 0)), (1, .int (iI x1)), (2, .int (iI x2)), (4, .int (iI x4))]) hx hb d_T_countLess_48 rfl hl (by decide) rfl (fun ls hl => ?_)
          refine lv_iinc (v := iI (x4 + 1)) (lv' := [(4, .int (iI (x4 + 1))), (3, .int (iI ((x2 + x3) / 2))), (5, .int (iI ((x2 + x3) / 2))), (0, .ref (gA 0)), (1, .int (iI x1)), (2, .int (iI x2))]) hx hb d_T_countLess_49 hl (k := 5) rfl (iI_inc _ _) (by decide) rfl (fun ls hl => ?_)
          refine lv_goto (tgt := 10) hx hb d_T_countLess_52 (by decide) ?_
          exact ih _ _ _ _ _ _ _ h B (lv_sub hl [3, 4, 5, 1, 0] rfl)
        · refine lv_iload hx hb d_T_countLess_38 (lv_at hl 0 rfl) ?_
          refine lv_iconst (v := iI 1) hx hb d_T_countLess_40 rfl ?_
          refine i_iadd X d_T_countLess_41 ?_
          refine lv_istore_n (lv' := [(2, .int (iI (((x2 + x3) / 2) + 1))), (5, .int (iI ((x2 + x3) / 2))), (0, .ref (gA 0)), (1, .int (iI x1)), (3, .int (iI x3)), (4, .int (iI x4))]) hx hb d_T_countLess_42 rfl hl (by decide) rfl (fun ls hl => ?_)
          refine lv_goto (tgt := 49) hx hb d_T_countLess_43 (by decide) ?_
          refine lv_iinc (v := iI (x4 + 1)) (lv' := [(4, .int (iI (x4 + 1))), (2, .int (iI (((x2 + x3) / 2) + 1))), (5, .int (iI ((x2 + x3) / 2))), (0, .ref (gA 0)), (1, .int (iI x1)), (3, .int (iI x3))]) hx hb d_T_countLess_49 hl (k := 5) rfl (iI_inc _ _) (by decide) rfl (fun ls hl => ?_)
          refine lv_goto (tgt := 10) hx hb d_T_countLess_52 (by decide) ?_
          exact ih _ _ _ _ _ _ _ h B (lv_sub hl [3, 4, 1, 5, 0] rfl)
set_option maxHeartbeats 4000000 in
set_option maxRecDepth 100000 in
theorem wkj_T_countLess_92 (X : cX R_T (T_tys gC) (some .int) A p s m args meth c D b_T_countLess 6) {post : Int → TS → Prop} (z0 : Int) {u : TS} {H : Heap} {locs : List Loc} {ls : Array Slot} (h : wj_T_countLess_92 post z0 u) (B : cB D A s H locs (T_ws gA gC u)) (hl : lv_has ls 6 [(0, .ref (gA 0))]) : W p l e (rmD 2) s m args below meth c H locs 0 0 (MQ below (cPoI D (T_ws gA gC) (T_tys gC) post A) args s 0 0 A) (F0 m 92 ls [.int (iI z0), .ref (gA 0)]) := by
  obtain ⟨hx, hb, -⟩ := id X
  rw [wj_T_countLess_92] at h
  refine t_put_fi X B h d_T_countLess_92 (fun u92 H locs h B => ?_)
  refine lv_aload_n hx hb d_T_countLess_95 rfl (lv_at hl 0 rfl) ?_
  refine lv_aload_n hx hb d_T_countLess_96 rfl (lv_at hl 0 rfl) ?_
  refine t_get_fb X B d_T_countLess_97 ?_
  refine c_calli (ci := 0) (nL := 6) (As := [.int (iI (tfb u92))]) (rest := []) X hl.1 B (fun sz => c_T_termsBefore l D gA gC _ _ _ h sz) cw_T_T_termsBefore (by decide) rfl (Nat.le_of_ble_eq_true rfl) rfl rfl rfl ⟨Nat.zero_le _, Nat.zero_le _⟩ d_T_countLess_100 (fun r100 u100 H locs h B => ?_)
  refine lv_aload_n hx hb d_T_countLess_103 rfl (lv_at hl 0 rfl) ?_
  refine t_get_fi X B d_T_countLess_104 ?_
  refine i_iadd X d_T_countLess_107 ?_
  exact c_reti X B h d_T_countLess_108
set_option maxHeartbeats 4000000 in
set_option maxRecDepth 100000 in
theorem wkj_T_countLess_67 (X : cX R_T (T_tys gC) (some .int) A p s m args meth c D b_T_countLess 6) {post : Int → TS → Prop} (x1 : Int) (x2 : Int) (z0 : Int) {u : TS} {H : Heap} {locs : List Loc} {ls : Array Slot} (h : wj_T_countLess_67 post x1 x2 z0 u) (B : cB D A s H locs (T_ws gA gC u)) (hl : lv_has ls 6 [(0, .ref (gA 0)), (1, .int (iI x1)), (2, .int (iI x2))]) : W p l e (rmD 2) s m args below meth c H locs 0 0 (MQ below (cPoI D (T_ws gA gC) (T_tys gC) post A) args s 0 0 A) (F0 m 67 ls [.int (iI z0), .ref (gA 0)]) := by
  obtain ⟨hx, hb, -⟩ := id X
  rw [wj_T_countLess_67] at h
  refine t_put_fb X B h d_T_countLess_67 (fun u67 H locs h B => ?_)
  refine lv_aload_n hx hb d_T_countLess_70 rfl (lv_at hl 0 rfl) ?_
  refine lv_iload_n hx hb d_T_countLess_71 rfl (lv_at hl 2 rfl) ?_
  refine i_if_le (tgt := 91) X h d_T_countLess_72 (by decide) (fun h => ?_) (fun h => ?_)
  · refine lv_iconst (v := iI 0) hx hb d_T_countLess_91 rfl ?_
    exact wkj_T_countLess_92 X _ h B (lv_sub hl [0] rfl)
  · refine lv_aload_n hx hb d_T_countLess_75 rfl (lv_at hl 0 rfl) ?_
    refine lv_aload_n hx hb d_T_countLess_76 rfl (lv_at hl 0 rfl) ?_
    refine t_get_slot X B d_T_countLess_77 ?_
    refine lv_iload_n hx hb d_T_countLess_80 rfl (lv_at hl 2 rfl) ?_
    refine lv_iconst (v := iI 1) hx hb d_T_countLess_81 rfl ?_
    refine i_isub X d_T_countLess_82 ?_
    refine t_ld_slot X B h d_T_countLess_83 (fun v83 h => ?_)
    refine lv_iload_n hx hb d_T_countLess_84 rfl (lv_at hl 1 rfl) ?_
    refine c_calli (ci := 0) (nL := 6) (As := [.int (iI v83), .int (iI x1)]) (rest := [.ref (gA 0)]) X hl.1 B (fun sz => c_T_scanBlock l D gA gC _ _ _ _ h sz) cw_T_T_scanBlock (by decide) rfl (Nat.le_of_ble_eq_true rfl) rfl rfl rfl ⟨Nat.zero_le _, Nat.zero_le _⟩ d_T_countLess_85 (fun r85 u85 H locs h B => ?_)
    refine lv_goto (tgt := 92) hx hb d_T_countLess_88 (by decide) ?_
    exact wkj_T_countLess_92 X _ h B (lv_sub hl [0] rfl)
set_option maxHeartbeats 4000000 in
set_option maxRecDepth 100000 in
theorem c_T_countLess (l : Launch) (D : va_G) (gA : Nat → Nat) (gC : Nat → ClassId) (u : TS) (x1 : Int) (post : Int → TS → Prop) (h1 : wm_T_countLess x1 u post) (sz : Nat) : Met l y_T_countLess (Cond.code y_T_countLess b_T_countLess 6 (some .int) :: tw_tbl) (rmD 2) (cPre D (T_ws gA gC u) (T_tys gC) sz [.ref (gA 0), .int (iI x1)]) (cPoI D (T_ws gA gC) (T_tys gC) post (va_A (T_ws gA gC u) sz)) 0 0 (va_A (T_ws gA gC u) sz) := by
  refine c_enter (own := R_T) (Qc := fun A => cPoI D (T_ws gA gC) (T_tys gC) post A) (by decide) rfl [.ref (gA 0), .int (iI x1)] (Nat.le_of_ble_eq_true rfl) (fun p e s m args below meth c A ls X B hl => ?_)
  have hl : lv_has ls 6 [(0, .ref (gA 0)), (1, .int (iI x1))] := hl
  obtain ⟨hx, hb, -⟩ := id X
  have h := h1
  rw [wm_T_countLess] at h
  refine lv_iconst (v := iI 0) hx hb d_T_countLess_0 rfl ?_
  refine lv_istore_n (lv' := [(2, .int (iI 0)), (0, .ref (gA 0)), (1, .int (iI x1))]) hx hb d_T_countLess_1 rfl hl (by decide) rfl (fun ls hl => ?_)
  refine lv_aload_n hx hb d_T_countLess_2 rfl (lv_at hl 1 rfl) ?_
  refine t_get_bl X B d_T_countLess_3 ?_
  refine lv_istore_n (lv' := [(3, .int (iI (tbl u))), (2, .int (iI 0)), (0, .ref (gA 0)), (1, .int (iI x1))]) hx hb d_T_countLess_6 rfl hl (by decide) rfl (fun ls hl => ?_)
  refine lv_iconst (v := iI 0) hx hb d_T_countLess_7 rfl ?_
  refine lv_istore (lv' := [(4, .int (iI 0)), (3, .int (iI (tbl u))), (2, .int (iI 0)), (0, .ref (gA 0)), (1, .int (iI x1))]) hx hb d_T_countLess_8 hl (by decide) rfl (fun ls hl => ?_)
  obtain ⟨n10, h⟩ := h
  refine wk_T_countLess_10 X _ _ (fun y55_2 u55 H locs ls h B hl => ?_) n10 _ _ _ _ _ _ _ h B (lv_sub hl [3, 4, 2, 1, 0] rfl)
  refine lv_aload_n hx hb d_T_countLess_55 rfl (lv_at hl 0 rfl) ?_
  refine lv_iload_n hx hb d_T_countLess_56 rfl (lv_at hl 2 rfl) ?_
  refine i_if_le (tgt := 66) X h d_T_countLess_57 (by decide) (fun h => ?_) (fun h => ?_)
  · refine lv_iconst (v := iI 0) hx hb d_T_countLess_66 rfl ?_
    exact wkj_T_countLess_67 X _ _ _ h B (lv_sub hl [0, 1, 2] rfl)
  · refine lv_iload_n hx hb d_T_countLess_60 rfl (lv_at hl 2 rfl) ?_
    refine lv_iconst (v := iI 1) hx hb d_T_countLess_61 rfl ?_
    refine i_isub X d_T_countLess_62 ?_
    refine lv_goto (tgt := 67) hx hb d_T_countLess_63 (by decide) ?_
    exact wkj_T_countLess_67 X _ _ _ h B (lv_sub hl [0, 1, 2] rfl)
set_option maxHeartbeats 4000000 in
set_option maxRecDepth 100000 in
theorem wkj_T_storeList_60 (X : cX R_T (T_tys gC) (none) A p s m args meth c D b_T_storeList 5) {post : TS → Prop} (x1 : Int) (x3 : Int) {u : TS} {H : Heap} {locs : List Loc} {ls : Array Slot} (h : wj_T_storeList_60 post x1 x3 u) (B : cB D A s H locs (T_ws gA gC u)) (hl : lv_has ls 5 [(0, .ref (gA 0)), (1, .int (iI x1)), (3, .int (iI x3))]) : W p l e (rmD 2) s m args below meth c H locs 0 0 (MQ below (cPoV D (T_ws gA gC) (T_tys gC) post A) args s 0 0 A) (F0 m 60 ls []) := by
  obtain ⟨hx, hb, -⟩ := id X
  rw [wj_T_storeList_60] at h
  refine lv_iload_n hx hb d_T_storeList_60 rfl (lv_at hl 2 rfl) ?_
  refine lv_iconst (v := iI 1) hx hb d_T_storeList_61 rfl ?_
  refine i_icmp_ne (tgt := 78) X h d_T_storeList_62 (by decide) (fun h => ?_) (fun h => ?_)
  · refine lv_iload_n hx hb d_T_storeList_78 rfl (lv_at hl 2 rfl) ?_
    refine lv_iconst (v := iI 2) hx hb d_T_storeList_79 rfl ?_
    refine i_icmp_ne (tgt := 114) X h d_T_storeList_80 (by decide) (fun h => ?_) (fun h => ?_)
    · exact c_retv X B h d_T_storeList_114
    · refine lv_aload_n hx hb d_T_storeList_83 rfl (lv_at hl 0 rfl) ?_
      refine t_get_li X B d_T_storeList_84 ?_
      refine lv_iconst (v := iI 1) hx hb d_T_storeList_87 rfl ?_
      refine i_iadd X d_T_storeList_88 ?_
      refine lv_iconst (v := iI 2) hx hb d_T_storeList_89 rfl ?_
      refine i_idiv2 X h.1 d_T_storeList_90 ?_
      have h := h.2
      refine lv_istore (lv' := [(4, .int (iI (((tli u) + 1) / 2))), (0, .ref (gA 0)), (1, .int (iI x1)), (3, .int (iI x3))]) hx hb d_T_storeList_91 hl (by decide) rfl (fun ls hl => ?_)
      refine lv_aload_n hx hb d_T_storeList_93 rfl (lv_at hl 1 rfl) ?_
      refine lv_iload_n hx hb d_T_storeList_94 rfl (lv_at hl 2 rfl) ?_
      refine lv_iconst (v := iI 0) hx hb d_T_storeList_95 rfl ?_
      refine lv_iload hx hb d_T_storeList_96 (lv_at hl 0 rfl) ?_
      refine c_callv (ci := 0) (nL := 5) (As := [.int (iI x1), .int (iI 0), .int (iI (((tli u) + 1) / 2))]) (rest := []) X hl.1 B (fun sz => c_T_pack l D gA gC _ _ _ _ _ h sz) cw_T_T_pack (by decide) rfl (Nat.le_of_ble_eq_true rfl) rfl rfl rfl ⟨Nat.zero_le _, Nat.zero_le _⟩ d_T_storeList_98 (fun u98 H locs h B => ?_)
      refine lv_aload_n hx hb d_T_storeList_101 rfl (lv_at hl 1 rfl) ?_
      refine lv_iload_n hx hb d_T_storeList_102 rfl (lv_at hl 2 rfl) ?_
      refine lv_iconst (v := iI 1) hx hb d_T_storeList_103 rfl ?_
      refine i_iadd X d_T_storeList_104 ?_
      refine lv_iload hx hb d_T_storeList_105 (lv_at hl 0 rfl) ?_
      refine lv_aload_n hx hb d_T_storeList_107 rfl (lv_at hl 1 rfl) ?_
      refine t_get_li X B d_T_storeList_108 ?_
      refine c_callv (ci := 0) (nL := 5) (As := [.int (iI (x1 + 1)), .int (iI (((tli u) + 1) / 2)), .int (iI (tli u98))]) (rest := []) X hl.1 B (fun sz => c_T_pack l D gA gC _ _ _ _ _ h sz) cw_T_T_pack (by decide) rfl (Nat.le_of_ble_eq_true rfl) rfl rfl rfl ⟨Nat.zero_le _, Nat.zero_le _⟩ d_T_storeList_111 (fun u111 H locs h B => ?_)
      exact c_retv X B h d_T_storeList_114
  · refine lv_aload_n hx hb d_T_storeList_65 rfl (lv_at hl 0 rfl) ?_
    refine lv_iload_n hx hb d_T_storeList_66 rfl (lv_at hl 1 rfl) ?_
    refine lv_iconst (v := iI 0) hx hb d_T_storeList_67 rfl ?_
    refine lv_aload_n hx hb d_T_storeList_68 rfl (lv_at hl 0 rfl) ?_
    refine t_get_li X B d_T_storeList_69 ?_
    refine c_callv (ci := 0) (nL := 5) (As := [.int (iI x1), .int (iI 0), .int (iI (tli u))]) (rest := []) X hl.1 B (fun sz => c_T_pack l D gA gC _ _ _ _ _ h sz) cw_T_T_pack (by decide) rfl (Nat.le_of_ble_eq_true rfl) rfl rfl rfl ⟨Nat.zero_le _, Nat.zero_le _⟩ d_T_storeList_72 (fun u72 H locs h B => ?_)
    refine lv_goto (tgt := 114) hx hb d_T_storeList_75 (by decide) ?_
    exact c_retv X B h d_T_storeList_114
set_option maxHeartbeats 4000000 in
set_option maxRecDepth 100000 in
theorem wkj_T_storeList_48 (X : cX R_T (T_tys gC) (none) A p s m args meth c D b_T_storeList 5) {post : TS → Prop} (x1 : Int) (x2 : Int) (x3 : Int) {u : TS} {H : Heap} {locs : List Loc} {ls : Array Slot} (h : wj_T_storeList_48 post x1 x2 x3 u) (B : cB D A s H locs (T_ws gA gC u)) (hl : lv_has ls 5 [(0, .ref (gA 0)), (1, .int (iI x1)), (2, .int (iI x2)), (3, .int (iI x3))]) : W p l e (rmD 2) s m args below meth c H locs 0 0 (MQ below (cPoV D (T_ws gA gC) (T_tys gC) post A) args s 0 0 A) (F0 m 48 ls []) := by
  obtain ⟨hx, hb, -⟩ := id X
  rw [wj_T_storeList_48] at h
  refine lv_iload_n hx hb d_T_storeList_48 rfl (lv_at hl 3 rfl) ?_
  refine lv_iload_n hx hb d_T_storeList_49 rfl (lv_at hl 2 rfl) ?_
  refine i_icmp_le (tgt := 60) X h d_T_storeList_50 (by decide) (fun h => ?_) (fun h => ?_)
  · exact wkj_T_storeList_60 X _ _ h B (lv_sub hl [0, 1, 3] rfl)
  · refine lv_aload_n hx hb d_T_storeList_53 rfl (lv_at hl 0 rfl) ?_
    refine lv_iload_n hx hb d_T_storeList_54 rfl (lv_at hl 1 rfl) ?_
    refine lv_iconst (v := iI 1) hx hb d_T_storeList_55 rfl ?_
    refine i_iadd X d_T_storeList_56 ?_
    refine c_callv (ci := 0) (nL := 5) (As := [.int (iI (x1 + 1))]) (rest := []) X hl.1 B (fun sz => c_T_openBlock l D gA gC _ _ _ h sz) cw_T_T_openBlock (by decide) rfl (Nat.le_of_ble_eq_true rfl) rfl rfl rfl ⟨Nat.zero_le _, Nat.zero_le _⟩ d_T_storeList_57 (fun u57 H locs h B => ?_)
    exact wkj_T_storeList_60 X _ _ h B (lv_sub hl [0, 1, 3] rfl)
set_option maxHeartbeats 4000000 in
set_option maxRecDepth 100000 in
theorem wkj_T_storeList_36 (X : cX R_T (T_tys gC) (none) A p s m args meth c D b_T_storeList 5) {post : TS → Prop} (x1 : Int) (x2 : Int) (x3 : Int) {u : TS} {H : Heap} {locs : List Loc} {ls : Array Slot} (h : wj_T_storeList_36 post x1 x2 x3 u) (B : cB D A s H locs (T_ws gA gC u)) (hl : lv_has ls 5 [(0, .ref (gA 0)), (1, .int (iI x1)), (2, .int (iI x2)), (3, .int (iI x3))]) : W p l e (rmD 2) s m args below meth c H locs 0 0 (MQ below (cPoV D (T_ws gA gC) (T_tys gC) post A) args s 0 0 A) (F0 m 36 ls []) := by
  obtain ⟨hx, hb, -⟩ := id X
  rw [wj_T_storeList_36] at h
  refine lv_iload_n hx hb d_T_storeList_36 rfl (lv_at hl 2 rfl) ?_
  refine lv_iconst (v := iI 1) hx hb d_T_storeList_37 rfl ?_
  refine i_isub X d_T_storeList_38 ?_
  refine lv_iload_n hx hb d_T_storeList_39 rfl (lv_at hl 3 rfl) ?_
  refine i_icmp_le (tgt := 48) X h d_T_storeList_40 (by decide) (fun h => ?_) (fun h => ?_)
  · exact wkj_T_storeList_48 X _ _ _ h B (lv_sub hl [0, 1, 2, 3] rfl)
  · refine lv_aload_n hx hb d_T_storeList_43 rfl (lv_at hl 0 rfl) ?_
    refine lv_iload_n hx hb d_T_storeList_44 rfl (lv_at hl 1 rfl) ?_
    refine c_callv (ci := 0) (nL := 5) (As := [.int (iI x1)]) (rest := []) X hl.1 B (fun sz => c_T_closeBlock l D gA gC _ _ _ h sz) cw_T_T_closeBlock (by decide) rfl (Nat.le_of_ble_eq_true rfl) rfl rfl rfl ⟨Nat.zero_le _, Nat.zero_le _⟩ d_T_storeList_45 (fun u45 H locs h B => ?_)
    exact wkj_T_storeList_48 X _ _ _ h B (lv_sub hl [0, 1, 2, 3] rfl)
set_option maxHeartbeats 4000000 in
set_option maxRecDepth 100000 in
theorem wkj_T_storeList_25 (X : cX R_T (T_tys gC) (none) A p s m args meth c D b_T_storeList 5) {post : TS → Prop} (x1 : Int) (x2 : Int) (z0 : Int) {u : TS} {H : Heap} {locs : List Loc} {ls : Array Slot} (h : wj_T_storeList_25 post x1 x2 z0 u) (B : cB D A s H locs (T_ws gA gC u)) (hl : lv_has ls 5 [(0, .ref (gA 0)), (1, .int (iI x1)), (2, .int (iI x2))]) : W p l e (rmD 2) s m args below meth c H locs 0 0 (MQ below (cPoV D (T_ws gA gC) (T_tys gC) post A) args s 0 0 A) (F0 m 25 ls [.int (iI z0)]) := by
  obtain ⟨hx, hb, -⟩ := id X
  rw [wj_T_storeList_25] at h
  refine lv_istore_n (lv' := [(3, .int (iI z0)), (0, .ref (gA 0)), (1, .int (iI x1)), (2, .int (iI x2))]) hx hb d_T_storeList_25 rfl hl (by decide) rfl (fun ls hl => ?_)
  refine lv_iload_n hx hb d_T_storeList_26 rfl (lv_at hl 3 rfl) ?_
  refine lv_iload_n hx hb d_T_storeList_27 rfl (lv_at hl 0 rfl) ?_
  refine i_icmp_le (tgt := 36) X h d_T_storeList_28 (by decide) (fun h => ?_) (fun h => ?_)
  · exact wkj_T_storeList_36 X _ _ _ h B (lv_sub hl [1, 2, 3, 0] rfl)
  · refine lv_aload_n hx hb d_T_storeList_31 rfl (lv_at hl 1 rfl) ?_
    refine lv_iload_n hx hb d_T_storeList_32 rfl (lv_at hl 2 rfl) ?_
    refine c_callv (ci := 0) (nL := 5) (As := [.int (iI x1)]) (rest := []) X hl.1 B (fun sz => c_T_closeBlock l D gA gC _ _ _ h sz) cw_T_T_closeBlock (by decide) rfl (Nat.le_of_ble_eq_true rfl) rfl rfl rfl ⟨Nat.zero_le _, Nat.zero_le _⟩ d_T_storeList_33 (fun u33 H locs h B => ?_)
    exact wkj_T_storeList_36 X _ _ _ h B (lv_sub hl [1, 2, 3, 0] rfl)
set_option maxHeartbeats 4000000 in
set_option maxRecDepth 100000 in
theorem c_T_storeList (l : Launch) (D : va_G) (gA : Nat → Nat) (gC : Nat → ClassId) (u : TS) (x1 : Int) (x2 : Int) (post : TS → Prop) (h1 : wm_T_storeList x1 x2 u post) (sz : Nat) : Met l y_T_storeList (Cond.code y_T_storeList b_T_storeList 5 (none) :: tw_tbl) (rmD 2) (cPre D (T_ws gA gC u) (T_tys gC) sz [.ref (gA 0), .int (iI x1), .int (iI x2)]) (cPoV D (T_ws gA gC) (T_tys gC) post (va_A (T_ws gA gC u) sz)) 0 0 (va_A (T_ws gA gC u) sz) := by
  refine c_enter (own := R_T) (Qc := fun A => cPoV D (T_ws gA gC) (T_tys gC) post A) (by decide) rfl [.ref (gA 0), .int (iI x1), .int (iI x2)] (Nat.le_of_ble_eq_true rfl) (fun p e s m args below meth c A ls X B hl => ?_)
  have hl : lv_has ls 5 [(0, .ref (gA 0)), (1, .int (iI x1)), (2, .int (iI x2))] := hl
  obtain ⟨hx, hb, -⟩ := id X
  have h := h1
  rw [wm_T_storeList] at h
  refine lv_aload_n hx hb d_T_storeList_0 rfl (lv_at hl 0 rfl) ?_
  refine t_get_li X B d_T_storeList_1 ?_
  refine i_if_ne (tgt := 11) X h d_T_storeList_4 (by decide) (fun h => ?_) (fun h => ?_)
  · refine lv_aload_n hx hb d_T_storeList_11 rfl (lv_at hl 0 rfl) ?_
    refine t_get_li X B d_T_storeList_12 ?_
    refine lv_bipush (v := iI 6) hx hb d_T_storeList_15 (by decide) ?_
    refine i_icmp_gt (tgt := 24) X h d_T_storeList_17 (by decide) (fun h => ?_) (fun h => ?_)
    · refine lv_iconst (v := iI 2) hx hb d_T_storeList_24 rfl ?_
      exact wkj_T_storeList_25 X _ _ _ h B (lv_sub hl [0, 1, 2] rfl)
    · refine lv_iconst (v := iI 1) hx hb d_T_storeList_20 rfl ?_
      refine lv_goto (tgt := 25) hx hb d_T_storeList_21 (by decide) ?_
      exact wkj_T_storeList_25 X _ _ _ h B (lv_sub hl [0, 1, 2] rfl)
  · refine lv_iconst (v := iI 0) hx hb d_T_storeList_7 rfl ?_
    refine lv_goto (tgt := 25) hx hb d_T_storeList_8 (by decide) ?_
    exact wkj_T_storeList_25 X _ _ _ h B (lv_sub hl [0, 1, 2] rfl)
end WalkT3
end
section
section WalkT4
variable {p : Program} {l : Launch} {e : Env} {s : State} {m : MethodId} {args : Array Value} {below : List Frame} {meth : Method} {c : Code} {D : va_G} {gA : Nat → Nat} {gC : Nat → ClassId} {A : Nat → Prop}
set_option maxHeartbeats 4000000 in
set_option maxRecDepth 100000 in
theorem c_T_before (l : Launch) (D : va_G) (gA : Nat → Nat) (gC : Nat → ClassId) (u : TS) (post : Int → TS → Prop) (h1 : wm_T_before u post) (sz : Nat) : Met l y_T_before (Cond.code y_T_before b_T_before 1 (some .int) :: tw_tbl) (rmD 3) (cPre D (T_ws gA gC u) (T_tys gC) sz [.ref (gA 0)]) (cPoI D (T_ws gA gC) (T_tys gC) post (va_A (T_ws gA gC u) sz)) 0 0 (va_A (T_ws gA gC u) sz) := by
  refine c_enter (own := R_T) (Qc := fun A => cPoI D (T_ws gA gC) (T_tys gC) post A) (by decide) rfl [.ref (gA 0)] (Nat.le_of_ble_eq_true rfl) (fun p e s m args below meth c A ls X B hl => ?_)
  have hl : lv_has ls 1 [(0, .ref (gA 0))] := hl
  obtain ⟨hx, hb, -⟩ := id X
  have h := h1
  rw [wm_T_before] at h
  refine lv_aload_n hx hb d_T_before_0 rfl (lv_at hl 0 rfl) ?_
  refine lv_iconst (v := iI 0) hx hb d_T_before_1 rfl ?_
  refine c_calli (ci := 0) (nL := 1) (As := [.int (iI 0)]) (rest := []) X hl.1 B (fun sz => c_T_countLess l D gA gC _ _ _ h sz) cw_T_T_countLess (by decide) rfl (Nat.le_of_ble_eq_true rfl) rfl rfl rfl ⟨Nat.zero_le _, Nat.zero_le _⟩ d_T_before_2 (fun r2 u2 H locs h B => ?_)
  exact c_reti X B h d_T_before_5
set_option maxHeartbeats 4000000 in
set_option maxRecDepth 100000 in
theorem c_T_held (l : Launch) (D : va_G) (gA : Nat → Nat) (gC : Nat → ClassId) (u : TS) (post : Int → TS → Prop) (h1 : wm_T_held u post) (sz : Nat) : Met l y_T_held (Cond.code y_T_held b_T_held 4 (some .boolean) :: tw_tbl) (rmD 3) (cPre D (T_ws gA gC u) (T_tys gC) sz [.ref (gA 0)]) (cPoI D (T_ws gA gC) (T_tys gC) post (va_A (T_ws gA gC u) sz)) 0 0 (va_A (T_ws gA gC u) sz) := by
  refine c_enter (own := R_T) (Qc := fun A => cPoI D (T_ws gA gC) (T_tys gC) post A) (by decide) rfl [.ref (gA 0)] (Nat.le_of_ble_eq_true rfl) (fun p e s m args below meth c A ls X B hl => ?_)
  have hl : lv_has ls 4 [(0, .ref (gA 0))] := hl
  obtain ⟨hx, hb, -⟩ := id X
  have h := h1
  rw [wm_T_held] at h
  refine lv_aload_n hx hb d_T_held_0 rfl (lv_at hl 0 rfl) ?_
  refine lv_iconst (v := iI 0) hx hb d_T_held_1 rfl ?_
  refine c_calli (ci := 0) (nL := 4) (As := [.int (iI 0)]) (rest := []) X hl.1 B (fun sz => c_T_countLess l D gA gC _ _ _ h sz) cw_T_T_countLess (by decide) rfl (Nat.le_of_ble_eq_true rfl) rfl rfl rfl ⟨Nat.zero_le _, Nat.zero_le _⟩ d_T_held_2 (fun r2 u2 H locs h B => ?_)
  refine lv_istore_n (lv' := [(1, .int (iI r2)), (0, .ref (gA 0))]) hx hb d_T_held_5 rfl hl (by decide) rfl (fun ls hl => ?_)
  refine lv_aload_n hx hb d_T_held_6 rfl (lv_at hl 1 rfl) ?_
  refine t_get_kl X B d_T_held_7 ?_
  refine i_if_eq (tgt := 21) X h d_T_held_10 (by decide) (fun h => ?_) (fun h => ?_)
  · refine lv_iconst (v := iI 0) hx hb d_T_held_21 rfl ?_
    exact c_retz X B h.1 h.2 d_T_held_22
  · refine lv_iload_n hx hb d_T_held_13 rfl (lv_at hl 0 rfl) ?_
    refine lv_aload_n hx hb d_T_held_14 rfl (lv_at hl 1 rfl) ?_
    refine t_get_tot X B d_T_held_15 ?_
    refine i_icmp_lt (tgt := 23) X h d_T_held_18 (by decide) (fun h => ?_) (fun h => ?_)
    · refine lv_aload_n hx hb d_T_held_23 rfl (lv_at hl 1 rfl) ?_
      refine lv_iload_n hx hb d_T_held_24 rfl (lv_at hl 0 rfl) ?_
      refine c_calli (ci := 0) (nL := 4) (As := [.int (iI r2)]) (rest := []) X hl.1 B (fun sz => c_T_blockOfRank l D gA gC _ _ _ h sz) cw_T_T_blockOfRank (by decide) rfl (Nat.le_of_ble_eq_true rfl) rfl rfl rfl ⟨Nat.zero_le _, Nat.zero_le _⟩ d_T_held_25 (fun r25 u25 H locs h B => ?_)
      refine lv_istore_n (lv' := [(2, .int (iI r25)), (1, .int (iI r2)), (0, .ref (gA 0))]) hx hb d_T_held_28 rfl hl (by decide) rfl (fun ls hl => ?_)
      refine lv_aload_n hx hb d_T_held_29 rfl (lv_at hl 2 rfl) ?_
      refine lv_iconst (v := iI 0) hx hb d_T_held_30 rfl ?_
      refine t_put_li X B h d_T_held_31 (fun u31 H locs h B => ?_)
      refine lv_aload_n hx hb d_T_held_34 rfl (lv_at hl 2 rfl) ?_
      refine lv_iload_n hx hb d_T_held_35 rfl (lv_at hl 0 rfl) ?_
      refine c_callv (ci := 0) (nL := 4) (As := [.int (iI r25)]) (rest := []) X hl.1 B (fun sz => c_T_unpack l D gA gC _ _ _ h sz) cw_T_T_unpack (by decide) rfl (Nat.le_of_ble_eq_true rfl) rfl rfl rfl ⟨Nat.zero_le _, Nat.zero_le _⟩ d_T_held_36 (fun u36 H locs h B => ?_)
      refine lv_iload_n hx hb d_T_held_39 rfl (lv_at hl 1 rfl) ?_
      refine lv_aload_n hx hb d_T_held_40 rfl (lv_at hl 2 rfl) ?_
      refine lv_iload_n hx hb d_T_held_41 rfl (lv_at hl 0 rfl) ?_
      refine c_calli (ci := 0) (nL := 4) (As := [.int (iI r25)]) (rest := [.int (iI r2)]) X hl.1 B (fun sz => c_T_termsBefore l D gA gC _ _ _ h sz) cw_T_T_termsBefore (by decide) rfl (Nat.le_of_ble_eq_true rfl) rfl rfl rfl ⟨Nat.zero_le _, Nat.zero_le _⟩ d_T_held_42 (fun r42 u42 H locs h B => ?_)
      refine i_isub X d_T_held_45 ?_
      refine lv_istore_n (lv' := [(3, .int (iI (r2 - r42))), (2, .int (iI r25)), (1, .int (iI r2)), (0, .ref (gA 0))]) hx hb d_T_held_46 rfl hl (by decide) rfl (fun ls hl => ?_)
      refine lv_aload_n hx hb d_T_held_47 rfl (lv_at hl 3 rfl) ?_
      refine t_get_len X B d_T_held_48 ?_
      refine lv_iload_n hx hb d_T_held_51 rfl (lv_at hl 0 rfl) ?_
      refine t_ld_len X B h d_T_held_52 (fun v52 h => ?_)
      refine lv_aload_n hx hb d_T_held_53 rfl (lv_at hl 3 rfl) ?_
      refine t_get_kl X B d_T_held_54 ?_
      refine i_icmp_ne (tgt := 76) X h d_T_held_57 (by decide) (fun h => ?_) (fun h => ?_)
      · refine lv_iconst (v := iI 0) hx hb d_T_held_76 rfl ?_
        exact c_retz X B h.1 h.2 d_T_held_77
      · refine lv_aload_n hx hb d_T_held_60 rfl (lv_at hl 3 rfl) ?_
        refine lv_iload_n hx hb d_T_held_61 rfl (lv_at hl 0 rfl) ?_
        refine c_calli (ci := 0) (nL := 4) (As := [.int (iI (r2 - r42))]) (rest := []) X hl.1 B (fun sz => c_T_sharedWithKey l D gA gC _ _ _ h sz) cw_T_T_sharedWithKey (by decide) rfl (Nat.le_of_ble_eq_true rfl) rfl rfl rfl ⟨Nat.zero_le _, Nat.zero_le _⟩ d_T_held_62 (fun r62 u62 H locs h B => ?_)
        refine lv_aload_n hx hb d_T_held_65 rfl (lv_at hl 3 rfl) ?_
        refine t_get_kl X B d_T_held_66 ?_
        refine i_icmp_ne (tgt := 76) X h d_T_held_69 (by decide) (fun h => ?_) (fun h => ?_)
        · refine lv_iconst (v := iI 0) hx hb d_T_held_76 rfl ?_
          exact c_retz X B h.1 h.2 d_T_held_77
        · refine lv_iconst (v := iI 1) hx hb d_T_held_72 rfl ?_
          refine lv_goto (tgt := 77) hx hb d_T_held_73 (by decide) ?_
          exact c_retz X B h.1 h.2 d_T_held_77
    · refine lv_iconst (v := iI 0) hx hb d_T_held_21 rfl ?_
      exact c_retz X B h.1 h.2 d_T_held_22
set_option maxHeartbeats 4000000 in
set_option maxRecDepth 100000 in
theorem c_T_beginning (l : Launch) (D : va_G) (gA : Nat → Nat) (gC : Nat → ClassId) (u : TS) (post : Int → TS → Prop) (h1 : wm_T_beginning u post) (sz : Nat) : Met l y_T_beginning (Cond.code y_T_beginning b_T_beginning 1 (some .int) :: tw_tbl) (rmD 3) (cPre D (T_ws gA gC u) (T_tys gC) sz [.ref (gA 0)]) (cPoI D (T_ws gA gC) (T_tys gC) post (va_A (T_ws gA gC u) sz)) 0 0 (va_A (T_ws gA gC u) sz) := by
  refine c_enter (own := R_T) (Qc := fun A => cPoI D (T_ws gA gC) (T_tys gC) post A) (by decide) rfl [.ref (gA 0)] (Nat.le_of_ble_eq_true rfl) (fun p e s m args below meth c A ls X B hl => ?_)
  have hl : lv_has ls 1 [(0, .ref (gA 0))] := hl
  obtain ⟨hx, hb, -⟩ := id X
  have h := h1
  rw [wm_T_beginning] at h
  refine lv_aload_n hx hb d_T_beginning_0 rfl (lv_at hl 0 rfl) ?_
  refine lv_iconst (v := iI 1) hx hb d_T_beginning_1 rfl ?_
  refine c_calli (ci := 0) (nL := 1) (As := [.int (iI 1)]) (rest := []) X hl.1 B (fun sz => c_T_countLess l D gA gC _ _ _ h sz) cw_T_T_countLess (by decide) rfl (Nat.le_of_ble_eq_true rfl) rfl rfl rfl ⟨Nat.zero_le _, Nat.zero_le _⟩ d_T_beginning_2 (fun r2 u2 H locs h B => ?_)
  refine lv_aload_n hx hb d_T_beginning_5 rfl (lv_at hl 0 rfl) ?_
  refine lv_iconst (v := iI 0) hx hb d_T_beginning_6 rfl ?_
  refine c_calli (ci := 0) (nL := 1) (As := [.int (iI 0)]) (rest := [.int (iI r2)]) X hl.1 B (fun sz => c_T_countLess l D gA gC _ _ _ h sz) cw_T_T_countLess (by decide) rfl (Nat.le_of_ble_eq_true rfl) rfl rfl rfl ⟨Nat.zero_le _, Nat.zero_le _⟩ d_T_beginning_7 (fun r7 u7 H locs h B => ?_)
  refine i_isub X d_T_beginning_10 ?_
  exact c_reti X B h d_T_beginning_11
set_option maxHeartbeats 4000000 in
set_option maxRecDepth 100000 in
theorem wkj_T_common_48 (X : cX R_T (T_tys gC) (some .int) A p s m args meth c D b_T_common 4) {post : Int → TS → Prop} (x2 : Int) (z0 : Int) {u : TS} {H : Heap} {locs : List Loc} {ls : Array Slot} (h : wj_T_common_48 post x2 z0 u) (B : cB D A s H locs (T_ws gA gC u)) (hl : lv_has ls 4 [(0, .ref (gA 0)), (2, .int (iI x2))]) : W p l e (rmD 3) s m args below meth c H locs 0 0 (MQ below (cPoI D (T_ws gA gC) (T_tys gC) post A) args s 0 0 A) (F0 m 48 ls [.int (iI z0)]) := by
  obtain ⟨hx, hb, -⟩ := id X
  rw [wj_T_common_48] at h
  refine lv_istore_n (lv' := [(3, .int (iI z0)), (0, .ref (gA 0)), (2, .int (iI x2))]) hx hb d_T_common_48 rfl hl (by decide) rfl (fun ls hl => ?_)
  refine lv_iload_n hx hb d_T_common_49 rfl (lv_at hl 2 rfl) ?_
  refine lv_iload_n hx hb d_T_common_50 rfl (lv_at hl 0 rfl) ?_
  refine i_icmp_le (tgt := 58) X h d_T_common_51 (by decide) (fun h => ?_) (fun h => ?_)
  · refine lv_iload_n hx hb d_T_common_58 rfl (lv_at hl 0 rfl) ?_
    exact c_reti X B h d_T_common_59
  · refine lv_iload_n hx hb d_T_common_54 rfl (lv_at hl 2 rfl) ?_
    refine lv_goto (tgt := 59) hx hb d_T_common_55 (by decide) ?_
    exact c_reti X B h d_T_common_59
set_option maxHeartbeats 4000000 in
set_option maxRecDepth 100000 in
theorem wkj_T_common_30 (X : cX R_T (T_tys gC) (some .int) A p s m args meth c D b_T_common 4) {post : Int → TS → Prop} (x1 : Int) (z0 : Int) {u : TS} {H : Heap} {locs : List Loc} {ls : Array Slot} (h : wj_T_common_30 post x1 z0 u) (B : cB D A s H locs (T_ws gA gC u)) (hl : lv_has ls 4 [(0, .ref (gA 0)), (1, .int (iI x1))]) : W p l e (rmD 3) s m args below meth c H locs 0 0 (MQ below (cPoI D (T_ws gA gC) (T_tys gC) post A) args s 0 0 A) (F0 m 30 ls [.int (iI z0)]) := by
  obtain ⟨hx, hb, -⟩ := id X
  rw [wj_T_common_30] at h
  refine lv_istore_n (lv' := [(2, .int (iI z0)), (0, .ref (gA 0)), (1, .int (iI x1))]) hx hb d_T_common_30 rfl hl (by decide) rfl (fun ls hl => ?_)
  refine lv_iload_n hx hb d_T_common_31 rfl (lv_at hl 2 rfl) ?_
  refine lv_aload_n hx hb d_T_common_32 rfl (lv_at hl 1 rfl) ?_
  refine t_get_tot X B d_T_common_33 ?_
  refine i_icmp_ge (tgt := 47) X h d_T_common_36 (by decide) (fun h => ?_) (fun h => ?_)
  · refine lv_iconst (v := iI 0) hx hb d_T_common_47 rfl ?_
    exact wkj_T_common_48 X _ _ h B (lv_sub hl [1, 0] rfl)
  · refine lv_aload_n hx hb d_T_common_39 rfl (lv_at hl 1 rfl) ?_
    refine lv_iload_n hx hb d_T_common_40 rfl (lv_at hl 2 rfl) ?_
    refine c_calli (ci := 0) (nL := 4) (As := [.int (iI x1)]) (rest := []) X hl.1 B (fun sz => c_T_sharedAtRank l D gA gC _ _ _ h sz) cw_T_T_sharedAtRank (by decide) rfl (Nat.le_of_ble_eq_true rfl) rfl rfl rfl ⟨Nat.zero_le _, Nat.zero_le _⟩ d_T_common_41 (fun r41 u41 H locs h B => ?_)
    refine lv_goto (tgt := 48) hx hb d_T_common_44 (by decide) ?_
    exact wkj_T_common_48 X _ _ h B (lv_sub hl [1, 0] rfl)
set_option maxHeartbeats 4000000 in
set_option maxRecDepth 100000 in
theorem c_T_common (l : Launch) (D : va_G) (gA : Nat → Nat) (gC : Nat → ClassId) (u : TS) (post : Int → TS → Prop) (h1 : wm_T_common u post) (sz : Nat) : Met l y_T_common (Cond.code y_T_common b_T_common 4 (some .int) :: tw_tbl) (rmD 3) (cPre D (T_ws gA gC u) (T_tys gC) sz [.ref (gA 0)]) (cPoI D (T_ws gA gC) (T_tys gC) post (va_A (T_ws gA gC u) sz)) 0 0 (va_A (T_ws gA gC u) sz) := by
  refine c_enter (own := R_T) (Qc := fun A => cPoI D (T_ws gA gC) (T_tys gC) post A) (by decide) rfl [.ref (gA 0)] (Nat.le_of_ble_eq_true rfl) (fun p e s m args below meth c A ls X B hl => ?_)
  have hl : lv_has ls 4 [(0, .ref (gA 0))] := hl
  obtain ⟨hx, hb, -⟩ := id X
  have h := h1
  rw [wm_T_common] at h
  refine lv_aload_n hx hb d_T_common_0 rfl (lv_at hl 0 rfl) ?_
  refine t_get_tot X B d_T_common_1 ?_
  refine i_if_ne (tgt := 9) X h d_T_common_4 (by decide) (fun h => ?_) (fun h => ?_)
  · refine lv_aload_n hx hb d_T_common_9 rfl (lv_at hl 0 rfl) ?_
    refine lv_iconst (v := iI 0) hx hb d_T_common_10 rfl ?_
    refine c_calli (ci := 0) (nL := 4) (As := [.int (iI 0)]) (rest := []) X hl.1 B (fun sz => c_T_countLess l D gA gC _ _ _ h sz) cw_T_T_countLess (by decide) rfl (Nat.le_of_ble_eq_true rfl) rfl rfl rfl ⟨Nat.zero_le _, Nat.zero_le _⟩ d_T_common_11 (fun r11 u11 H locs h B => ?_)
    refine lv_istore_n (lv' := [(1, .int (iI r11)), (0, .ref (gA 0))]) hx hb d_T_common_14 rfl hl (by decide) rfl (fun ls hl => ?_)
    refine lv_iload_n hx hb d_T_common_15 rfl (lv_at hl 0 rfl) ?_
    refine i_if_le (tgt := 29) X h d_T_common_16 (by decide) (fun h => ?_) (fun h => ?_)
    · refine lv_iconst (v := iI 0) hx hb d_T_common_29 rfl ?_
      exact wkj_T_common_30 X _ _ h B (lv_sub hl [1, 0] rfl)
    · refine lv_aload_n hx hb d_T_common_19 rfl (lv_at hl 1 rfl) ?_
      refine lv_iload_n hx hb d_T_common_20 rfl (lv_at hl 0 rfl) ?_
      refine lv_iconst (v := iI 1) hx hb d_T_common_21 rfl ?_
      refine i_isub X d_T_common_22 ?_
      refine c_calli (ci := 0) (nL := 4) (As := [.int (iI (r11 - 1))]) (rest := []) X hl.1 B (fun sz => c_T_sharedAtRank l D gA gC _ _ _ h sz) cw_T_T_sharedAtRank (by decide) rfl (Nat.le_of_ble_eq_true rfl) rfl rfl rfl ⟨Nat.zero_le _, Nat.zero_le _⟩ d_T_common_23 (fun r23 u23 H locs h B => ?_)
      refine lv_goto (tgt := 30) hx hb d_T_common_26 (by decide) ?_
      exact wkj_T_common_30 X _ _ h B (lv_sub hl [1, 0] rfl)
  · refine lv_iconst (v := iI (-1)) hx hb d_T_common_7 rfl ?_
    exact c_reti X B h d_T_common_8
set_option maxHeartbeats 4000000 in
set_option maxRecDepth 100000 in
theorem wkj_T_insert_53 (X : cX R_T (T_tys gC) (some .int) A p s m args meth c D b_T_insert 2) {post : Int → TS → Prop} (x1 : Int) {u : TS} {H : Heap} {locs : List Loc} {ls : Array Slot} (h : wj_T_insert_53 post x1 u) (B : cB D A s H locs (T_ws gA gC u)) (hl : lv_has ls 2 [(0, .ref (gA 0)), (1, .int (iI x1))]) : W p l e (rmD 4) s m args below meth c H locs 0 0 (MQ below (cPoI D (T_ws gA gC) (T_tys gC) post A) args s 0 0 A) (F0 m 53 ls []) := by
  obtain ⟨hx, hb, -⟩ := id X
  rw [wj_T_insert_53] at h
  refine lv_aload_n hx hb d_T_insert_53 rfl (lv_at hl 0 rfl) ?_
  refine lv_iconst (v := iI 0) hx hb d_T_insert_54 rfl ?_
  refine t_put_li X B h d_T_insert_55 (fun u55 H locs h B => ?_)
  refine lv_aload_n hx hb d_T_insert_58 rfl (lv_at hl 0 rfl) ?_
  refine lv_aload_n hx hb d_T_insert_59 rfl (lv_at hl 0 rfl) ?_
  refine t_get_fb X B d_T_insert_60 ?_
  refine c_callv (ci := 0) (nL := 2) (As := [.int (iI (tfb u55))]) (rest := []) X hl.1 B (fun sz => c_T_unpack l D gA gC _ _ _ h sz) cw_T_T_unpack (by decide) rfl (Nat.le_of_ble_eq_true rfl) rfl rfl rfl ⟨Nat.zero_le _, Nat.zero_le _⟩ d_T_insert_63 (fun u63 H locs h B => ?_)
  refine lv_aload_n hx hb d_T_insert_66 rfl (lv_at hl 0 rfl) ?_
  refine lv_aload_n hx hb d_T_insert_67 rfl (lv_at hl 0 rfl) ?_
  refine t_get_fi X B d_T_insert_68 ?_
  refine c_callv (ci := 0) (nL := 2) (As := [.int (iI (tfi u63))]) (rest := []) X hl.1 B (fun sz => c_T_putKeyInList l D gA gC _ _ _ h sz) cw_T_T_putKeyInList (by decide) rfl (Nat.le_of_ble_eq_true rfl) rfl rfl rfl ⟨Nat.zero_le _, Nat.zero_le _⟩ d_T_insert_71 (fun u71 H locs h B => ?_)
  refine lv_aload_n hx hb d_T_insert_74 rfl (lv_at hl 0 rfl) ?_
  refine lv_aload_n hx hb d_T_insert_75 rfl (lv_at hl 0 rfl) ?_
  refine t_get_fb X B d_T_insert_76 ?_
  refine lv_iconst (v := iI 1) hx hb d_T_insert_79 rfl ?_
  refine c_callv (ci := 0) (nL := 2) (As := [.int (iI (tfb u71)), .int (iI 1)]) (rest := []) X hl.1 B (fun sz => c_T_storeList l D gA gC _ _ _ _ h sz) cw_T_T_storeList (by decide) rfl (Nat.le_of_ble_eq_true rfl) rfl rfl rfl ⟨Nat.zero_le _, Nat.zero_le _⟩ d_T_insert_80 (fun u80 H locs h B => ?_)
  refine lv_aload_n hx hb d_T_insert_83 rfl (lv_at hl 0 rfl) ?_
  refine lv_dup hx hb d_T_insert_84 rfl ?_
  refine t_get_tot X B d_T_insert_85 ?_
  refine lv_iconst (v := iI 1) hx hb d_T_insert_88 rfl ?_
  refine i_iadd X d_T_insert_89 ?_
  refine t_put_tot X B h d_T_insert_90 (fun u90 H locs h B => ?_)
  refine lv_iload_n hx hb d_T_insert_93 rfl (lv_at hl 1 rfl) ?_
  exact c_reti X B h d_T_insert_94
set_option maxHeartbeats 4000000 in
set_option maxRecDepth 100000 in
theorem c_T_insert (l : Launch) (D : va_G) (gA : Nat → Nat) (gC : Nat → ClassId) (u : TS) (post : Int → TS → Prop) (h1 : wm_T_insert u post) (sz : Nat) : Met l y_T_insert (Cond.code y_T_insert b_T_insert 2 (some .int) :: tw_tbl) (rmD 4) (cPre D (T_ws gA gC u) (T_tys gC) sz [.ref (gA 0)]) (cPoI D (T_ws gA gC) (T_tys gC) post (va_A (T_ws gA gC u) sz)) 0 0 (va_A (T_ws gA gC u) sz) := by
  refine c_enter (own := R_T) (Qc := fun A => cPoI D (T_ws gA gC) (T_tys gC) post A) (by decide) rfl [.ref (gA 0)] (Nat.le_of_ble_eq_true rfl) (fun p e s m args below meth c A ls X B hl => ?_)
  have hl : lv_has ls 2 [(0, .ref (gA 0))] := hl
  obtain ⟨hx, hb, -⟩ := id X
  have h := h1
  rw [wm_T_insert] at h
  refine lv_aload_n hx hb d_T_insert_0 rfl (lv_at hl 0 rfl) ?_
  refine t_get_kl X B d_T_insert_1 ?_
  refine i_if_eq (tgt := 23) X h d_T_insert_4 (by decide) (fun h => ?_) (fun h => ?_)
  · refine lv_iconst (v := iI (-1)) hx hb d_T_insert_23 rfl ?_
    exact c_reti X B h d_T_insert_24
  · refine lv_aload_n hx hb d_T_insert_7 rfl (lv_at hl 0 rfl) ?_
    refine t_get_tot X B d_T_insert_8 ?_
    refine lv_bipush (v := iI 40) hx hb d_T_insert_11 (by decide) ?_
    refine i_icmp_ge (tgt := 23) X h d_T_insert_13 (by decide) (fun h => ?_) (fun h => ?_)
    · refine lv_iconst (v := iI (-1)) hx hb d_T_insert_23 rfl ?_
      exact c_reti X B h d_T_insert_24
    · refine lv_aload_n hx hb d_T_insert_16 rfl (lv_at hl 0 rfl) ?_
      refine c_calli (ci := 0) (nL := 2) (As := []) (rest := []) X hl.1 B (fun sz => c_T_held l D gA gC _ _ h sz) cw_T_T_held (by decide) rfl (Nat.le_of_ble_eq_true rfl) rfl rfl rfl ⟨Nat.zero_le _, Nat.zero_le _⟩ d_T_insert_17 (fun r17 u17 H locs h B => ?_)
      refine i_if_eq (tgt := 25) X h d_T_insert_20 (by decide) (fun h => ?_) (fun h => ?_)
      · refine lv_aload_n hx hb d_T_insert_25 rfl (lv_at hl 0 rfl) ?_
        refine lv_iconst (v := iI 0) hx hb d_T_insert_26 rfl ?_
        refine c_calli (ci := 0) (nL := 2) (As := [.int (iI 0)]) (rest := []) X hl.1 B (fun sz => c_T_countLess l D gA gC _ _ _ h sz) cw_T_T_countLess (by decide) rfl (Nat.le_of_ble_eq_true rfl) rfl rfl rfl ⟨Nat.zero_le _, Nat.zero_le _⟩ d_T_insert_27 (fun r27 u27 H locs h B => ?_)
        refine lv_istore_n (lv' := [(1, .int (iI r27)), (0, .ref (gA 0))]) hx hb d_T_insert_30 rfl hl (by decide) rfl (fun ls hl => ?_)
        refine lv_aload_n hx hb d_T_insert_31 rfl (lv_at hl 1 rfl) ?_
        refine t_get_bl X B d_T_insert_32 ?_
        refine i_if_ne (tgt := 53) X h d_T_insert_35 (by decide) (fun h => ?_) (fun h => ?_)
        · exact wkj_T_insert_53 X _ h B (lv_sub hl [1, 0] rfl)
        · refine lv_aload_n hx hb d_T_insert_38 rfl (lv_at hl 1 rfl) ?_
          refine lv_iconst (v := iI 0) hx hb d_T_insert_39 rfl ?_
          refine c_callv (ci := 0) (nL := 2) (As := [.int (iI 0)]) (rest := []) X hl.1 B (fun sz => c_T_openBlock l D gA gC _ _ _ h sz) cw_T_T_openBlock (by decide) rfl (Nat.le_of_ble_eq_true rfl) rfl rfl rfl ⟨Nat.zero_le _, Nat.zero_le _⟩ d_T_insert_40 (fun u40 H locs h B => ?_)
          refine lv_aload_n hx hb d_T_insert_43 rfl (lv_at hl 1 rfl) ?_
          refine lv_iconst (v := iI 0) hx hb d_T_insert_44 rfl ?_
          refine t_put_fb X B h d_T_insert_45 (fun u45 H locs h B => ?_)
          refine lv_aload_n hx hb d_T_insert_48 rfl (lv_at hl 1 rfl) ?_
          refine lv_iconst (v := iI 0) hx hb d_T_insert_49 rfl ?_
          refine t_put_fi X B h d_T_insert_50 (fun u50 H locs h B => ?_)
          exact wkj_T_insert_53 X _ h B (lv_sub hl [1, 0] rfl)
      · refine lv_iconst (v := iI (-1)) hx hb d_T_insert_23 rfl ?_
        exact c_reti X B h d_T_insert_24
set_option maxHeartbeats 4000000 in
set_option maxRecDepth 100000 in
theorem c_T_delete (l : Launch) (D : va_G) (gA : Nat → Nat) (gC : Nat → ClassId) (u : TS) (post : Int → TS → Prop) (h1 : wm_T_delete u post) (sz : Nat) : Met l y_T_delete (Cond.code y_T_delete b_T_delete 4 (some .int) :: tw_tbl) (rmD 4) (cPre D (T_ws gA gC u) (T_tys gC) sz [.ref (gA 0)]) (cPoI D (T_ws gA gC) (T_tys gC) post (va_A (T_ws gA gC u) sz)) 0 0 (va_A (T_ws gA gC u) sz) := by
  refine c_enter (own := R_T) (Qc := fun A => cPoI D (T_ws gA gC) (T_tys gC) post A) (by decide) rfl [.ref (gA 0)] (Nat.le_of_ble_eq_true rfl) (fun p e s m args below meth c A ls X B hl => ?_)
  have hl : lv_has ls 4 [(0, .ref (gA 0))] := hl
  obtain ⟨hx, hb, -⟩ := id X
  have h := h1
  rw [wm_T_delete] at h
  refine lv_aload_n hx hb d_T_delete_0 rfl (lv_at hl 0 rfl) ?_
  refine c_calli (ci := 0) (nL := 4) (As := []) (rest := []) X hl.1 B (fun sz => c_T_held l D gA gC _ _ h sz) cw_T_T_held (by decide) rfl (Nat.le_of_ble_eq_true rfl) rfl rfl rfl ⟨Nat.zero_le _, Nat.zero_le _⟩ d_T_delete_1 (fun r1 u1 H locs h B => ?_)
  refine i_if_ne (tgt := 9) X h d_T_delete_4 (by decide) (fun h => ?_) (fun h => ?_)
  · refine lv_aload_n hx hb d_T_delete_9 rfl (lv_at hl 0 rfl) ?_
    refine lv_iconst (v := iI 0) hx hb d_T_delete_10 rfl ?_
    refine c_calli (ci := 0) (nL := 4) (As := [.int (iI 0)]) (rest := []) X hl.1 B (fun sz => c_T_countLess l D gA gC _ _ _ h sz) cw_T_T_countLess (by decide) rfl (Nat.le_of_ble_eq_true rfl) rfl rfl rfl ⟨Nat.zero_le _, Nat.zero_le _⟩ d_T_delete_11 (fun r11 u11 H locs h B => ?_)
    refine lv_istore_n (lv' := [(1, .int (iI r11)), (0, .ref (gA 0))]) hx hb d_T_delete_14 rfl hl (by decide) rfl (fun ls hl => ?_)
    refine lv_aload_n hx hb d_T_delete_15 rfl (lv_at hl 1 rfl) ?_
    refine lv_iload_n hx hb d_T_delete_16 rfl (lv_at hl 0 rfl) ?_
    refine c_calli (ci := 0) (nL := 4) (As := [.int (iI r11)]) (rest := []) X hl.1 B (fun sz => c_T_blockOfRank l D gA gC _ _ _ h sz) cw_T_T_blockOfRank (by decide) rfl (Nat.le_of_ble_eq_true rfl) rfl rfl rfl ⟨Nat.zero_le _, Nat.zero_le _⟩ d_T_delete_17 (fun r17 u17 H locs h B => ?_)
    refine lv_istore_n (lv' := [(2, .int (iI r17)), (1, .int (iI r11)), (0, .ref (gA 0))]) hx hb d_T_delete_20 rfl hl (by decide) rfl (fun ls hl => ?_)
    refine lv_aload_n hx hb d_T_delete_21 rfl (lv_at hl 2 rfl) ?_
    refine lv_iconst (v := iI 0) hx hb d_T_delete_22 rfl ?_
    refine t_put_li X B h d_T_delete_23 (fun u23 H locs h B => ?_)
    refine lv_aload_n hx hb d_T_delete_26 rfl (lv_at hl 2 rfl) ?_
    refine lv_iload_n hx hb d_T_delete_27 rfl (lv_at hl 0 rfl) ?_
    refine c_callv (ci := 0) (nL := 4) (As := [.int (iI r17)]) (rest := []) X hl.1 B (fun sz => c_T_unpack l D gA gC _ _ _ h sz) cw_T_T_unpack (by decide) rfl (Nat.le_of_ble_eq_true rfl) rfl rfl rfl ⟨Nat.zero_le _, Nat.zero_le _⟩ d_T_delete_28 (fun u28 H locs h B => ?_)
    refine lv_iload_n hx hb d_T_delete_31 rfl (lv_at hl 1 rfl) ?_
    refine lv_aload_n hx hb d_T_delete_32 rfl (lv_at hl 2 rfl) ?_
    refine lv_iload_n hx hb d_T_delete_33 rfl (lv_at hl 0 rfl) ?_
    refine c_calli (ci := 0) (nL := 4) (As := [.int (iI r17)]) (rest := [.int (iI r11)]) X hl.1 B (fun sz => c_T_termsBefore l D gA gC _ _ _ h sz) cw_T_T_termsBefore (by decide) rfl (Nat.le_of_ble_eq_true rfl) rfl rfl rfl ⟨Nat.zero_le _, Nat.zero_le _⟩ d_T_delete_34 (fun r34 u34 H locs h B => ?_)
    refine i_isub X d_T_delete_37 ?_
    refine lv_istore_n (lv' := [(3, .int (iI (r11 - r34))), (2, .int (iI r17)), (1, .int (iI r11)), (0, .ref (gA 0))]) hx hb d_T_delete_38 rfl hl (by decide) rfl (fun ls hl => ?_)
    refine lv_aload_n hx hb d_T_delete_39 rfl (lv_at hl 3 rfl) ?_
    refine lv_iload_n hx hb d_T_delete_40 rfl (lv_at hl 0 rfl) ?_
    refine c_callv (ci := 0) (nL := 4) (As := [.int (iI (r11 - r34))]) (rest := []) X hl.1 B (fun sz => c_T_takeFromList l D gA gC _ _ _ h sz) cw_T_T_takeFromList (by decide) rfl (Nat.le_of_ble_eq_true rfl) rfl rfl rfl ⟨Nat.zero_le _, Nat.zero_le _⟩ d_T_delete_41 (fun u41 H locs h B => ?_)
    refine lv_aload_n hx hb d_T_delete_44 rfl (lv_at hl 3 rfl) ?_
    refine lv_dup hx hb d_T_delete_45 rfl ?_
    refine t_get_tot X B d_T_delete_46 ?_
    refine lv_iconst (v := iI 1) hx hb d_T_delete_49 rfl ?_
    refine i_isub X d_T_delete_50 ?_
    refine t_put_tot X B h d_T_delete_51 (fun u51 H locs h B => ?_)
    refine lv_aload_n hx hb d_T_delete_54 rfl (lv_at hl 3 rfl) ?_
    refine t_get_li X B d_T_delete_55 ?_
    refine lv_iconst (v := iI 3) hx hb d_T_delete_58 rfl ?_
    refine i_icmp_ge (tgt := 70) X h d_T_delete_59 (by decide) (fun h => ?_) (fun h => ?_)
    · refine lv_aload_n hx hb d_T_delete_70 rfl (lv_at hl 3 rfl) ?_
      refine lv_iload_n hx hb d_T_delete_71 rfl (lv_at hl 1 rfl) ?_
      refine lv_iconst (v := iI 1) hx hb d_T_delete_72 rfl ?_
      refine c_callv (ci := 0) (nL := 4) (As := [.int (iI r17), .int (iI 1)]) (rest := []) X hl.1 B (fun sz => c_T_storeList l D gA gC _ _ _ _ h sz) cw_T_T_storeList (by decide) rfl (Nat.le_of_ble_eq_true rfl) rfl rfl rfl ⟨Nat.zero_le _, Nat.zero_le _⟩ d_T_delete_73 (fun u73 H locs h B => ?_)
      refine lv_goto (tgt := 145) hx hb d_T_delete_76 (by decide) ?_
      refine lv_iload_n hx hb d_T_delete_145 rfl (lv_at hl 2 rfl) ?_
      exact c_reti X B h d_T_delete_146
    · refine lv_aload_n hx hb d_T_delete_62 rfl (lv_at hl 3 rfl) ?_
      refine t_get_bl X B d_T_delete_63 ?_
      refine lv_iconst (v := iI 1) hx hb d_T_delete_66 rfl ?_
      refine i_icmp_ne (tgt := 79) X h d_T_delete_67 (by decide) (fun h => ?_) (fun h => ?_)
      · refine lv_iload_n hx hb d_T_delete_79 rfl (lv_at hl 1 rfl) ?_
        refine lv_iconst (v := iI 1) hx hb d_T_delete_80 rfl ?_
        refine i_iadd X d_T_delete_81 ?_
        refine lv_aload_n hx hb d_T_delete_82 rfl (lv_at hl 3 rfl) ?_
        refine t_get_bl X B d_T_delete_83 ?_
        refine i_icmp_ge (tgt := 105) X h d_T_delete_86 (by decide) (fun h => ?_) (fun h => ?_)
        · refine lv_aload_n hx hb d_T_delete_105 rfl (lv_at hl 3 rfl) ?_
          refine lv_iconst (v := iI 0) hx hb d_T_delete_106 rfl ?_
          refine t_put_li X B h d_T_delete_107 (fun u107 H locs h B => ?_)
          refine lv_aload_n hx hb d_T_delete_110 rfl (lv_at hl 3 rfl) ?_
          refine lv_iload_n hx hb d_T_delete_111 rfl (lv_at hl 1 rfl) ?_
          refine lv_iconst (v := iI 1) hx hb d_T_delete_112 rfl ?_
          refine i_isub X d_T_delete_113 ?_
          refine c_callv (ci := 0) (nL := 4) (As := [.int (iI (r17 - 1))]) (rest := []) X hl.1 B (fun sz => c_T_unpack l D gA gC _ _ _ h sz) cw_T_T_unpack (by decide) rfl (Nat.le_of_ble_eq_true rfl) rfl rfl rfl ⟨Nat.zero_le _, Nat.zero_le _⟩ d_T_delete_114 (fun u114 H locs h B => ?_)
          refine lv_aload_n hx hb d_T_delete_117 rfl (lv_at hl 3 rfl) ?_
          refine lv_iload_n hx hb d_T_delete_118 rfl (lv_at hl 1 rfl) ?_
          refine c_callv (ci := 0) (nL := 4) (As := [.int (iI r17)]) (rest := []) X hl.1 B (fun sz => c_T_unpack l D gA gC _ _ _ h sz) cw_T_T_unpack (by decide) rfl (Nat.le_of_ble_eq_true rfl) rfl rfl rfl ⟨Nat.zero_le _, Nat.zero_le _⟩ d_T_delete_119 (fun u119 H locs h B => ?_)
          refine lv_iload_n hx hb d_T_delete_122 rfl (lv_at hl 2 rfl) ?_
          refine lv_aload_n hx hb d_T_delete_123 rfl (lv_at hl 3 rfl) ?_
          refine lv_iload_n hx hb d_T_delete_124 rfl (lv_at hl 1 rfl) ?_
          refine lv_iconst (v := iI 1) hx hb d_T_delete_125 rfl ?_
          refine i_isub X d_T_delete_126 ?_
          refine c_calli (ci := 0) (nL := 4) (As := [.int (iI (r17 - 1))]) (rest := [.int (iI r11)]) X hl.1 B (fun sz => c_T_termsBefore l D gA gC _ _ _ h sz) cw_T_T_termsBefore (by decide) rfl (Nat.le_of_ble_eq_true rfl) rfl rfl rfl ⟨Nat.zero_le _, Nat.zero_le _⟩ d_T_delete_127 (fun r127 u127 H locs h B => ?_)
          refine i_isub X d_T_delete_130 ?_
          refine lv_istore_n (lv' := [(3, .int (iI (r11 - r127))), (2, .int (iI r17)), (1, .int (iI r11)), (0, .ref (gA 0))]) hx hb d_T_delete_131 rfl hl (by decide) rfl (fun ls hl => ?_)
          refine lv_aload_n hx hb d_T_delete_132 rfl (lv_at hl 3 rfl) ?_
          refine lv_iload_n hx hb d_T_delete_133 rfl (lv_at hl 0 rfl) ?_
          refine c_callv (ci := 0) (nL := 4) (As := [.int (iI (r11 - r127))]) (rest := []) X hl.1 B (fun sz => c_T_takeFromList l D gA gC _ _ _ h sz) cw_T_T_takeFromList (by decide) rfl (Nat.le_of_ble_eq_true rfl) rfl rfl rfl ⟨Nat.zero_le _, Nat.zero_le _⟩ d_T_delete_134 (fun u134 H locs h B => ?_)
          refine lv_aload_n hx hb d_T_delete_137 rfl (lv_at hl 3 rfl) ?_
          refine lv_iload_n hx hb d_T_delete_138 rfl (lv_at hl 1 rfl) ?_
          refine lv_iconst (v := iI 1) hx hb d_T_delete_139 rfl ?_
          refine i_isub X d_T_delete_140 ?_
          refine lv_iconst (v := iI 2) hx hb d_T_delete_141 rfl ?_
          refine c_callv (ci := 0) (nL := 4) (As := [.int (iI (r17 - 1)), .int (iI 2)]) (rest := []) X hl.1 B (fun sz => c_T_storeList l D gA gC _ _ _ _ h sz) cw_T_T_storeList (by decide) rfl (Nat.le_of_ble_eq_true rfl) rfl rfl rfl ⟨Nat.zero_le _, Nat.zero_le _⟩ d_T_delete_142 (fun u142 H locs h B => ?_)
          refine lv_iload_n hx hb d_T_delete_145 rfl (lv_at hl 2 rfl) ?_
          exact c_reti X B h d_T_delete_146
        · refine lv_aload_n hx hb d_T_delete_89 rfl (lv_at hl 3 rfl) ?_
          refine lv_iload_n hx hb d_T_delete_90 rfl (lv_at hl 1 rfl) ?_
          refine lv_iconst (v := iI 1) hx hb d_T_delete_91 rfl ?_
          refine i_iadd X d_T_delete_92 ?_
          refine c_callv (ci := 0) (nL := 4) (As := [.int (iI (r17 + 1))]) (rest := []) X hl.1 B (fun sz => c_T_unpack l D gA gC _ _ _ h sz) cw_T_T_unpack (by decide) rfl (Nat.le_of_ble_eq_true rfl) rfl rfl rfl ⟨Nat.zero_le _, Nat.zero_le _⟩ d_T_delete_93 (fun u93 H locs h B => ?_)
          refine lv_aload_n hx hb d_T_delete_96 rfl (lv_at hl 3 rfl) ?_
          refine lv_iload_n hx hb d_T_delete_97 rfl (lv_at hl 1 rfl) ?_
          refine lv_iconst (v := iI 2) hx hb d_T_delete_98 rfl ?_
          refine c_callv (ci := 0) (nL := 4) (As := [.int (iI r17), .int (iI 2)]) (rest := []) X hl.1 B (fun sz => c_T_storeList l D gA gC _ _ _ _ h sz) cw_T_T_storeList (by decide) rfl (Nat.le_of_ble_eq_true rfl) rfl rfl rfl ⟨Nat.zero_le _, Nat.zero_le _⟩ d_T_delete_99 (fun u99 H locs h B => ?_)
          refine lv_goto (tgt := 145) hx hb d_T_delete_102 (by decide) ?_
          refine lv_iload_n hx hb d_T_delete_145 rfl (lv_at hl 2 rfl) ?_
          exact c_reti X B h d_T_delete_146
      · refine lv_aload_n hx hb d_T_delete_70 rfl (lv_at hl 3 rfl) ?_
        refine lv_iload_n hx hb d_T_delete_71 rfl (lv_at hl 1 rfl) ?_
        refine lv_iconst (v := iI 1) hx hb d_T_delete_72 rfl ?_
        refine c_callv (ci := 0) (nL := 4) (As := [.int (iI r17), .int (iI 1)]) (rest := []) X hl.1 B (fun sz => c_T_storeList l D gA gC _ _ _ _ h sz) cw_T_T_storeList (by decide) rfl (Nat.le_of_ble_eq_true rfl) rfl rfl rfl ⟨Nat.zero_le _, Nat.zero_le _⟩ d_T_delete_73 (fun u73 H locs h B => ?_)
        refine lv_goto (tgt := 145) hx hb d_T_delete_76 (by decide) ?_
        refine lv_iload_n hx hb d_T_delete_145 rfl (lv_at hl 2 rfl) ?_
        exact c_reti X B h d_T_delete_146
  · refine lv_iconst (v := iI (-1)) hx hb d_T_delete_7 rfl ?_
    exact c_reti X B h d_T_delete_8
end WalkT4
end
section
section WalkM1
variable {p : Program} {l : Launch} {e : Env} {s : State} {m : MethodId} {args : Array Value} {below : List Frame} {meth : Method} {c : Code} {D : va_G} {gA : Nat → Nat} {gC : Nat → ClassId} {A : Nat → Prop}
set_option maxHeartbeats 4000000 in
set_option maxRecDepth 100000 in
theorem c_M_type (l : Launch) (D : va_G) (gA : Nat → Nat) (gC : Nat → ClassId) (u : MS) (x1 : Int) (post : Int → MS → Prop) (h1 : wm_M_type x1 u post) (sz : Nat) : Met l y_M_type (Cond.code y_M_type b_M_type 2 (some .int) :: tw_tbl) (rmD 0) (cPre D (M_ws gA gC u) (M_tys gC) sz [.ref (gA 0), .int (iI x1)]) (cPoI D (M_ws gA gC) (M_tys gC) post (va_A (M_ws gA gC u) sz)) 0 0 (va_A (M_ws gA gC u) sz) := by
  refine c_enter (own := R_M) (Qc := fun A => cPoI D (M_ws gA gC) (M_tys gC) post A) (by decide) rfl [.ref (gA 0), .int (iI x1)] (Nat.le_of_ble_eq_true rfl) (fun p e s m args below meth c A ls X B hl => ?_)
  have hl : lv_has ls 2 [(0, .ref (gA 0)), (1, .int (iI x1))] := hl
  obtain ⟨hx, hb, -⟩ := id X
  have h := h1
  rw [wm_M_type] at h
  refine lv_iload_n hx hb d_M_type_0 rfl (lv_at hl 1 rfl) ?_
  refine i_if_lt (tgt := 19) X h d_M_type_1 (by decide) (fun h => ?_) (fun h => ?_)
  · refine lv_iconst (v := iI (-1)) hx hb d_M_type_19 rfl ?_
    exact c_reti X B h d_M_type_20
  · refine lv_iload_n hx hb d_M_type_4 rfl (lv_at hl 1 rfl) ?_
    refine lv_bipush (v := iI 9) hx hb d_M_type_5 (by decide) ?_
    refine i_icmp_gt (tgt := 19) X h d_M_type_7 (by decide) (fun h => ?_) (fun h => ?_)
    · refine lv_iconst (v := iI (-1)) hx hb d_M_type_19 rfl ?_
      exact c_reti X B h d_M_type_20
    · refine lv_aload_n hx hb d_M_type_10 rfl (lv_at hl 0 rfl) ?_
      refine m_get_ty X B d_M_type_11 ?_
      refine lv_bipush (v := iI 6) hx hb d_M_type_14 (by decide) ?_
      refine i_icmp_ne (tgt := 21) X h d_M_type_16 (by decide) (fun h => ?_) (fun h => ?_)
      · refine lv_aload_n hx hb d_M_type_21 rfl (lv_at hl 0 rfl) ?_
        refine m_get_key X B d_M_type_22 ?_
        refine lv_aload_n hx hb d_M_type_25 rfl (lv_at hl 0 rfl) ?_
        refine m_get_ty X B d_M_type_26 ?_
        refine lv_iload_n hx hb d_M_type_29 rfl (lv_at hl 1 rfl) ?_
        refine m_st_key X B h d_M_type_30 (fun u30 H locs h B => ?_)
        refine lv_aload_n hx hb d_M_type_31 rfl (lv_at hl 0 rfl) ?_
        refine lv_dup hx hb d_M_type_32 rfl ?_
        refine m_get_ty X B d_M_type_33 ?_
        refine lv_iconst (v := iI 1) hx hb d_M_type_36 rfl ?_
        refine i_iadd X d_M_type_37 ?_
        refine m_put_ty X B h d_M_type_38 (fun u38 H locs h B => ?_)
        refine lv_aload_n hx hb d_M_type_41 rfl (lv_at hl 0 rfl) ?_
        refine m_get_ty X B d_M_type_42 ?_
        exact c_reti X B h d_M_type_45
      · refine lv_iconst (v := iI (-1)) hx hb d_M_type_19 rfl ?_
        exact c_reti X B h d_M_type_20
set_option maxHeartbeats 4000000 in
set_option maxRecDepth 100000 in
theorem c_M_back (l : Launch) (D : va_G) (gA : Nat → Nat) (gC : Nat → ClassId) (u : MS) (post : Int → MS → Prop) (h1 : wm_M_back u post) (sz : Nat) : Met l y_M_back (Cond.code y_M_back b_M_back 1 (some .int) :: tw_tbl) (rmD 0) (cPre D (M_ws gA gC u) (M_tys gC) sz [.ref (gA 0)]) (cPoI D (M_ws gA gC) (M_tys gC) post (va_A (M_ws gA gC u) sz)) 0 0 (va_A (M_ws gA gC u) sz) := by
  refine c_enter (own := R_M) (Qc := fun A => cPoI D (M_ws gA gC) (M_tys gC) post A) (by decide) rfl [.ref (gA 0)] (Nat.le_of_ble_eq_true rfl) (fun p e s m args below meth c A ls X B hl => ?_)
  have hl : lv_has ls 1 [(0, .ref (gA 0))] := hl
  obtain ⟨hx, hb, -⟩ := id X
  have h := h1
  rw [wm_M_back] at h
  refine lv_aload_n hx hb d_M_back_0 rfl (lv_at hl 0 rfl) ?_
  refine m_get_ty X B d_M_back_1 ?_
  refine i_if_ne (tgt := 9) X h d_M_back_4 (by decide) (fun h => ?_) (fun h => ?_)
  · refine lv_aload_n hx hb d_M_back_9 rfl (lv_at hl 0 rfl) ?_
    refine lv_dup hx hb d_M_back_10 rfl ?_
    refine m_get_ty X B d_M_back_11 ?_
    refine lv_iconst (v := iI 1) hx hb d_M_back_14 rfl ?_
    refine i_isub X d_M_back_15 ?_
    refine m_put_ty X B h d_M_back_16 (fun u16 H locs h B => ?_)
    refine lv_aload_n hx hb d_M_back_19 rfl (lv_at hl 0 rfl) ?_
    refine m_get_key X B d_M_back_20 ?_
    refine lv_aload_n hx hb d_M_back_23 rfl (lv_at hl 0 rfl) ?_
    refine m_get_ty X B d_M_back_24 ?_
    refine m_ld_key X B h d_M_back_27 (fun v27 h => ?_)
    exact c_reti X B h d_M_back_28
  · refine lv_iconst (v := iI (-1)) hx hb d_M_back_7 rfl ?_
    exact c_reti X B h d_M_back_8
set_option maxHeartbeats 4000000 in
set_option maxRecDepth 100000 in
theorem c_M_erase (l : Launch) (D : va_G) (gA : Nat → Nat) (gC : Nat → ClassId) (u : MS) (post : MS → Prop) (h1 : wm_M_erase u post) (sz : Nat) : Met l y_M_erase (Cond.code y_M_erase b_M_erase 1 (none) :: tw_tbl) (rmD 0) (cPre D (M_ws gA gC u) (M_tys gC) sz [.ref (gA 0)]) (cPoV D (M_ws gA gC) (M_tys gC) post (va_A (M_ws gA gC u) sz)) 0 0 (va_A (M_ws gA gC u) sz) := by
  refine c_enter (own := R_M) (Qc := fun A => cPoV D (M_ws gA gC) (M_tys gC) post A) (by decide) rfl [.ref (gA 0)] (Nat.le_of_ble_eq_true rfl) (fun p e s m args below meth c A ls X B hl => ?_)
  have hl : lv_has ls 1 [(0, .ref (gA 0))] := hl
  obtain ⟨hx, hb, -⟩ := id X
  have h := h1
  rw [wm_M_erase] at h
  refine lv_aload_n hx hb d_M_erase_0 rfl (lv_at hl 0 rfl) ?_
  refine lv_iconst (v := iI 0) hx hb d_M_erase_1 rfl ?_
  refine m_put_ty X B h d_M_erase_2 (fun u2 H locs h B => ?_)
  exact c_retv X B h d_M_erase_5
set_option maxHeartbeats 4000000 in
set_option maxRecDepth 100000 in
theorem wk_M_shared_2 (X : cX R_M (M_tys gC) (some .int) A p s m args meth c D b_M_shared 3) (x1 : Int) {post : Int → MS → Prop} (K : Int → MS → Prop)
    (hK : ∀ (x2 : Int) (u : MS) (H : Heap) (locs : List Loc) (ls : Array Slot), K x2 u → cB D A s H locs (M_ws gA gC u) → lv_has ls 3 [(0, .ref (gA 0)), (2, .int (iI x2))] → W p l e (rmD 0) s m args below meth c H locs 0 0 (MQ below (cPoI D (M_ws gA gC) (M_tys gC) post A) args s 0 0 A) (F0 m 46 ls [])) :
    ∀ (n : Nat) (x2 : Int) (u : MS) (H : Heap) (locs : List Loc) (ls : Array Slot), wl_M_shared_2 x1 K n x2 u → cB D A s H locs (M_ws gA gC u) → lv_has ls 3 [(0, .ref (gA 0)), (1, .int (iI x1)), (2, .int (iI x2))] → W p l e (rmD 0) s m args below meth c H locs 0 0 (MQ below (cPoI D (M_ws gA gC) (M_tys gC) post A) args s 0 0 A) (F0 m 2 ls []) := by
  obtain ⟨hx, hb, -⟩ := id X
  intro n
  induction n with
  | zero =>
    intro x2 u H locs ls h
    rw [wl_M_shared_2] at h
    exact h.elim
  | succ n ih =>
    intro x2 u H locs ls h B hl
    rw [wl_M_shared_2] at h
    refine lv_iload_n hx hb d_M_shared_2 rfl (lv_at hl 2 rfl) ?_
    refine lv_aload_n hx hb d_M_shared_3 rfl (lv_at hl 0 rfl) ?_
    refine m_get_ty X B d_M_shared_4 ?_
    refine i_icmp_ge (tgt := 46) X h d_M_shared_7 (by decide) (fun h => ?_) (fun h => ?_)
    · exact hK _ _ _ _ _ h B (lv_sub hl [0, 2] rfl)
    · refine lv_iload_n hx hb d_M_shared_10 rfl (lv_at hl 2 rfl) ?_
      refine lv_aload_n hx hb d_M_shared_11 rfl (lv_at hl 0 rfl) ?_
      refine m_get_len X B d_M_shared_12 ?_
      refine lv_iload_n hx hb d_M_shared_15 rfl (lv_at hl 1 rfl) ?_
      refine m_ld_len X B h d_M_shared_16 (fun v16 h => ?_)
      refine i_icmp_ge (tgt := 46) X h d_M_shared_17 (by decide) (fun h => ?_) (fun h => ?_)
      · exact hK _ _ _ _ _ h B (lv_sub hl [0, 2] rfl)
      · refine lv_aload_n hx hb d_M_shared_20 rfl (lv_at hl 0 rfl) ?_
        refine m_get_let X B d_M_shared_21 ?_
        refine lv_bipush (v := iI 6) hx hb d_M_shared_24 (by decide) ?_
        refine lv_iload_n hx hb d_M_shared_26 rfl (lv_at hl 1 rfl) ?_
        refine i_imul X d_M_shared_27 ?_
        refine lv_iload_n hx hb d_M_shared_28 rfl (lv_at hl 2 rfl) ?_
        refine i_iadd X d_M_shared_29 ?_
        refine m_ld_let X B h d_M_shared_30 (fun v30 h => ?_)
        refine lv_aload_n hx hb d_M_shared_31 rfl (lv_at hl 0 rfl) ?_
        refine m_get_key X B d_M_shared_32 ?_
        refine lv_iload_n hx hb d_M_shared_35 rfl (lv_at hl 2 rfl) ?_
        refine m_ld_key X B h d_M_shared_36 (fun v36 h => ?_)
        refine i_icmp_ne (tgt := 46) X h d_M_shared_37 (by decide) (fun h => ?_) (fun h => ?_)
        · exact hK _ _ _ _ _ h B (lv_sub hl [0, 2] rfl)
        · refine lv_iinc (v := iI (x2 + 1)) (lv' := [(2, .int (iI (x2 + 1))), (0, .ref (gA 0)), (1, .int (iI x1))]) hx hb d_M_shared_40 hl (k := 2) rfl (iI_inc _ _) (by decide) rfl (fun ls hl => ?_)
          refine lv_goto (tgt := 2) hx hb d_M_shared_43 (by decide) ?_
          exact ih _ _ _ _ _ h B (lv_sub hl [1, 2, 0] rfl)
set_option maxHeartbeats 4000000 in
set_option maxRecDepth 100000 in
theorem c_M_shared (l : Launch) (D : va_G) (gA : Nat → Nat) (gC : Nat → ClassId) (u : MS) (x1 : Int) (post : Int → MS → Prop) (h1 : wm_M_shared x1 u post) (sz : Nat) : Met l y_M_shared (Cond.code y_M_shared b_M_shared 3 (some .int) :: tw_tbl) (rmD 0) (cPre D (M_ws gA gC u) (M_tys gC) sz [.ref (gA 0), .int (iI x1)]) (cPoI D (M_ws gA gC) (M_tys gC) post (va_A (M_ws gA gC u) sz)) 0 0 (va_A (M_ws gA gC u) sz) := by
  refine c_enter (own := R_M) (Qc := fun A => cPoI D (M_ws gA gC) (M_tys gC) post A) (by decide) rfl [.ref (gA 0), .int (iI x1)] (Nat.le_of_ble_eq_true rfl) (fun p e s m args below meth c A ls X B hl => ?_)
  have hl : lv_has ls 3 [(0, .ref (gA 0)), (1, .int (iI x1))] := hl
  obtain ⟨hx, hb, -⟩ := id X
  have h := h1
  rw [wm_M_shared] at h
  refine lv_iconst (v := iI 0) hx hb d_M_shared_0 rfl ?_
  refine lv_istore_n (lv' := [(2, .int (iI 0)), (0, .ref (gA 0)), (1, .int (iI x1))]) hx hb d_M_shared_1 rfl hl (by decide) rfl (fun ls hl => ?_)
  obtain ⟨n2, h⟩ := h
  refine wk_M_shared_2 X _ _ (fun y46_2 u46 H locs ls h B hl => ?_) n2 _ _ _ _ _ h B (lv_sub hl [1, 2, 0] rfl)
  refine lv_iload_n hx hb d_M_shared_46 rfl (lv_at hl 1 rfl) ?_
  exact c_reti X B h d_M_shared_47
set_option maxHeartbeats 4000000 in
set_option maxRecDepth 100000 in
theorem wk_M_less_2 (X : cX R_M (M_tys gC) (some .boolean) A p s m args meth c D b_M_less 4) (x1 : Int) (x2 : Int) {post : Int → MS → Prop} (K : MS → Prop)
    (hK : ∀ (u : MS) (H : Heap) (locs : List Loc) (ls : Array Slot), K u → cB D A s H locs (M_ws gA gC u) → lv_has ls 4 [(0, .ref (gA 0))] → W p l e (rmD 0) s m args below meth c H locs 0 0 (MQ below (cPoI D (M_ws gA gC) (M_tys gC) post A) args s 0 0 A) (F0 m 94 ls [])) :
    ∀ (n : Nat) (x3 : Int) (u : MS) (H : Heap) (locs : List Loc) (ls : Array Slot), wl_M_less_2 x1 x2 post K n x3 u → cB D A s H locs (M_ws gA gC u) → lv_has ls 4 [(0, .ref (gA 0)), (1, .int (iI x1)), (2, .int (iI x2)), (3, .int (iI x3))] → W p l e (rmD 0) s m args below meth c H locs 0 0 (MQ below (cPoI D (M_ws gA gC) (M_tys gC) post A) args s 0 0 A) (F0 m 2 ls []) := by
  obtain ⟨hx, hb, -⟩ := id X
  intro n
  induction n with
  | zero =>
    intro x3 u H locs ls h
    rw [wl_M_less_2] at h
    exact h.elim
  | succ n ih =>
    intro x3 u H locs ls h B hl
    rw [wl_M_less_2] at h
    refine lv_iload_n hx hb d_M_less_2 rfl (lv_at hl 3 rfl) ?_
    refine lv_bipush (v := iI 6) hx hb d_M_less_3 (by decide) ?_
    refine i_icmp_ge (tgt := 94) X h d_M_less_5 (by decide) (fun h => ?_) (fun h => ?_)
    · exact hK _ _ _ _ h B (lv_sub hl [0] rfl)
    · refine lv_iload_n hx hb d_M_less_8 rfl (lv_at hl 3 rfl) ?_
      refine lv_aload_n hx hb d_M_less_9 rfl (lv_at hl 0 rfl) ?_
      refine m_get_len X B d_M_less_10 ?_
      refine lv_iload_n hx hb d_M_less_13 rfl (lv_at hl 2 rfl) ?_
      refine m_ld_len X B h d_M_less_14 (fun v14 h => ?_)
      refine i_icmp_lt (tgt := 20) X h d_M_less_15 (by decide) (fun h => ?_) (fun h => ?_)
      · refine lv_iload_n hx hb d_M_less_20 rfl (lv_at hl 3 rfl) ?_
        refine lv_aload_n hx hb d_M_less_21 rfl (lv_at hl 0 rfl) ?_
        refine m_get_len X B d_M_less_22 ?_
        refine lv_iload_n hx hb d_M_less_25 rfl (lv_at hl 1 rfl) ?_
        refine m_ld_len X B h d_M_less_26 (fun v26 h => ?_)
        refine i_icmp_lt (tgt := 32) X h d_M_less_27 (by decide) (fun h => ?_) (fun h => ?_)
        · refine lv_aload_n hx hb d_M_less_32 rfl (lv_at hl 0 rfl) ?_
          refine m_get_let X B d_M_less_33 ?_
          refine lv_bipush (v := iI 6) hx hb d_M_less_36 (by decide) ?_
          refine lv_iload_n hx hb d_M_less_38 rfl (lv_at hl 1 rfl) ?_
          refine i_imul X d_M_less_39 ?_
          refine lv_iload_n hx hb d_M_less_40 rfl (lv_at hl 3 rfl) ?_
          refine i_iadd X d_M_less_41 ?_
          refine m_ld_let X B h d_M_less_42 (fun v42 h => ?_)
          refine lv_aload_n hx hb d_M_less_43 rfl (lv_at hl 0 rfl) ?_
          refine m_get_let X B d_M_less_44 ?_
          refine lv_bipush (v := iI 6) hx hb d_M_less_47 (by decide) ?_
          refine lv_iload_n hx hb d_M_less_49 rfl (lv_at hl 2 rfl) ?_
          refine i_imul X d_M_less_50 ?_
          refine lv_iload_n hx hb d_M_less_51 rfl (lv_at hl 3 rfl) ?_
          refine i_iadd X d_M_less_52 ?_
          refine m_ld_let X B h d_M_less_53 (fun v53 h => ?_)
          refine i_icmp_eq (tgt := 88) X h d_M_less_54 (by decide) (fun h => ?_) (fun h => ?_)
          · refine lv_iinc (v := iI (x3 + 1)) (lv' := [(3, .int (iI (x3 + 1))), (0, .ref (gA 0)), (1, .int (iI x1)), (2, .int (iI x2))]) hx hb d_M_less_88 hl (k := 3) rfl (iI_inc _ _) (by decide) rfl (fun ls hl => ?_)
            refine lv_goto (tgt := 2) hx hb d_M_less_91 (by decide) ?_
            exact ih _ _ _ _ _ h B (lv_sub hl [1, 2, 3, 0] rfl)
          · refine lv_aload_n hx hb d_M_less_57 rfl (lv_at hl 0 rfl) ?_
            refine m_get_let X B d_M_less_58 ?_
            refine lv_bipush (v := iI 6) hx hb d_M_less_61 (by decide) ?_
            refine lv_iload_n hx hb d_M_less_63 rfl (lv_at hl 1 rfl) ?_
            refine i_imul X d_M_less_64 ?_
            refine lv_iload_n hx hb d_M_less_65 rfl (lv_at hl 3 rfl) ?_
            refine i_iadd X d_M_less_66 ?_
            refine m_ld_let X B h d_M_less_67 (fun v67 h => ?_)
            refine lv_aload_n hx hb d_M_less_68 rfl (lv_at hl 0 rfl) ?_
            refine m_get_let X B d_M_less_69 ?_
            refine lv_bipush (v := iI 6) hx hb d_M_less_72 (by decide) ?_
            refine lv_iload_n hx hb d_M_less_74 rfl (lv_at hl 2 rfl) ?_
            refine i_imul X d_M_less_75 ?_
            refine lv_iload_n hx hb d_M_less_76 rfl (lv_at hl 3 rfl) ?_
            refine i_iadd X d_M_less_77 ?_
            refine m_ld_let X B h d_M_less_78 (fun v78 h => ?_)
            refine i_icmp_ge (tgt := 86) X h d_M_less_79 (by decide) (fun h => ?_) (fun h => ?_)
            · refine lv_iconst (v := iI 0) hx hb d_M_less_86 rfl ?_
              exact c_retz X B h.1 h.2 d_M_less_87
            · refine lv_iconst (v := iI 1) hx hb d_M_less_82 rfl ?_
              refine lv_goto (tgt := 87) hx hb d_M_less_83 (by decide) ?_
              exact c_retz X B h.1 h.2 d_M_less_87
        · refine lv_iconst (v := iI 1) hx hb d_M_less_30 rfl ?_
          exact c_retz X B h.1 h.2 d_M_less_31
      · refine lv_iconst (v := iI 0) hx hb d_M_less_18 rfl ?_
        exact c_retz X B h.1 h.2 d_M_less_19
set_option maxHeartbeats 4000000 in
set_option maxRecDepth 100000 in
theorem c_M_less (l : Launch) (D : va_G) (gA : Nat → Nat) (gC : Nat → ClassId) (u : MS) (x1 : Int) (x2 : Int) (post : Int → MS → Prop) (h1 : wm_M_less x1 x2 u post) (sz : Nat) : Met l y_M_less (Cond.code y_M_less b_M_less 4 (some .boolean) :: tw_tbl) (rmD 0) (cPre D (M_ws gA gC u) (M_tys gC) sz [.ref (gA 0), .int (iI x1), .int (iI x2)]) (cPoI D (M_ws gA gC) (M_tys gC) post (va_A (M_ws gA gC u) sz)) 0 0 (va_A (M_ws gA gC u) sz) := by
  refine c_enter (own := R_M) (Qc := fun A => cPoI D (M_ws gA gC) (M_tys gC) post A) (by decide) rfl [.ref (gA 0), .int (iI x1), .int (iI x2)] (Nat.le_of_ble_eq_true rfl) (fun p e s m args below meth c A ls X B hl => ?_)
  have hl : lv_has ls 4 [(0, .ref (gA 0)), (1, .int (iI x1)), (2, .int (iI x2))] := hl
  obtain ⟨hx, hb, -⟩ := id X
  have h := h1
  rw [wm_M_less] at h
  refine lv_iconst (v := iI 0) hx hb d_M_less_0 rfl ?_
  refine lv_istore_n (lv' := [(3, .int (iI 0)), (0, .ref (gA 0)), (1, .int (iI x1)), (2, .int (iI x2))]) hx hb d_M_less_1 rfl hl (by decide) rfl (fun ls hl => ?_)
  obtain ⟨n2, h⟩ := h
  refine wk_M_less_2 X _ _ _ (fun u94 H locs ls h B hl => ?_) n2 _ _ _ _ _ h B (lv_sub hl [1, 2, 3, 0] rfl)
  refine lv_iconst (v := iI 0) hx hb d_M_less_94 rfl ?_
  exact c_retz X B h.1 h.2 d_M_less_95
set_option maxHeartbeats 4000000 in
set_option maxRecDepth 100000 in
theorem c_M_letter (l : Launch) (D : va_G) (gA : Nat → Nat) (gC : Nat → ClassId) (u : MS) (x1 : Int) (post : Int → MS → Prop) (h1 : wm_M_letter x1 u post) (sz : Nat) : Met l y_M_letter (Cond.code y_M_letter b_M_letter 2 (some .int) :: tw_tbl) (rmD 0) (cPre D (M_ws gA gC u) (M_tys gC) sz [.ref (gA 0), .int (iI x1)]) (cPoI D (M_ws gA gC) (M_tys gC) post (va_A (M_ws gA gC u) sz)) 0 0 (va_A (M_ws gA gC u) sz) := by
  refine c_enter (own := R_M) (Qc := fun A => cPoI D (M_ws gA gC) (M_tys gC) post A) (by decide) rfl [.ref (gA 0), .int (iI x1)] (Nat.le_of_ble_eq_true rfl) (fun p e s m args below meth c A ls X B hl => ?_)
  have hl : lv_has ls 2 [(0, .ref (gA 0)), (1, .int (iI x1))] := hl
  obtain ⟨hx, hb, -⟩ := id X
  have h := h1
  rw [wm_M_letter] at h
  refine lv_iload_n hx hb d_M_letter_0 rfl (lv_at hl 1 rfl) ?_
  refine i_if_lt (tgt := 12) X h d_M_letter_1 (by decide) (fun h => ?_) (fun h => ?_)
  · refine lv_iconst (v := iI (-1)) hx hb d_M_letter_12 rfl ?_
    refine lv_goto (tgt := 22) hx hb d_M_letter_13 (by decide) ?_
    exact c_reti X B h d_M_letter_22
  · refine lv_iload_n hx hb d_M_letter_4 rfl (lv_at hl 1 rfl) ?_
    refine lv_aload_n hx hb d_M_letter_5 rfl (lv_at hl 0 rfl) ?_
    refine m_get_ty X B d_M_letter_6 ?_
    refine i_icmp_lt (tgt := 16) X h d_M_letter_9 (by decide) (fun h => ?_) (fun h => ?_)
    · refine lv_aload_n hx hb d_M_letter_16 rfl (lv_at hl 0 rfl) ?_
      refine m_get_key X B d_M_letter_17 ?_
      refine lv_iload_n hx hb d_M_letter_20 rfl (lv_at hl 1 rfl) ?_
      refine m_ld_key X B h d_M_letter_21 (fun v21 h => ?_)
      exact c_reti X B h d_M_letter_22
    · refine lv_iconst (v := iI (-1)) hx hb d_M_letter_12 rfl ?_
      refine lv_goto (tgt := 22) hx hb d_M_letter_13 (by decide) ?_
      exact c_reti X B h d_M_letter_22
set_option maxHeartbeats 4000000 in
set_option maxRecDepth 100000 in
theorem c_M_size (l : Launch) (D : va_G) (gA : Nat → Nat) (gC : Nat → ClassId) (u : MS) (post : Int → MS → Prop) (h1 : wm_M_size u post) (sz : Nat) : Met l y_M_size (Cond.code y_M_size b_M_size 1 (some .int) :: tw_tbl) (rmD 0) (cPre D (M_ws gA gC u) (M_tys gC) sz [.ref (gA 0)]) (cPoI D (M_ws gA gC) (M_tys gC) post (va_A (M_ws gA gC u) sz)) 0 0 (va_A (M_ws gA gC u) sz) := by
  refine c_enter (own := R_M) (Qc := fun A => cPoI D (M_ws gA gC) (M_tys gC) post A) (by decide) rfl [.ref (gA 0)] (Nat.le_of_ble_eq_true rfl) (fun p e s m args below meth c A ls X B hl => ?_)
  have hl : lv_has ls 1 [(0, .ref (gA 0))] := hl
  obtain ⟨hx, hb, -⟩ := id X
  have h := h1
  rw [wm_M_size] at h
  refine lv_aload_n hx hb d_M_size_0 rfl (lv_at hl 0 rfl) ?_
  refine m_get_tm X B d_M_size_1 ?_
  exact c_reti X B h d_M_size_4
set_option maxHeartbeats 4000000 in
set_option maxRecDepth 100000 in
theorem c_M_precedes (l : Launch) (D : va_G) (gA : Nat → Nat) (gC : Nat → ClassId) (u : MS) (x1 : Int) (post : Int → MS → Prop) (h1 : wm_M_precedes x1 u post) (sz : Nat) : Met l y_M_precedes (Cond.code y_M_precedes b_M_precedes 3 (some .boolean) :: tw_tbl) (rmD 1) (cPre D (M_ws gA gC u) (M_tys gC) sz [.ref (gA 0), .int (iI x1)]) (cPoI D (M_ws gA gC) (M_tys gC) post (va_A (M_ws gA gC u) sz)) 0 0 (va_A (M_ws gA gC u) sz) := by
  refine c_enter (own := R_M) (Qc := fun A => cPoI D (M_ws gA gC) (M_tys gC) post A) (by decide) rfl [.ref (gA 0), .int (iI x1)] (Nat.le_of_ble_eq_true rfl) (fun p e s m args below meth c A ls X B hl => ?_)
  have hl : lv_has ls 3 [(0, .ref (gA 0)), (1, .int (iI x1))] := hl
  obtain ⟨hx, hb, -⟩ := id X
  have h := h1
  rw [wm_M_precedes] at h
  refine lv_aload_n hx hb d_M_precedes_0 rfl (lv_at hl 0 rfl) ?_
  refine lv_iload_n hx hb d_M_precedes_1 rfl (lv_at hl 1 rfl) ?_
  refine c_calli (ci := 1) (nL := 3) (As := [.int (iI x1)]) (rest := []) X hl.1 B (fun sz => c_M_shared l D gA gC _ _ _ h sz) cw_M_M_shared (by decide) rfl (Nat.le_of_ble_eq_true rfl) rfl rfl rfl ⟨Nat.zero_le _, Nat.zero_le _⟩ d_M_precedes_2 (fun r2 u2 H locs h B => ?_)
  refine lv_istore_n (lv' := [(2, .int (iI r2)), (0, .ref (gA 0)), (1, .int (iI x1))]) hx hb d_M_precedes_5 rfl hl (by decide) rfl (fun ls hl => ?_)
  refine lv_iload_n hx hb d_M_precedes_6 rfl (lv_at hl 0 rfl) ?_
  refine lv_aload_n hx hb d_M_precedes_7 rfl (lv_at hl 1 rfl) ?_
  refine m_get_ty X B d_M_precedes_8 ?_
  refine i_icmp_lt (tgt := 16) X h d_M_precedes_11 (by decide) (fun h => ?_) (fun h => ?_)
  · refine lv_iload_n hx hb d_M_precedes_16 rfl (lv_at hl 0 rfl) ?_
    refine lv_aload_n hx hb d_M_precedes_17 rfl (lv_at hl 1 rfl) ?_
    refine m_get_len X B d_M_precedes_18 ?_
    refine lv_iload_n hx hb d_M_precedes_21 rfl (lv_at hl 2 rfl) ?_
    refine m_ld_len X B h d_M_precedes_22 (fun v22 h => ?_)
    refine i_icmp_ge (tgt := 46) X h d_M_precedes_23 (by decide) (fun h => ?_) (fun h => ?_)
    · refine lv_iconst (v := iI 1) hx hb d_M_precedes_46 rfl ?_
      refine lv_goto (tgt := 51) hx hb d_M_precedes_47 (by decide) ?_
      exact c_retz X B h.1 h.2 d_M_precedes_51
    · refine lv_aload_n hx hb d_M_precedes_26 rfl (lv_at hl 1 rfl) ?_
      refine m_get_let X B d_M_precedes_27 ?_
      refine lv_bipush (v := iI 6) hx hb d_M_precedes_30 (by decide) ?_
      refine lv_iload_n hx hb d_M_precedes_32 rfl (lv_at hl 2 rfl) ?_
      refine i_imul X d_M_precedes_33 ?_
      refine lv_iload_n hx hb d_M_precedes_34 rfl (lv_at hl 0 rfl) ?_
      refine i_iadd X d_M_precedes_35 ?_
      refine m_ld_let X B h d_M_precedes_36 (fun v36 h => ?_)
      refine lv_aload_n hx hb d_M_precedes_37 rfl (lv_at hl 1 rfl) ?_
      refine m_get_key X B d_M_precedes_38 ?_
      refine lv_iload_n hx hb d_M_precedes_41 rfl (lv_at hl 0 rfl) ?_
      refine m_ld_key X B h d_M_precedes_42 (fun v42 h => ?_)
      refine i_icmp_ge (tgt := 50) X h d_M_precedes_43 (by decide) (fun h => ?_) (fun h => ?_)
      · refine lv_iconst (v := iI 0) hx hb d_M_precedes_50 rfl ?_
        exact c_retz X B h.1 h.2 d_M_precedes_51
      · refine lv_iconst (v := iI 1) hx hb d_M_precedes_46 rfl ?_
        refine lv_goto (tgt := 51) hx hb d_M_precedes_47 (by decide) ?_
        exact c_retz X B h.1 h.2 d_M_precedes_51
  · refine lv_iconst (v := iI 0) hx hb d_M_precedes_14 rfl ?_
    exact c_retz X B h.1 h.2 d_M_precedes_15
set_option maxHeartbeats 4000000 in
set_option maxRecDepth 100000 in
theorem wk_M_rankOf_4 (X : cX R_M (M_tys gC) (some .int) A p s m args meth c D b_M_rankOf 4) (x1 : Int) {post : Int → MS → Prop} (K : Int → MS → Prop)
    (hK : ∀ (x2 : Int) (u : MS) (H : Heap) (locs : List Loc) (ls : Array Slot), K x2 u → cB D A s H locs (M_ws gA gC u) → lv_has ls 4 [(0, .ref (gA 0)), (2, .int (iI x2))] → W p l e (rmD 1) s m args below meth c H locs 0 0 (MQ below (cPoI D (M_ws gA gC) (M_tys gC) post A) args s 0 0 A) (F0 m 30 ls [])) :
    ∀ (n : Nat) (x2 : Int) (x3 : Int) (u : MS) (H : Heap) (locs : List Loc) (ls : Array Slot), wl_M_rankOf_4 x1 K n x2 x3 u → cB D A s H locs (M_ws gA gC u) → lv_has ls 4 [(0, .ref (gA 0)), (1, .int (iI x1)), (2, .int (iI x2)), (3, .int (iI x3))] → W p l e (rmD 1) s m args below meth c H locs 0 0 (MQ below (cPoI D (M_ws gA gC) (M_tys gC) post A) args s 0 0 A) (F0 m 4 ls []) := by
  obtain ⟨hx, hb, -⟩ := id X
  intro n
  induction n with
  | zero =>
    intro x2 x3 u H locs ls h
    rw [wl_M_rankOf_4] at h
    exact h.elim
  | succ n ih =>
    intro x2 x3 u H locs ls h B hl
    rw [wl_M_rankOf_4] at h
    refine lv_iload_n hx hb d_M_rankOf_4 rfl (lv_at hl 3 rfl) ?_
    refine lv_aload_n hx hb d_M_rankOf_5 rfl (lv_at hl 0 rfl) ?_
    refine m_get_tm X B d_M_rankOf_6 ?_
    refine i_icmp_ge (tgt := 30) X h d_M_rankOf_9 (by decide) (fun h => ?_) (fun h => ?_)
    · exact hK _ _ _ _ _ h B (lv_sub hl [0, 2] rfl)
    · refine lv_aload_n hx hb d_M_rankOf_12 rfl (lv_at hl 0 rfl) ?_
      refine lv_iload_n hx hb d_M_rankOf_13 rfl (lv_at hl 3 rfl) ?_
      refine lv_iload_n hx hb d_M_rankOf_14 rfl (lv_at hl 1 rfl) ?_
      refine c_calli (ci := 1) (nL := 4) (As := [.int (iI x3), .int (iI x1)]) (rest := []) X hl.1 B (fun sz => c_M_less l D gA gC _ _ _ _ h sz) cw_M_M_less (by decide) rfl (Nat.le_of_ble_eq_true rfl) rfl rfl rfl ⟨Nat.zero_le _, Nat.zero_le _⟩ d_M_rankOf_15 (fun r15 u15 H locs h B => ?_)
      refine i_if_eq (tgt := 24) X h d_M_rankOf_18 (by decide) (fun h => ?_) (fun h => ?_)
      · refine lv_iinc (v := iI (x3 + 1)) (lv' := [(3, .int (iI (x3 + 1))), (0, .ref (gA 0)), (1, .int (iI x1)), (2, .int (iI x2))]) hx hb d_M_rankOf_24 hl (k := 3) rfl (iI_inc _ _) (by decide) rfl (fun ls hl => ?_)
        refine lv_goto (tgt := 4) hx hb d_M_rankOf_27 (by decide) ?_
        exact ih _ _ _ _ _ _ h B (lv_sub hl [1, 2, 3, 0] rfl)
      · refine lv_iinc (v := iI (x2 + 1)) (lv' := [(2, .int (iI (x2 + 1))), (0, .ref (gA 0)), (1, .int (iI x1)), (3, .int (iI x3))]) hx hb d_M_rankOf_21 hl (k := 2) rfl (iI_inc _ _) (by decide) rfl (fun ls hl => ?_)
        refine lv_iinc (v := iI (x3 + 1)) (lv' := [(3, .int (iI (x3 + 1))), (2, .int (iI (x2 + 1))), (0, .ref (gA 0)), (1, .int (iI x1))]) hx hb d_M_rankOf_24 hl (k := 3) rfl (iI_inc _ _) (by decide) rfl (fun ls hl => ?_)
        refine lv_goto (tgt := 4) hx hb d_M_rankOf_27 (by decide) ?_
        exact ih _ _ _ _ _ _ h B (lv_sub hl [2, 3, 1, 0] rfl)
set_option maxHeartbeats 4000000 in
set_option maxRecDepth 100000 in
theorem c_M_rankOf (l : Launch) (D : va_G) (gA : Nat → Nat) (gC : Nat → ClassId) (u : MS) (x1 : Int) (post : Int → MS → Prop) (h1 : wm_M_rankOf x1 u post) (sz : Nat) : Met l y_M_rankOf (Cond.code y_M_rankOf b_M_rankOf 4 (some .int) :: tw_tbl) (rmD 1) (cPre D (M_ws gA gC u) (M_tys gC) sz [.ref (gA 0), .int (iI x1)]) (cPoI D (M_ws gA gC) (M_tys gC) post (va_A (M_ws gA gC u) sz)) 0 0 (va_A (M_ws gA gC u) sz) := by
  refine c_enter (own := R_M) (Qc := fun A => cPoI D (M_ws gA gC) (M_tys gC) post A) (by decide) rfl [.ref (gA 0), .int (iI x1)] (Nat.le_of_ble_eq_true rfl) (fun p e s m args below meth c A ls X B hl => ?_)
  have hl : lv_has ls 4 [(0, .ref (gA 0)), (1, .int (iI x1))] := hl
  obtain ⟨hx, hb, -⟩ := id X
  have h := h1
  rw [wm_M_rankOf] at h
  refine lv_iconst (v := iI 0) hx hb d_M_rankOf_0 rfl ?_
  refine lv_istore_n (lv' := [(2, .int (iI 0)), (0, .ref (gA 0)), (1, .int (iI x1))]) hx hb d_M_rankOf_1 rfl hl (by decide) rfl (fun ls hl => ?_)
  refine lv_iconst (v := iI 0) hx hb d_M_rankOf_2 rfl ?_
  refine lv_istore_n (lv' := [(3, .int (iI 0)), (2, .int (iI 0)), (0, .ref (gA 0)), (1, .int (iI x1))]) hx hb d_M_rankOf_3 rfl hl (by decide) rfl (fun ls hl => ?_)
  obtain ⟨n4, h⟩ := h
  refine wk_M_rankOf_4 X _ _ (fun y30_2 u30 H locs ls h B hl => ?_) n4 _ _ _ _ _ _ h B (lv_sub hl [2, 3, 1, 0] rfl)
  refine lv_iload_n hx hb d_M_rankOf_30 rfl (lv_at hl 1 rfl) ?_
  exact c_reti X B h d_M_rankOf_31
set_option maxHeartbeats 4000000 in
set_option maxRecDepth 100000 in
theorem wk_M_same_2 (X : cX R_M (M_tys gC) (some .int) A p s m args meth c D b_M_same 2) {post : Int → MS → Prop} (K : MS → Prop)
    (hK : ∀ (u : MS) (H : Heap) (locs : List Loc) (ls : Array Slot), K u → cB D A s H locs (M_ws gA gC u) → lv_has ls 2 [(0, .ref (gA 0))] → W p l e (rmD 1) s m args below meth c H locs 0 0 (MQ below (cPoI D (M_ws gA gC) (M_tys gC) post A) args s 0 0 A) (F0 m 43 ls [])) :
    ∀ (n : Nat) (x1 : Int) (u : MS) (H : Heap) (locs : List Loc) (ls : Array Slot), wl_M_same_2 post K n x1 u → cB D A s H locs (M_ws gA gC u) → lv_has ls 2 [(0, .ref (gA 0)), (1, .int (iI x1))] → W p l e (rmD 1) s m args below meth c H locs 0 0 (MQ below (cPoI D (M_ws gA gC) (M_tys gC) post A) args s 0 0 A) (F0 m 2 ls []) := by
  obtain ⟨hx, hb, -⟩ := id X
  intro n
  induction n with
  | zero =>
    intro x1 u H locs ls h
    rw [wl_M_same_2] at h
    exact h.elim
  | succ n ih =>
    intro x1 u H locs ls h B hl
    rw [wl_M_same_2] at h
    refine lv_iload_n hx hb d_M_same_2 rfl (lv_at hl 1 rfl) ?_
    refine lv_aload_n hx hb d_M_same_3 rfl (lv_at hl 0 rfl) ?_
    refine m_get_tm X B d_M_same_4 ?_
    refine i_icmp_ge (tgt := 43) X h d_M_same_7 (by decide) (fun h => ?_) (fun h => ?_)
    · exact hK _ _ _ _ h B (lv_sub hl [0] rfl)
    · refine lv_aload_n hx hb d_M_same_10 rfl (lv_at hl 0 rfl) ?_
      refine m_get_len X B d_M_same_11 ?_
      refine lv_iload_n hx hb d_M_same_14 rfl (lv_at hl 1 rfl) ?_
      refine m_ld_len X B h d_M_same_15 (fun v15 h => ?_)
      refine lv_aload_n hx hb d_M_same_16 rfl (lv_at hl 0 rfl) ?_
      refine m_get_ty X B d_M_same_17 ?_
      refine i_icmp_ne (tgt := 37) X h d_M_same_20 (by decide) (fun h => ?_) (fun h => ?_)
      · refine lv_iinc (v := iI (x1 + 1)) (lv' := [(1, .int (iI (x1 + 1))), (0, .ref (gA 0))]) hx hb d_M_same_37 hl (k := 1) rfl (iI_inc _ _) (by decide) rfl (fun ls hl => ?_)
        refine lv_goto (tgt := 2) hx hb d_M_same_40 (by decide) ?_
        exact ih _ _ _ _ _ h B (lv_sub hl [1, 0] rfl)
      · refine lv_aload_n hx hb d_M_same_23 rfl (lv_at hl 0 rfl) ?_
        refine lv_iload_n hx hb d_M_same_24 rfl (lv_at hl 1 rfl) ?_
        refine c_calli (ci := 1) (nL := 2) (As := [.int (iI x1)]) (rest := []) X hl.1 B (fun sz => c_M_shared l D gA gC _ _ _ h sz) cw_M_M_shared (by decide) rfl (Nat.le_of_ble_eq_true rfl) rfl rfl rfl ⟨Nat.zero_le _, Nat.zero_le _⟩ d_M_same_25 (fun r25 u25 H locs h B => ?_)
        refine lv_aload_n hx hb d_M_same_28 rfl (lv_at hl 0 rfl) ?_
        refine m_get_ty X B d_M_same_29 ?_
        refine i_icmp_ne (tgt := 37) X h d_M_same_32 (by decide) (fun h => ?_) (fun h => ?_)
        · refine lv_iinc (v := iI (x1 + 1)) (lv' := [(1, .int (iI (x1 + 1))), (0, .ref (gA 0))]) hx hb d_M_same_37 hl (k := 1) rfl (iI_inc _ _) (by decide) rfl (fun ls hl => ?_)
          refine lv_goto (tgt := 2) hx hb d_M_same_40 (by decide) ?_
          exact ih _ _ _ _ _ h B (lv_sub hl [1, 0] rfl)
        · refine lv_iload_n hx hb d_M_same_35 rfl (lv_at hl 1 rfl) ?_
          exact c_reti X B h d_M_same_36
set_option maxHeartbeats 4000000 in
set_option maxRecDepth 100000 in
theorem c_M_same (l : Launch) (D : va_G) (gA : Nat → Nat) (gC : Nat → ClassId) (u : MS) (post : Int → MS → Prop) (h1 : wm_M_same u post) (sz : Nat) : Met l y_M_same (Cond.code y_M_same b_M_same 2 (some .int) :: tw_tbl) (rmD 1) (cPre D (M_ws gA gC u) (M_tys gC) sz [.ref (gA 0)]) (cPoI D (M_ws gA gC) (M_tys gC) post (va_A (M_ws gA gC u) sz)) 0 0 (va_A (M_ws gA gC u) sz) := by
  refine c_enter (own := R_M) (Qc := fun A => cPoI D (M_ws gA gC) (M_tys gC) post A) (by decide) rfl [.ref (gA 0)] (Nat.le_of_ble_eq_true rfl) (fun p e s m args below meth c A ls X B hl => ?_)
  have hl : lv_has ls 2 [(0, .ref (gA 0))] := hl
  obtain ⟨hx, hb, -⟩ := id X
  have h := h1
  rw [wm_M_same] at h
  refine lv_iconst (v := iI 0) hx hb d_M_same_0 rfl ?_
  refine lv_istore_n (lv' := [(1, .int (iI 0)), (0, .ref (gA 0))]) hx hb d_M_same_1 rfl hl (by decide) rfl (fun ls hl => ?_)
  obtain ⟨n2, h⟩ := h
  refine wk_M_same_2 X _ (fun u43 H locs ls h B hl => ?_) n2 _ _ _ _ _ h B (lv_sub hl [1, 0] rfl)
  refine lv_iconst (v := iI (-1)) hx hb d_M_same_43 rfl ?_
  exact c_reti X B h d_M_same_44
set_option maxHeartbeats 4000000 in
set_option maxRecDepth 100000 in
theorem wk_M_beginning_4 (X : cX R_M (M_tys gC) (some .int) A p s m args meth c D b_M_beginning 3) {post : Int → MS → Prop} (K : Int → MS → Prop)
    (hK : ∀ (x1 : Int) (u : MS) (H : Heap) (locs : List Loc) (ls : Array Slot), K x1 u → cB D A s H locs (M_ws gA gC u) → lv_has ls 3 [(0, .ref (gA 0)), (1, .int (iI x1))] → W p l e (rmD 1) s m args below meth c H locs 0 0 (MQ below (cPoI D (M_ws gA gC) (M_tys gC) post A) args s 0 0 A) (F0 m 33 ls [])) :
    ∀ (n : Nat) (x1 : Int) (x2 : Int) (u : MS) (H : Heap) (locs : List Loc) (ls : Array Slot), wl_M_beginning_4 K n x1 x2 u → cB D A s H locs (M_ws gA gC u) → lv_has ls 3 [(0, .ref (gA 0)), (1, .int (iI x1)), (2, .int (iI x2))] → W p l e (rmD 1) s m args below meth c H locs 0 0 (MQ below (cPoI D (M_ws gA gC) (M_tys gC) post A) args s 0 0 A) (F0 m 4 ls []) := by
  obtain ⟨hx, hb, -⟩ := id X
  intro n
  induction n with
  | zero =>
    intro x1 x2 u H locs ls h
    rw [wl_M_beginning_4] at h
    exact h.elim
  | succ n ih =>
    intro x1 x2 u H locs ls h B hl
    rw [wl_M_beginning_4] at h
    refine lv_iload_n hx hb d_M_beginning_4 rfl (lv_at hl 2 rfl) ?_
    refine lv_aload_n hx hb d_M_beginning_5 rfl (lv_at hl 0 rfl) ?_
    refine m_get_tm X B d_M_beginning_6 ?_
    refine i_icmp_ge (tgt := 33) X h d_M_beginning_9 (by decide) (fun h => ?_) (fun h => ?_)
    · exact hK _ _ _ _ _ h B (lv_sub hl [0, 1] rfl)
    · refine lv_aload_n hx hb d_M_beginning_12 rfl (lv_at hl 0 rfl) ?_
      refine lv_iload_n hx hb d_M_beginning_13 rfl (lv_at hl 2 rfl) ?_
      refine c_calli (ci := 1) (nL := 3) (As := [.int (iI x2)]) (rest := []) X hl.1 B (fun sz => c_M_shared l D gA gC _ _ _ h sz) cw_M_M_shared (by decide) rfl (Nat.le_of_ble_eq_true rfl) rfl rfl rfl ⟨Nat.zero_le _, Nat.zero_le _⟩ d_M_beginning_14 (fun r14 u14 H locs h B => ?_)
      refine lv_aload_n hx hb d_M_beginning_17 rfl (lv_at hl 0 rfl) ?_
      refine m_get_ty X B d_M_beginning_18 ?_
      refine i_icmp_ne (tgt := 27) X h d_M_beginning_21 (by decide) (fun h => ?_) (fun h => ?_)
      · refine lv_iinc (v := iI (x2 + 1)) (lv' := [(2, .int (iI (x2 + 1))), (0, .ref (gA 0)), (1, .int (iI x1))]) hx hb d_M_beginning_27 hl (k := 2) rfl (iI_inc _ _) (by decide) rfl (fun ls hl => ?_)
        refine lv_goto (tgt := 4) hx hb d_M_beginning_30 (by decide) ?_
        exact ih _ _ _ _ _ _ h B (lv_sub hl [1, 2, 0] rfl)
      · refine lv_iinc (v := iI (x1 + 1)) (lv' := [(1, .int (iI (x1 + 1))), (0, .ref (gA 0)), (2, .int (iI x2))]) hx hb d_M_beginning_24 hl (k := 1) rfl (iI_inc _ _) (by decide) rfl (fun ls hl => ?_)
        refine lv_iinc (v := iI (x2 + 1)) (lv' := [(2, .int (iI (x2 + 1))), (1, .int (iI (x1 + 1))), (0, .ref (gA 0))]) hx hb d_M_beginning_27 hl (k := 2) rfl (iI_inc _ _) (by decide) rfl (fun ls hl => ?_)
        refine lv_goto (tgt := 4) hx hb d_M_beginning_30 (by decide) ?_
        exact ih _ _ _ _ _ _ h B (lv_sub hl [2, 1, 0] rfl)
set_option maxHeartbeats 4000000 in
set_option maxRecDepth 100000 in
theorem c_M_beginning (l : Launch) (D : va_G) (gA : Nat → Nat) (gC : Nat → ClassId) (u : MS) (post : Int → MS → Prop) (h1 : wm_M_beginning u post) (sz : Nat) : Met l y_M_beginning (Cond.code y_M_beginning b_M_beginning 3 (some .int) :: tw_tbl) (rmD 1) (cPre D (M_ws gA gC u) (M_tys gC) sz [.ref (gA 0)]) (cPoI D (M_ws gA gC) (M_tys gC) post (va_A (M_ws gA gC u) sz)) 0 0 (va_A (M_ws gA gC u) sz) := by
  refine c_enter (own := R_M) (Qc := fun A => cPoI D (M_ws gA gC) (M_tys gC) post A) (by decide) rfl [.ref (gA 0)] (Nat.le_of_ble_eq_true rfl) (fun p e s m args below meth c A ls X B hl => ?_)
  have hl : lv_has ls 3 [(0, .ref (gA 0))] := hl
  obtain ⟨hx, hb, -⟩ := id X
  have h := h1
  rw [wm_M_beginning] at h
  refine lv_iconst (v := iI 0) hx hb d_M_beginning_0 rfl ?_
  refine lv_istore_n (lv' := [(1, .int (iI 0)), (0, .ref (gA 0))]) hx hb d_M_beginning_1 rfl hl (by decide) rfl (fun ls hl => ?_)
  refine lv_iconst (v := iI 0) hx hb d_M_beginning_2 rfl ?_
  refine lv_istore_n (lv' := [(2, .int (iI 0)), (1, .int (iI 0)), (0, .ref (gA 0))]) hx hb d_M_beginning_3 rfl hl (by decide) rfl (fun ls hl => ?_)
  obtain ⟨n4, h⟩ := h
  refine wk_M_beginning_4 X _ (fun y33_1 u33 H locs ls h B hl => ?_) n4 _ _ _ _ _ _ h B (lv_sub hl [2, 1, 0] rfl)
  refine lv_iload_n hx hb d_M_beginning_33 rfl (lv_at hl 1 rfl) ?_
  exact c_reti X B h d_M_beginning_34
end WalkM1
end
section
section WalkM2
variable {p : Program} {l : Launch} {e : Env} {s : State} {m : MethodId} {args : Array Value} {below : List Frame} {meth : Method} {c : Code} {D : va_G} {gA : Nat → Nat} {gC : Nat → ClassId} {A : Nat → Prop}
set_option maxHeartbeats 4000000 in
set_option maxRecDepth 100000 in
theorem wk_M_common_4 (X : cX R_M (M_tys gC) (some .int) A p s m args meth c D b_M_common 4) {post : Int → MS → Prop} (K : Int → MS → Prop)
    (hK : ∀ (x1 : Int) (u : MS) (H : Heap) (locs : List Loc) (ls : Array Slot), K x1 u → cB D A s H locs (M_ws gA gC u) → lv_has ls 4 [(0, .ref (gA 0)), (1, .int (iI x1))] → W p l e (rmD 1) s m args below meth c H locs 0 0 (MQ below (cPoI D (M_ws gA gC) (M_tys gC) post A) args s 0 0 A) (F0 m 31 ls [])) :
    ∀ (n : Nat) (x1 : Int) (x2 : Int) (u : MS) (H : Heap) (locs : List Loc) (ls : Array Slot), wl_M_common_4 K n x1 x2 u → cB D A s H locs (M_ws gA gC u) → lv_has ls 4 [(0, .ref (gA 0)), (1, .int (iI x1)), (2, .int (iI x2))] → W p l e (rmD 1) s m args below meth c H locs 0 0 (MQ below (cPoI D (M_ws gA gC) (M_tys gC) post A) args s 0 0 A) (F0 m 4 ls []) := by
  obtain ⟨hx, hb, -⟩ := id X
  intro n
  induction n with
  | zero =>
    intro x1 x2 u H locs ls h
    rw [wl_M_common_4] at h
    exact h.elim
  | succ n ih =>
    intro x1 x2 u H locs ls h B hl
    rw [wl_M_common_4] at h
    refine lv_iload_n hx hb d_M_common_4 rfl (lv_at hl 2 rfl) ?_
    refine lv_aload_n hx hb d_M_common_5 rfl (lv_at hl 0 rfl) ?_
    refine m_get_tm X B d_M_common_6 ?_
    refine i_icmp_ge (tgt := 31) X h d_M_common_9 (by decide) (fun h => ?_) (fun h => ?_)
    · exact hK _ _ _ _ _ h B (lv_sub hl [0, 1] rfl)
    · refine lv_aload_n hx hb d_M_common_12 rfl (lv_at hl 0 rfl) ?_
      refine lv_iload_n hx hb d_M_common_13 rfl (lv_at hl 2 rfl) ?_
      refine c_calli (ci := 1) (nL := 4) (As := [.int (iI x2)]) (rest := []) X hl.1 B (fun sz => c_M_shared l D gA gC _ _ _ h sz) cw_M_M_shared (by decide) rfl (Nat.le_of_ble_eq_true rfl) rfl rfl rfl ⟨Nat.zero_le _, Nat.zero_le _⟩ d_M_common_14 (fun r14 u14 H locs h B => ?_)
      refine lv_istore_n (lv' := [(3, .int (iI r14)), (0, .ref (gA 0)), (1, .int (iI x1)), (2, .int (iI x2))]) hx hb d_M_common_17 rfl hl (by decide) rfl (fun ls hl => ?_)
      refine lv_iload_n hx hb d_M_common_18 rfl (lv_at hl 0 rfl) ?_
      refine lv_iload_n hx hb d_M_common_19 rfl (lv_at hl 2 rfl) ?_
      refine i_icmp_le (tgt := 25) X h d_M_common_20 (by decide) (fun h => ?_) (fun h => ?_)
      · refine lv_iinc (v := iI (x2 + 1)) (lv' := [(2, .int (iI (x2 + 1))), (3, .int (iI r14)), (0, .ref (gA 0)), (1, .int (iI x1))]) hx hb d_M_common_25 hl (k := 3) rfl (iI_inc _ _) (by decide) rfl (fun ls hl => ?_)
        refine lv_goto (tgt := 4) hx hb d_M_common_28 (by decide) ?_
        exact ih _ _ _ _ _ _ h B (lv_sub hl [2, 3, 0] rfl)
      · refine lv_iload_n hx hb d_M_common_23 rfl (lv_at hl 0 rfl) ?_
        refine lv_istore_n (lv' := [(1, .int (iI r14)), (3, .int (iI r14)), (0, .ref (gA 0)), (2, .int (iI x2))]) hx hb d_M_common_24 rfl hl (by decide) rfl (fun ls hl => ?_)
        refine lv_iinc (v := iI (x2 + 1)) (lv' := [(2, .int (iI (x2 + 1))), (1, .int (iI r14)), (3, .int (iI r14)), (0, .ref (gA 0))]) hx hb d_M_common_25 hl (k := 3) rfl (iI_inc _ _) (by decide) rfl (fun ls hl => ?_)
        refine lv_goto (tgt := 4) hx hb d_M_common_28 (by decide) ?_
        exact ih _ _ _ _ _ _ h B (lv_sub hl [3, 1, 0] rfl)
set_option maxHeartbeats 4000000 in
set_option maxRecDepth 100000 in
theorem c_M_common (l : Launch) (D : va_G) (gA : Nat → Nat) (gC : Nat → ClassId) (u : MS) (post : Int → MS → Prop) (h1 : wm_M_common u post) (sz : Nat) : Met l y_M_common (Cond.code y_M_common b_M_common 4 (some .int) :: tw_tbl) (rmD 1) (cPre D (M_ws gA gC u) (M_tys gC) sz [.ref (gA 0)]) (cPoI D (M_ws gA gC) (M_tys gC) post (va_A (M_ws gA gC u) sz)) 0 0 (va_A (M_ws gA gC u) sz) := by
  refine c_enter (own := R_M) (Qc := fun A => cPoI D (M_ws gA gC) (M_tys gC) post A) (by decide) rfl [.ref (gA 0)] (Nat.le_of_ble_eq_true rfl) (fun p e s m args below meth c A ls X B hl => ?_)
  have hl : lv_has ls 4 [(0, .ref (gA 0))] := hl
  obtain ⟨hx, hb, -⟩ := id X
  have h := h1
  rw [wm_M_common] at h
  refine lv_iconst (v := iI (-1)) hx hb d_M_common_0 rfl ?_
  refine lv_istore_n (lv' := [(1, .int (iI (-1))), (0, .ref (gA 0))]) hx hb d_M_common_1 rfl hl (by decide) rfl (fun ls hl => ?_)
  refine lv_iconst (v := iI 0) hx hb d_M_common_2 rfl ?_
  refine lv_istore_n (lv' := [(2, .int (iI 0)), (1, .int (iI (-1))), (0, .ref (gA 0))]) hx hb d_M_common_3 rfl hl (by decide) rfl (fun ls hl => ?_)
  obtain ⟨n4, h⟩ := h
  refine wk_M_common_4 X _ (fun y31_1 u31 H locs ls h B hl => ?_) n4 _ _ _ _ _ _ h B (lv_sub hl [2, 1, 0] rfl)
  refine lv_iload_n hx hb d_M_common_31 rfl (lv_at hl 1 rfl) ?_
  exact c_reti X B h d_M_common_32
set_option maxHeartbeats 4000000 in
set_option maxRecDepth 100000 in
theorem wk_M_load_31 (X : cX R_M (M_tys gC) (some .int) A p s m args meth c D b_M_load 4) (x2 : Int) {post : Int → MS → Prop} (K : MS → Prop)
    (hK : ∀ (u : MS) (H : Heap) (locs : List Loc) (ls : Array Slot), K u → cB D A s H locs (M_ws gA gC u) → lv_has ls 4 [(0, .ref (gA 0))] → W p l e (rmD 2) s m args below meth c H locs 0 0 (MQ below (cPoI D (M_ws gA gC) (M_tys gC) post A) args s 0 0 A) (F0 m 62 ls [])) :
    ∀ (n : Nat) (x3 : Int) (u : MS) (H : Heap) (locs : List Loc) (ls : Array Slot), wl_M_load_31 x2 K n x3 u → cB D A s H locs (M_ws gA gC u) → lv_has ls 4 [(0, .ref (gA 0)), (2, .int (iI x2)), (3, .int (iI x3))] → W p l e (rmD 2) s m args below meth c H locs 0 0 (MQ below (cPoI D (M_ws gA gC) (M_tys gC) post A) args s 0 0 A) (F0 m 31 ls []) := by
  obtain ⟨hx, hb, -⟩ := id X
  intro n
  induction n with
  | zero =>
    intro x3 u H locs ls h
    rw [wl_M_load_31] at h
    exact h.elim
  | succ n ih =>
    intro x3 u H locs ls h B hl
    rw [wl_M_load_31] at h
    refine lv_iload_n hx hb d_M_load_31 rfl (lv_at hl 2 rfl) ?_
    refine lv_aload_n hx hb d_M_load_32 rfl (lv_at hl 0 rfl) ?_
    refine m_get_ty X B d_M_load_33 ?_
    refine i_icmp_ge (tgt := 62) X h d_M_load_36 (by decide) (fun h => ?_) (fun h => ?_)
    · exact hK _ _ _ _ h B (lv_sub hl [0] rfl)
    · refine lv_aload_n hx hb d_M_load_39 rfl (lv_at hl 0 rfl) ?_
      refine m_get_key X B d_M_load_40 ?_
      refine lv_iload_n hx hb d_M_load_43 rfl (lv_at hl 2 rfl) ?_
      refine lv_aload_n hx hb d_M_load_44 rfl (lv_at hl 0 rfl) ?_
      refine m_get_let X B d_M_load_45 ?_
      refine lv_bipush (v := iI 6) hx hb d_M_load_48 (by decide) ?_
      refine lv_iload_n hx hb d_M_load_50 rfl (lv_at hl 1 rfl) ?_
      refine i_imul X d_M_load_51 ?_
      refine lv_iload_n hx hb d_M_load_52 rfl (lv_at hl 2 rfl) ?_
      refine i_iadd X d_M_load_53 ?_
      refine m_ld_let X B h d_M_load_54 (fun v54 h => ?_)
      refine m_st_key X B h d_M_load_55 (fun u55 H locs h B => ?_)
      refine lv_iinc (v := iI (x3 + 1)) (lv' := [(3, .int (iI (x3 + 1))), (0, .ref (gA 0)), (2, .int (iI x2))]) hx hb d_M_load_56 hl (k := 2) rfl (iI_inc _ _) (by decide) rfl (fun ls hl => ?_)
      refine lv_goto (tgt := 31) hx hb d_M_load_59 (by decide) ?_
      exact ih _ _ _ _ _ h B (lv_sub hl [1, 2, 0] rfl)
set_option maxHeartbeats 4000000 in
set_option maxRecDepth 100000 in
theorem wk_M_load_2 (X : cX R_M (M_tys gC) (some .int) A p s m args meth c D b_M_load 4) (x1 : Int) {post : Int → MS → Prop} (K : MS → Prop)
    (hK : ∀ (u : MS) (H : Heap) (locs : List Loc) (ls : Array Slot), K u → cB D A s H locs (M_ws gA gC u) → lv_has ls 4 [(0, .ref (gA 0))] → W p l e (rmD 2) s m args below meth c H locs 0 0 (MQ below (cPoI D (M_ws gA gC) (M_tys gC) post A) args s 0 0 A) (F0 m 73 ls [])) :
    ∀ (n : Nat) (x2 : Int) (u : MS) (H : Heap) (locs : List Loc) (ls : Array Slot), wl_M_load_2 x1 post K n x2 u → cB D A s H locs (M_ws gA gC u) → lv_has ls 4 [(0, .ref (gA 0)), (1, .int (iI x1)), (2, .int (iI x2))] → W p l e (rmD 2) s m args below meth c H locs 0 0 (MQ below (cPoI D (M_ws gA gC) (M_tys gC) post A) args s 0 0 A) (F0 m 2 ls []) := by
  obtain ⟨hx, hb, -⟩ := id X
  intro n
  induction n with
  | zero =>
    intro x2 u H locs ls h
    rw [wl_M_load_2] at h
    exact h.elim
  | succ n ih =>
    intro x2 u H locs ls h B hl
    rw [wl_M_load_2] at h
    refine lv_iload_n hx hb d_M_load_2 rfl (lv_at hl 2 rfl) ?_
    refine lv_aload_n hx hb d_M_load_3 rfl (lv_at hl 0 rfl) ?_
    refine m_get_tm X B d_M_load_4 ?_
    refine i_icmp_ge (tgt := 73) X h d_M_load_7 (by decide) (fun h => ?_) (fun h => ?_)
    · exact hK _ _ _ _ h B (lv_sub hl [0] rfl)
    · refine lv_aload_n hx hb d_M_load_10 rfl (lv_at hl 0 rfl) ?_
      refine lv_iload_n hx hb d_M_load_11 rfl (lv_at hl 2 rfl) ?_
      refine c_calli (ci := 1) (nL := 4) (As := [.int (iI x2)]) (rest := []) X hl.1 B (fun sz => c_M_rankOf l D gA gC _ _ _ h sz) cw_M_M_rankOf (by decide) rfl (Nat.le_of_ble_eq_true rfl) rfl rfl rfl ⟨Nat.zero_le _, Nat.zero_le _⟩ d_M_load_12 (fun r12 u12 H locs h B => ?_)
      refine lv_iload_n hx hb d_M_load_15 rfl (lv_at hl 1 rfl) ?_
      refine i_icmp_ne (tgt := 67) X h d_M_load_16 (by decide) (fun h => ?_) (fun h => ?_)
      · refine lv_iinc (v := iI (x2 + 1)) (lv' := [(2, .int (iI (x2 + 1))), (0, .ref (gA 0)), (1, .int (iI x1))]) hx hb d_M_load_67 hl (k := 2) rfl (iI_inc _ _) (by decide) rfl (fun ls hl => ?_)
        refine lv_goto (tgt := 2) hx hb d_M_load_70 (by decide) ?_
        exact ih _ _ _ _ _ h B (lv_sub hl [1, 2, 0] rfl)
      · refine lv_aload_n hx hb d_M_load_19 rfl (lv_at hl 0 rfl) ?_
        refine lv_aload_n hx hb d_M_load_20 rfl (lv_at hl 0 rfl) ?_
        refine m_get_len X B d_M_load_21 ?_
        refine lv_iload_n hx hb d_M_load_24 rfl (lv_at hl 2 rfl) ?_
        refine m_ld_len X B h d_M_load_25 (fun v25 h => ?_)
        refine m_put_ty X B h d_M_load_26 (fun u26 H locs h B => ?_)
        refine lv_iconst (v := iI 0) hx hb d_M_load_29 rfl ?_
        refine lv_istore_n (lv' := [(3, .int (iI 0)), (0, .ref (gA 0)), (1, .int (iI x1)), (2, .int (iI x2))]) hx hb d_M_load_30 rfl hl (by decide) rfl (fun ls hl => ?_)
        obtain ⟨n31, h⟩ := h
        refine wk_M_load_31 X _ _ (fun u62 H locs ls h B hl => ?_) n31 _ _ _ _ _ h B (lv_sub hl [1, 3, 0] rfl)
        refine lv_aload_n hx hb d_M_load_62 rfl (lv_at hl 0 rfl) ?_
        refine m_get_ty X B d_M_load_63 ?_
        exact c_reti X B h d_M_load_66
set_option maxHeartbeats 4000000 in
set_option maxRecDepth 100000 in
theorem c_M_load (l : Launch) (D : va_G) (gA : Nat → Nat) (gC : Nat → ClassId) (u : MS) (x1 : Int) (post : Int → MS → Prop) (h1 : wm_M_load x1 u post) (sz : Nat) : Met l y_M_load (Cond.code y_M_load b_M_load 4 (some .int) :: tw_tbl) (rmD 2) (cPre D (M_ws gA gC u) (M_tys gC) sz [.ref (gA 0), .int (iI x1)]) (cPoI D (M_ws gA gC) (M_tys gC) post (va_A (M_ws gA gC u) sz)) 0 0 (va_A (M_ws gA gC u) sz) := by
  refine c_enter (own := R_M) (Qc := fun A => cPoI D (M_ws gA gC) (M_tys gC) post A) (by decide) rfl [.ref (gA 0), .int (iI x1)] (Nat.le_of_ble_eq_true rfl) (fun p e s m args below meth c A ls X B hl => ?_)
  have hl : lv_has ls 4 [(0, .ref (gA 0)), (1, .int (iI x1))] := hl
  obtain ⟨hx, hb, -⟩ := id X
  have h := h1
  rw [wm_M_load] at h
  refine lv_iconst (v := iI 0) hx hb d_M_load_0 rfl ?_
  refine lv_istore_n (lv' := [(2, .int (iI 0)), (0, .ref (gA 0)), (1, .int (iI x1))]) hx hb d_M_load_1 rfl hl (by decide) rfl (fun ls hl => ?_)
  obtain ⟨n2, h⟩ := h
  refine wk_M_load_2 X _ _ (fun u73 H locs ls h B hl => ?_) n2 _ _ _ _ _ h B (lv_sub hl [1, 2, 0] rfl)
  refine lv_iconst (v := iI (-1)) hx hb d_M_load_73 rfl ?_
  exact c_reti X B h d_M_load_74
set_option maxHeartbeats 4000000 in
set_option maxRecDepth 100000 in
theorem wk_M_before_4 (X : cX R_M (M_tys gC) (some .int) A p s m args meth c D b_M_before 3) {post : Int → MS → Prop} (K : Int → MS → Prop)
    (hK : ∀ (x1 : Int) (u : MS) (H : Heap) (locs : List Loc) (ls : Array Slot), K x1 u → cB D A s H locs (M_ws gA gC u) → lv_has ls 3 [(0, .ref (gA 0)), (1, .int (iI x1))] → W p l e (rmD 2) s m args below meth c H locs 0 0 (MQ below (cPoI D (M_ws gA gC) (M_tys gC) post A) args s 0 0 A) (F0 m 29 ls [])) :
    ∀ (n : Nat) (x1 : Int) (x2 : Int) (u : MS) (H : Heap) (locs : List Loc) (ls : Array Slot), wl_M_before_4 K n x1 x2 u → cB D A s H locs (M_ws gA gC u) → lv_has ls 3 [(0, .ref (gA 0)), (1, .int (iI x1)), (2, .int (iI x2))] → W p l e (rmD 2) s m args below meth c H locs 0 0 (MQ below (cPoI D (M_ws gA gC) (M_tys gC) post A) args s 0 0 A) (F0 m 4 ls []) := by
  obtain ⟨hx, hb, -⟩ := id X
  intro n
  induction n with
  | zero =>
    intro x1 x2 u H locs ls h
    rw [wl_M_before_4] at h
    exact h.elim
  | succ n ih =>
    intro x1 x2 u H locs ls h B hl
    rw [wl_M_before_4] at h
    refine lv_iload_n hx hb d_M_before_4 rfl (lv_at hl 2 rfl) ?_
    refine lv_aload_n hx hb d_M_before_5 rfl (lv_at hl 0 rfl) ?_
    refine m_get_tm X B d_M_before_6 ?_
    refine i_icmp_ge (tgt := 29) X h d_M_before_9 (by decide) (fun h => ?_) (fun h => ?_)
    · exact hK _ _ _ _ _ h B (lv_sub hl [0, 1] rfl)
    · refine lv_aload_n hx hb d_M_before_12 rfl (lv_at hl 0 rfl) ?_
      refine lv_iload_n hx hb d_M_before_13 rfl (lv_at hl 2 rfl) ?_
      refine c_calli (ci := 1) (nL := 3) (As := [.int (iI x2)]) (rest := []) X hl.1 B (fun sz => c_M_precedes l D gA gC _ _ _ h sz) cw_M_M_precedes (by decide) rfl (Nat.le_of_ble_eq_true rfl) rfl rfl rfl ⟨Nat.zero_le _, Nat.zero_le _⟩ d_M_before_14 (fun r14 u14 H locs h B => ?_)
      refine i_if_eq (tgt := 23) X h d_M_before_17 (by decide) (fun h => ?_) (fun h => ?_)
      · refine lv_iinc (v := iI (x2 + 1)) (lv' := [(2, .int (iI (x2 + 1))), (0, .ref (gA 0)), (1, .int (iI x1))]) hx hb d_M_before_23 hl (k := 2) rfl (iI_inc _ _) (by decide) rfl (fun ls hl => ?_)
        refine lv_goto (tgt := 4) hx hb d_M_before_26 (by decide) ?_
        exact ih _ _ _ _ _ _ h B (lv_sub hl [1, 2, 0] rfl)
      · refine lv_iinc (v := iI (x1 + 1)) (lv' := [(1, .int (iI (x1 + 1))), (0, .ref (gA 0)), (2, .int (iI x2))]) hx hb d_M_before_20 hl (k := 1) rfl (iI_inc _ _) (by decide) rfl (fun ls hl => ?_)
        refine lv_iinc (v := iI (x2 + 1)) (lv' := [(2, .int (iI (x2 + 1))), (1, .int (iI (x1 + 1))), (0, .ref (gA 0))]) hx hb d_M_before_23 hl (k := 2) rfl (iI_inc _ _) (by decide) rfl (fun ls hl => ?_)
        refine lv_goto (tgt := 4) hx hb d_M_before_26 (by decide) ?_
        exact ih _ _ _ _ _ _ h B (lv_sub hl [2, 1, 0] rfl)
set_option maxHeartbeats 4000000 in
set_option maxRecDepth 100000 in
theorem c_M_before (l : Launch) (D : va_G) (gA : Nat → Nat) (gC : Nat → ClassId) (u : MS) (post : Int → MS → Prop) (h1 : wm_M_before u post) (sz : Nat) : Met l y_M_before (Cond.code y_M_before b_M_before 3 (some .int) :: tw_tbl) (rmD 2) (cPre D (M_ws gA gC u) (M_tys gC) sz [.ref (gA 0)]) (cPoI D (M_ws gA gC) (M_tys gC) post (va_A (M_ws gA gC u) sz)) 0 0 (va_A (M_ws gA gC u) sz) := by
  refine c_enter (own := R_M) (Qc := fun A => cPoI D (M_ws gA gC) (M_tys gC) post A) (by decide) rfl [.ref (gA 0)] (Nat.le_of_ble_eq_true rfl) (fun p e s m args below meth c A ls X B hl => ?_)
  have hl : lv_has ls 3 [(0, .ref (gA 0))] := hl
  obtain ⟨hx, hb, -⟩ := id X
  have h := h1
  rw [wm_M_before] at h
  refine lv_iconst (v := iI 0) hx hb d_M_before_0 rfl ?_
  refine lv_istore_n (lv' := [(1, .int (iI 0)), (0, .ref (gA 0))]) hx hb d_M_before_1 rfl hl (by decide) rfl (fun ls hl => ?_)
  refine lv_iconst (v := iI 0) hx hb d_M_before_2 rfl ?_
  refine lv_istore_n (lv' := [(2, .int (iI 0)), (1, .int (iI 0)), (0, .ref (gA 0))]) hx hb d_M_before_3 rfl hl (by decide) rfl (fun ls hl => ?_)
  obtain ⟨n4, h⟩ := h
  refine wk_M_before_4 X _ (fun y29_1 u29 H locs ls h B hl => ?_) n4 _ _ _ _ _ _ h B (lv_sub hl [2, 1, 0] rfl)
  refine lv_iload_n hx hb d_M_before_29 rfl (lv_at hl 1 rfl) ?_
  exact c_reti X B h d_M_before_30
set_option maxHeartbeats 4000000 in
set_option maxRecDepth 100000 in
theorem c_M_held (l : Launch) (D : va_G) (gA : Nat → Nat) (gC : Nat → ClassId) (u : MS) (post : Int → MS → Prop) (h1 : wm_M_held u post) (sz : Nat) : Met l y_M_held (Cond.code y_M_held b_M_held 1 (some .boolean) :: tw_tbl) (rmD 2) (cPre D (M_ws gA gC u) (M_tys gC) sz [.ref (gA 0)]) (cPoI D (M_ws gA gC) (M_tys gC) post (va_A (M_ws gA gC u) sz)) 0 0 (va_A (M_ws gA gC u) sz) := by
  refine c_enter (own := R_M) (Qc := fun A => cPoI D (M_ws gA gC) (M_tys gC) post A) (by decide) rfl [.ref (gA 0)] (Nat.le_of_ble_eq_true rfl) (fun p e s m args below meth c A ls X B hl => ?_)
  have hl : lv_has ls 1 [(0, .ref (gA 0))] := hl
  obtain ⟨hx, hb, -⟩ := id X
  have h := h1
  rw [wm_M_held] at h
  refine lv_aload_n hx hb d_M_held_0 rfl (lv_at hl 0 rfl) ?_
  refine c_calli (ci := 1) (nL := 1) (As := []) (rest := []) X hl.1 B (fun sz => c_M_same l D gA gC _ _ h sz) cw_M_M_same (by decide) rfl (Nat.le_of_ble_eq_true rfl) rfl rfl rfl ⟨Nat.zero_le _, Nat.zero_le _⟩ d_M_held_1 (fun r1 u1 H locs h B => ?_)
  refine i_if_lt (tgt := 11) X h d_M_held_4 (by decide) (fun h => ?_) (fun h => ?_)
  · refine lv_iconst (v := iI 0) hx hb d_M_held_11 rfl ?_
    exact c_retz X B h.1 h.2 d_M_held_12
  · refine lv_iconst (v := iI 1) hx hb d_M_held_7 rfl ?_
    refine lv_goto (tgt := 12) hx hb d_M_held_8 (by decide) ?_
    exact c_retz X B h.1 h.2 d_M_held_12
set_option maxHeartbeats 4000000 in
set_option maxRecDepth 100000 in
theorem wk_M_insert_40 (X : cX R_M (M_tys gC) (some .int) A p s m args meth c D b_M_insert 2) {post : Int → MS → Prop} (K : MS → Prop)
    (hK : ∀ (u : MS) (H : Heap) (locs : List Loc) (ls : Array Slot), K u → cB D A s H locs (M_ws gA gC u) → lv_has ls 2 [(0, .ref (gA 0))] → W p l e (rmD 3) s m args below meth c H locs 0 0 (MQ below (cPoI D (M_ws gA gC) (M_tys gC) post A) args s 0 0 A) (F0 m 74 ls [])) :
    ∀ (n : Nat) (x1 : Int) (u : MS) (H : Heap) (locs : List Loc) (ls : Array Slot), wl_M_insert_40 K n x1 u → cB D A s H locs (M_ws gA gC u) → lv_has ls 2 [(0, .ref (gA 0)), (1, .int (iI x1))] → W p l e (rmD 3) s m args below meth c H locs 0 0 (MQ below (cPoI D (M_ws gA gC) (M_tys gC) post A) args s 0 0 A) (F0 m 40 ls []) := by
  obtain ⟨hx, hb, -⟩ := id X
  intro n
  induction n with
  | zero =>
    intro x1 u H locs ls h
    rw [wl_M_insert_40] at h
    exact h.elim
  | succ n ih =>
    intro x1 u H locs ls h B hl
    rw [wl_M_insert_40] at h
    refine lv_iload_n hx hb d_M_insert_40 rfl (lv_at hl 1 rfl) ?_
    refine lv_aload_n hx hb d_M_insert_41 rfl (lv_at hl 0 rfl) ?_
    refine m_get_ty X B d_M_insert_42 ?_
    refine i_icmp_ge (tgt := 74) X h d_M_insert_45 (by decide) (fun h => ?_) (fun h => ?_)
    · exact hK _ _ _ _ h B (lv_sub hl [0] rfl)
    · refine lv_aload_n hx hb d_M_insert_48 rfl (lv_at hl 0 rfl) ?_
      refine m_get_let X B d_M_insert_49 ?_
      refine lv_bipush (v := iI 6) hx hb d_M_insert_52 (by decide) ?_
      refine lv_aload_n hx hb d_M_insert_54 rfl (lv_at hl 0 rfl) ?_
      refine m_get_tm X B d_M_insert_55 ?_
      refine i_imul X d_M_insert_58 ?_
      refine lv_iload_n hx hb d_M_insert_59 rfl (lv_at hl 1 rfl) ?_
      refine i_iadd X d_M_insert_60 ?_
      refine lv_aload_n hx hb d_M_insert_61 rfl (lv_at hl 0 rfl) ?_
      refine m_get_key X B d_M_insert_62 ?_
      refine lv_iload_n hx hb d_M_insert_65 rfl (lv_at hl 1 rfl) ?_
      refine m_ld_key X B h d_M_insert_66 (fun v66 h => ?_)
      refine m_st_let X B h d_M_insert_67 (fun u67 H locs h B => ?_)
      refine lv_iinc (v := iI (x1 + 1)) (lv' := [(1, .int (iI (x1 + 1))), (0, .ref (gA 0))]) hx hb d_M_insert_68 hl (k := 1) rfl (iI_inc _ _) (by decide) rfl (fun ls hl => ?_)
      refine lv_goto (tgt := 40) hx hb d_M_insert_71 (by decide) ?_
      exact ih _ _ _ _ _ h B (lv_sub hl [1, 0] rfl)
set_option maxHeartbeats 4000000 in
set_option maxRecDepth 100000 in
theorem c_M_insert (l : Launch) (D : va_G) (gA : Nat → Nat) (gC : Nat → ClassId) (u : MS) (post : Int → MS → Prop) (h1 : wm_M_insert u post) (sz : Nat) : Met l y_M_insert (Cond.code y_M_insert b_M_insert 2 (some .int) :: tw_tbl) (rmD 3) (cPre D (M_ws gA gC u) (M_tys gC) sz [.ref (gA 0)]) (cPoI D (M_ws gA gC) (M_tys gC) post (va_A (M_ws gA gC u) sz)) 0 0 (va_A (M_ws gA gC u) sz) := by
  refine c_enter (own := R_M) (Qc := fun A => cPoI D (M_ws gA gC) (M_tys gC) post A) (by decide) rfl [.ref (gA 0)] (Nat.le_of_ble_eq_true rfl) (fun p e s m args below meth c A ls X B hl => ?_)
  have hl : lv_has ls 2 [(0, .ref (gA 0))] := hl
  obtain ⟨hx, hb, -⟩ := id X
  have h := h1
  rw [wm_M_insert] at h
  refine lv_aload_n hx hb d_M_insert_0 rfl (lv_at hl 0 rfl) ?_
  refine m_get_ty X B d_M_insert_1 ?_
  refine i_if_eq (tgt := 23) X h d_M_insert_4 (by decide) (fun h => ?_) (fun h => ?_)
  · refine lv_iconst (v := iI (-1)) hx hb d_M_insert_23 rfl ?_
    exact c_reti X B h d_M_insert_24
  · refine lv_aload_n hx hb d_M_insert_7 rfl (lv_at hl 0 rfl) ?_
    refine c_calli (ci := 1) (nL := 2) (As := []) (rest := []) X hl.1 B (fun sz => c_M_same l D gA gC _ _ h sz) cw_M_M_same (by decide) rfl (Nat.le_of_ble_eq_true rfl) rfl rfl rfl ⟨Nat.zero_le _, Nat.zero_le _⟩ d_M_insert_8 (fun r8 u8 H locs h B => ?_)
    refine i_if_ge (tgt := 23) X h d_M_insert_11 (by decide) (fun h => ?_) (fun h => ?_)
    · refine lv_iconst (v := iI (-1)) hx hb d_M_insert_23 rfl ?_
      exact c_reti X B h d_M_insert_24
    · refine lv_aload_n hx hb d_M_insert_14 rfl (lv_at hl 0 rfl) ?_
      refine m_get_tm X B d_M_insert_15 ?_
      refine lv_bipush (v := iI 40) hx hb d_M_insert_18 (by decide) ?_
      refine i_icmp_ne (tgt := 25) X h d_M_insert_20 (by decide) (fun h => ?_) (fun h => ?_)
      · refine lv_aload_n hx hb d_M_insert_25 rfl (lv_at hl 0 rfl) ?_
        refine m_get_len X B d_M_insert_26 ?_
        refine lv_aload_n hx hb d_M_insert_29 rfl (lv_at hl 0 rfl) ?_
        refine m_get_tm X B d_M_insert_30 ?_
        refine lv_aload_n hx hb d_M_insert_33 rfl (lv_at hl 0 rfl) ?_
        refine m_get_ty X B d_M_insert_34 ?_
        refine m_st_len X B h d_M_insert_37 (fun u37 H locs h B => ?_)
        refine lv_iconst (v := iI 0) hx hb d_M_insert_38 rfl ?_
        refine lv_istore_n (lv' := [(1, .int (iI 0)), (0, .ref (gA 0))]) hx hb d_M_insert_39 rfl hl (by decide) rfl (fun ls hl => ?_)
        obtain ⟨n40, h⟩ := h
        refine wk_M_insert_40 X _ (fun u74 H locs ls h B hl => ?_) n40 _ _ _ _ _ h B (lv_sub hl [1, 0] rfl)
        refine lv_aload_n hx hb d_M_insert_74 rfl (lv_at hl 0 rfl) ?_
        refine lv_dup hx hb d_M_insert_75 rfl ?_
        refine m_get_tm X B d_M_insert_76 ?_
        refine lv_iconst (v := iI 1) hx hb d_M_insert_79 rfl ?_
        refine i_iadd X d_M_insert_80 ?_
        refine m_put_tm X B h d_M_insert_81 (fun u81 H locs h B => ?_)
        refine lv_aload_n hx hb d_M_insert_84 rfl (lv_at hl 0 rfl) ?_
        refine c_calli (ci := 1) (nL := 2) (As := []) (rest := []) X hl.1 B (fun sz => c_M_before l D gA gC _ _ h sz) cw_M_M_before (by decide) rfl (Nat.le_of_ble_eq_true rfl) rfl rfl rfl ⟨Nat.zero_le _, Nat.zero_le _⟩ d_M_insert_85 (fun r85 u85 H locs h B => ?_)
        exact c_reti X B h d_M_insert_88
      · refine lv_iconst (v := iI (-1)) hx hb d_M_insert_23 rfl ?_
        exact c_reti X B h d_M_insert_24
set_option maxHeartbeats 4000000 in
set_option maxRecDepth 100000 in
theorem wk_M_delete_43 (X : cX R_M (M_tys gC) (some .int) A p s m args meth c D b_M_delete 4) (x1 : Int) (x2 : Int) {post : Int → MS → Prop} (K : MS → Prop)
    (hK : ∀ (u : MS) (H : Heap) (locs : List Loc) (ls : Array Slot), K u → cB D A s H locs (M_ws gA gC u) → lv_has ls 4 [(0, .ref (gA 0)), (2, .int (iI x2))] → W p l e (rmD 3) s m args below meth c H locs 0 0 (MQ below (cPoI D (M_ws gA gC) (M_tys gC) post A) args s 0 0 A) (F0 m 80 ls [])) :
    ∀ (n : Nat) (x3 : Int) (u : MS) (H : Heap) (locs : List Loc) (ls : Array Slot), wl_M_delete_43 x1 K n x3 u → cB D A s H locs (M_ws gA gC u) → lv_has ls 4 [(0, .ref (gA 0)), (1, .int (iI x1)), (2, .int (iI x2)), (3, .int (iI x3))] → W p l e (rmD 3) s m args below meth c H locs 0 0 (MQ below (cPoI D (M_ws gA gC) (M_tys gC) post A) args s 0 0 A) (F0 m 43 ls []) := by
  obtain ⟨hx, hb, -⟩ := id X
  intro n
  induction n with
  | zero =>
    intro x3 u H locs ls h
    rw [wl_M_delete_43] at h
    exact h.elim
  | succ n ih =>
    intro x3 u H locs ls h B hl
    rw [wl_M_delete_43] at h
    refine lv_iload_n hx hb d_M_delete_43 rfl (lv_at hl 3 rfl) ?_
    refine lv_bipush (v := iI 6) hx hb d_M_delete_44 (by decide) ?_
    refine i_icmp_ge (tgt := 80) X h d_M_delete_46 (by decide) (fun h => ?_) (fun h => ?_)
    · exact hK _ _ _ _ h B (lv_sub hl [0, 2] rfl)
    · refine lv_aload_n hx hb d_M_delete_49 rfl (lv_at hl 0 rfl) ?_
      refine m_get_let X B d_M_delete_50 ?_
      refine lv_bipush (v := iI 6) hx hb d_M_delete_53 (by decide) ?_
      refine lv_iload_n hx hb d_M_delete_55 rfl (lv_at hl 1 rfl) ?_
      refine i_imul X d_M_delete_56 ?_
      refine lv_iload_n hx hb d_M_delete_57 rfl (lv_at hl 3 rfl) ?_
      refine i_iadd X d_M_delete_58 ?_
      refine lv_aload_n hx hb d_M_delete_59 rfl (lv_at hl 0 rfl) ?_
      refine m_get_let X B d_M_delete_60 ?_
      refine lv_bipush (v := iI 6) hx hb d_M_delete_63 (by decide) ?_
      refine lv_aload_n hx hb d_M_delete_65 rfl (lv_at hl 0 rfl) ?_
      refine m_get_tm X B d_M_delete_66 ?_
      refine i_imul X d_M_delete_69 ?_
      refine lv_iload_n hx hb d_M_delete_70 rfl (lv_at hl 3 rfl) ?_
      refine i_iadd X d_M_delete_71 ?_
      refine m_ld_let X B h d_M_delete_72 (fun v72 h => ?_)
      refine m_st_let X B h d_M_delete_73 (fun u73 H locs h B => ?_)
      refine lv_iinc (v := iI (x3 + 1)) (lv' := [(3, .int (iI (x3 + 1))), (0, .ref (gA 0)), (1, .int (iI x1)), (2, .int (iI x2))]) hx hb d_M_delete_74 hl (k := 3) rfl (iI_inc _ _) (by decide) rfl (fun ls hl => ?_)
      refine lv_goto (tgt := 43) hx hb d_M_delete_77 (by decide) ?_
      exact ih _ _ _ _ _ h B (lv_sub hl [1, 2, 3, 0] rfl)
set_option maxHeartbeats 4000000 in
set_option maxRecDepth 100000 in
theorem c_M_delete (l : Launch) (D : va_G) (gA : Nat → Nat) (gC : Nat → ClassId) (u : MS) (post : Int → MS → Prop) (h1 : wm_M_delete u post) (sz : Nat) : Met l y_M_delete (Cond.code y_M_delete b_M_delete 4 (some .int) :: tw_tbl) (rmD 3) (cPre D (M_ws gA gC u) (M_tys gC) sz [.ref (gA 0)]) (cPoI D (M_ws gA gC) (M_tys gC) post (va_A (M_ws gA gC u) sz)) 0 0 (va_A (M_ws gA gC u) sz) := by
  refine c_enter (own := R_M) (Qc := fun A => cPoI D (M_ws gA gC) (M_tys gC) post A) (by decide) rfl [.ref (gA 0)] (Nat.le_of_ble_eq_true rfl) (fun p e s m args below meth c A ls X B hl => ?_)
  have hl : lv_has ls 4 [(0, .ref (gA 0))] := hl
  obtain ⟨hx, hb, -⟩ := id X
  have h := h1
  rw [wm_M_delete] at h
  refine lv_aload_n hx hb d_M_delete_0 rfl (lv_at hl 0 rfl) ?_
  refine c_calli (ci := 1) (nL := 4) (As := []) (rest := []) X hl.1 B (fun sz => c_M_same l D gA gC _ _ h sz) cw_M_M_same (by decide) rfl (Nat.le_of_ble_eq_true rfl) rfl rfl rfl ⟨Nat.zero_le _, Nat.zero_le _⟩ d_M_delete_1 (fun r1 u1 H locs h B => ?_)
  refine lv_istore_n (lv' := [(1, .int (iI r1)), (0, .ref (gA 0))]) hx hb d_M_delete_4 rfl hl (by decide) rfl (fun ls hl => ?_)
  refine lv_iload_n hx hb d_M_delete_5 rfl (lv_at hl 0 rfl) ?_
  refine i_if_ge (tgt := 11) X h d_M_delete_6 (by decide) (fun h => ?_) (fun h => ?_)
  · refine lv_aload_n hx hb d_M_delete_11 rfl (lv_at hl 1 rfl) ?_
    refine c_calli (ci := 1) (nL := 4) (As := []) (rest := []) X hl.1 B (fun sz => c_M_before l D gA gC _ _ h sz) cw_M_M_before (by decide) rfl (Nat.le_of_ble_eq_true rfl) rfl rfl rfl ⟨Nat.zero_le _, Nat.zero_le _⟩ d_M_delete_12 (fun r12 u12 H locs h B => ?_)
    refine lv_istore_n (lv' := [(2, .int (iI r12)), (1, .int (iI r1)), (0, .ref (gA 0))]) hx hb d_M_delete_15 rfl hl (by decide) rfl (fun ls hl => ?_)
    refine lv_aload_n hx hb d_M_delete_16 rfl (lv_at hl 2 rfl) ?_
    refine lv_dup hx hb d_M_delete_17 rfl ?_
    refine m_get_tm X B d_M_delete_18 ?_
    refine lv_iconst (v := iI 1) hx hb d_M_delete_21 rfl ?_
    refine i_isub X d_M_delete_22 ?_
    refine m_put_tm X B h d_M_delete_23 (fun u23 H locs h B => ?_)
    refine lv_aload_n hx hb d_M_delete_26 rfl (lv_at hl 2 rfl) ?_
    refine m_get_len X B d_M_delete_27 ?_
    refine lv_iload_n hx hb d_M_delete_30 rfl (lv_at hl 1 rfl) ?_
    refine lv_aload_n hx hb d_M_delete_31 rfl (lv_at hl 2 rfl) ?_
    refine m_get_len X B d_M_delete_32 ?_
    refine lv_aload_n hx hb d_M_delete_35 rfl (lv_at hl 2 rfl) ?_
    refine m_get_tm X B d_M_delete_36 ?_
    refine m_ld_len X B h d_M_delete_39 (fun v39 h => ?_)
    refine m_st_len X B h d_M_delete_40 (fun u40 H locs h B => ?_)
    refine lv_iconst (v := iI 0) hx hb d_M_delete_41 rfl ?_
    refine lv_istore_n (lv' := [(3, .int (iI 0)), (2, .int (iI r12)), (1, .int (iI r1)), (0, .ref (gA 0))]) hx hb d_M_delete_42 rfl hl (by decide) rfl (fun ls hl => ?_)
    obtain ⟨n43, h⟩ := h
    refine wk_M_delete_43 X _ _ _ (fun u80 H locs ls h B hl => ?_) n43 _ _ _ _ _ h B (lv_sub hl [3, 2, 1, 0] rfl)
    refine lv_iload_n hx hb d_M_delete_80 rfl (lv_at hl 1 rfl) ?_
    exact c_reti X B h d_M_delete_81
  · refine lv_iconst (v := iI (-1)) hx hb d_M_delete_9 rfl ?_
    exact c_reti X B h d_M_delete_10
end WalkM2
end
section
/-! plain: terms as lists of letters; common beginning, order -/
def tx_cp : List Int → List Int → Nat
  | a :: as, b :: bs => if a = b then tx_cp as bs + 1 else 0
  | _, _ => 0
/-- the term (first) counts as less than the key (second); past: one that begins with the key does too -/
def tx_lp (past : Bool) : List Int → List Int → Bool
  | _, [] => past
  | [], _ :: _ => true
  | a :: as, b :: bs => if a = b then tx_lp past as bs else decide (a < b)
theorem cp_nil_l (t : List Int) : tx_cp [] t = 0 := by cases t <;> rfl
theorem cp_nil_r (s : List Int) : tx_cp s [] = 0 := by cases s <;> rfl
theorem cp_cons (a b : Int) (as bs : List Int) : tx_cp (a :: as) (b :: bs) = if a = b then tx_cp as bs + 1 else 0 := rfl
theorem lp_nil (p : Bool) (t : List Int) : tx_lp p t [] = p := by cases t <;> rfl
theorem lp_nil_cons (p : Bool) (b : Int) (bs : List Int) : tx_lp p [] (b :: bs) = true := rfl
theorem lp_cons (p : Bool) (a b : Int) (as bs : List Int) : tx_lp p (a :: as) (b :: bs) = if a = b then tx_lp p as bs else decide (a < b) := rfl
theorem cp_le (s : List Int) : ∀ t : List Int, tx_cp s t ≤ s.length ∧ tx_cp s t ≤ t.length := by
  induction s with
  | nil => intro t; rw [cp_nil_l]; exact ⟨Nat.zero_le _, Nat.zero_le _⟩
  | cons a as ih =>
    intro t
    cases t with
    | nil => rw [cp_nil_r]; exact ⟨Nat.zero_le _, Nat.zero_le _⟩
    | cons b bs =>
      rw [cp_cons]
      split
      · have := ih bs
        simp only [List.length_cons]
        omega
      · exact ⟨Nat.zero_le _, Nat.zero_le _⟩
theorem cp_agree (s : List Int) : ∀ (t : List Int) (i : Nat), i < tx_cp s t → s.getD i 0 = t.getD i 0 := by
  induction s with
  | nil => intro t i h; rw [cp_nil_l] at h; omega
  | cons a as ih =>
    intro t i h
    cases t with
    | nil => rw [cp_nil_r] at h; omega
    | cons b bs =>
      rw [cp_cons] at h
      split at h
      · rename_i hab
        cases i with
        | zero => simpa using hab
        | succ i => simpa using ih bs i (by omega)
      · omega
theorem cp_stop (s : List Int) : ∀ t : List Int, tx_cp s t < s.length → tx_cp s t < t.length → s.getD (tx_cp s t) 0 ≠ t.getD (tx_cp s t) 0 := by
  induction s with
  | nil => intro t h; simp at h
  | cons a as ih =>
    intro t h1 h2
    cases t with
    | nil => simp at h2
    | cons b bs =>
      rw [cp_cons] at h1 h2 ⊢
      by_cases hab : a = b
      · simp only [if_pos hab, List.length_cons] at h1 h2 ⊢
        simpa using ih bs (by omega) (by omega)
      · simpa [if_neg hab] using hab
theorem cp_step {s t : List Int} {m : Nat} (h : m ≤ tx_cp s t) (h1 : m < s.length) (h2 : m < t.length) (he : s.getD m 0 = t.getD m 0) : m + 1 ≤ tx_cp s t := by
  rcases Nat.lt_or_ge m (tx_cp s t) with q | q
  · exact q
  · have e : m = tx_cp s t := by omega
    subst e
    exact absurd he (cp_stop s t h1 h2)
theorem cp_end {s t : List Int} {m : Nat} (h : m ≤ tx_cp s t) (h1 : s.length ≤ m ∨ t.length ≤ m ∨ s.getD m 0 ≠ t.getD m 0) : tx_cp s t = m := by
  have h2 := cp_le s t
  rcases h1 with h1 | h1 | h1
  · omega
  · omega
  · rcases Nat.lt_or_ge m (tx_cp s t) with q | q
    · exact absurd (cp_agree s t m q) h1
    · omega
theorem cp_self (t : List Int) : tx_cp t t = t.length := by
  induction t with
  | nil => rfl
  | cons a as ih => rw [cp_cons, if_pos rfl, ih]; rfl
theorem cp_full (s : List Int) : ∀ t : List Int, tx_cp s t = s.length → tx_cp s t = t.length → s = t := by
  induction s with
  | nil =>
    intro t h1 h2
    rw [cp_nil_l] at h2
    exact (List.length_eq_zero_iff.mp h2.symm).symm
  | cons a as ih =>
    intro t h1 h2
    cases t with
    | nil => rw [cp_nil_r] at h1; simp at h1
    | cons b bs =>
      rw [cp_cons] at h1 h2
      by_cases hab : a = b
      · rw [if_pos hab] at h1 h2
        simp only [List.length_cons] at h1 h2
        rw [hab, ih bs (by omega) (by omega)]
      · rw [if_neg hab] at h1
        simp at h1
theorem lp_cp (p : Bool) (t : List Int) : ∀ K : List Int, tx_lp p t K = if tx_cp t K = K.length then p else (decide (tx_cp t K = t.length) || decide (t.getD (tx_cp t K) 0 < K.getD (tx_cp t K) 0)) := by
  induction t with
  | nil =>
    intro K
    cases K with
    | nil => rfl
    | cons b bs => rw [lp_nil_cons, cp_nil_l]; simp
  | cons a as ih =>
    intro K
    cases K with
    | nil => rw [lp_nil, cp_nil_r]; simp
    | cons b bs =>
      rw [lp_cons, cp_cons]
      by_cases hab : a = b
      · simp only [if_pos hab, ih bs, List.length_cons, Nat.add_right_cancel_iff, List.getD_cons_succ]
      · simp [if_neg hab]
theorem lp_mono (p : Bool) (s : List Int) : ∀ t K : List Int, tx_lp false s t = true → tx_lp p t K = true → tx_lp p s K = true := by
  induction s with
  | nil =>
    intro t K h1 h2
    cases K with
    | nil => rw [lp_nil] at h2 ⊢; exact h2
    | cons b bs => rfl
  | cons a as ih =>
    intro t K h1 h2
    cases K with
    | nil => rw [lp_nil] at h2 ⊢; exact h2
    | cons b bs =>
      cases t with
      | nil => rw [lp_nil] at h1; cases h1
      | cons c cs =>
        rw [lp_cons] at h1 h2 ⊢
        by_cases hac : a = c
        · rw [if_pos hac] at h1
          subst hac
          by_cases hab : a = b
          · rw [if_pos hab] at h2 ⊢
            exact ih cs bs h1 h2
          · rw [if_neg hab] at h2 ⊢
            exact h2
        · rw [if_neg hac] at h1
          have h1 := of_decide_eq_true h1
          by_cases hcb : c = b
          · rw [if_neg (by omega)]
            exact decide_eq_true (by omega)
          · rw [if_neg hcb] at h2
            have h2 := of_decide_eq_true h2
            rw [if_neg (by omega)]
            exact decide_eq_true (by omega)
theorem lp_irr (t : List Int) : tx_lp false t t = false := by
  induction t with
  | nil => rfl
  | cons a as ih => rw [lp_cons, if_pos rfl, ih]
theorem lp_tot (s : List Int) : ∀ t : List Int, s ≠ t → tx_lp false s t = true ∨ tx_lp false t s = true := by
  induction s with
  | nil =>
    intro t h
    cases t with
    | nil => exact absurd rfl h
    | cons b bs => exact Or.inl rfl
  | cons a as ih =>
    intro t h
    cases t with
    | nil => exact Or.inr rfl
    | cons b bs =>
      rw [lp_cons, lp_cons]
      by_cases hab : a = b
      · subst hab
        rw [if_pos rfl, if_pos rfl]
        exact ih bs (fun e => h (by rw [e]))
      · rw [if_neg hab, if_neg (fun e => hab e.symm)]
        rcases Int.lt_or_gt_of_ne hab with q | q
        · exact Or.inl (decide_eq_true q)
        · exact Or.inr (decide_eq_true q)
theorem lp_true (t : List Int) : ∀ K : List Int, tx_lp true t K = (decide (tx_cp t K = K.length) || tx_lp false t K) := by
  intro K
  rw [lp_cp, lp_cp]
  by_cases h : tx_cp t K = K.length
  · simp [h]
  · simp [h]
theorem lp_false_cp {t K : List Int} (h : tx_lp false t K = true) : tx_cp t K ≠ K.length := by
  intro e
  rw [lp_cp, if_pos e] at h
  cases h
theorem sn_lt (p : Bool) (q : List Int) : ∀ t K : List Int, tx_lp false q t = true → tx_cp q t < tx_cp q K → tx_lp p t K = false := by
  induction q with
  | nil => intro t K h1 h2; rw [cp_nil_l, cp_nil_l] at h2; omega
  | cons a as ih =>
    intro t K h1 h2
    cases K with
    | nil => rw [cp_nil_r (a :: as)] at h2; omega
    | cons b bs =>
      cases t with
      | nil => rw [lp_nil] at h1; cases h1
      | cons c cs =>
        rw [lp_cons] at h1 ⊢
        rw [cp_cons, cp_cons] at h2
        by_cases hab : a = b
        · rw [if_pos hab] at h2
          subst hab
          by_cases hac : a = c
          · rw [if_pos hac] at h1 h2
            subst hac
            rw [if_pos rfl]
            exact ih cs bs h1 (by omega)
          · rw [if_neg hac] at h1
            have h1 := of_decide_eq_true h1
            rw [if_neg (by omega)]
            exact decide_eq_false (by omega)
        · rw [if_neg hab] at h2
          omega
theorem sn_gt (p : Bool) (q : List Int) : ∀ t K : List Int, tx_lp false q t = true → tx_lp p q K = true → tx_cp q K < tx_cp q t → tx_lp p t K = true ∧ tx_cp t K = tx_cp q K := by
  induction q with
  | nil => intro t K h1 h2 h3; rw [cp_nil_l, cp_nil_l] at h3; omega
  | cons a as ih =>
    intro t K h1 h2 h3
    cases t with
    | nil => rw [lp_nil] at h1; cases h1
    | cons c cs =>
      by_cases hac : a = c
      · subst hac
        cases K with
        | nil => rw [lp_nil] at h2 ⊢; rw [cp_nil_r, cp_nil_r]; exact ⟨h2, rfl⟩
        | cons b bs =>
          rw [lp_cons] at h1 h2 ⊢
          rw [cp_cons, cp_cons] at h3
          rw [cp_cons, cp_cons]
          rw [if_pos rfl] at h1 h3
          by_cases hab : a = b
          · rw [if_pos hab] at h2 h3 ⊢
            rw [if_pos hab, if_pos hab]
            have := ih cs bs h1 h2 (by omega)
            exact ⟨this.1, by rw [this.2]⟩
          · rw [if_neg hab] at h2 ⊢
            rw [if_neg hab, if_neg hab]
            exact ⟨h2, rfl⟩
      · rw [cp_cons a c, if_neg hac] at h3
        omega
theorem sn_eq (q : List Int) : ∀ t K : List Int, tx_cp q t = tx_cp q K → tx_cp q K ≤ tx_cp t K := by
  induction q with
  | nil => intro t K _; rw [cp_nil_l]; exact Nat.zero_le _
  | cons a as ih =>
    intro t K h
    cases t with
    | nil => rw [cp_nil_r] at h; rw [← h]; exact Nat.zero_le _
    | cons c cs =>
      cases K with
      | nil => rw [cp_nil_r (a :: as)]; exact Nat.zero_le _
      | cons b bs =>
        rw [cp_cons, cp_cons] at h
        rw [cp_cons, cp_cons]
        by_cases hab : a = b
        · subst hab
          rw [if_pos rfl] at h ⊢
          by_cases hac : a = c
          · subst hac
            rw [if_pos rfl] at h ⊢
            exact Nat.succ_le_succ (ih cs bs (by omega))
          · rw [if_neg hac] at h
            omega
        · rw [if_neg hab]
          exact Nat.zero_le _
theorem cp_low (s : List Int) : ∀ t K : List Int, tx_lp false s t = true → tx_lp false t K = true → tx_cp s K ≤ tx_cp t K := by
  induction s with
  | nil => intro t K _ _; rw [cp_nil_l]; exact Nat.zero_le _
  | cons a as ih =>
    intro t K h1 h2
    cases t with
    | nil => rw [lp_nil] at h1; cases h1
    | cons c cs =>
      cases K with
      | nil => rw [cp_nil_r (a :: as)]; exact Nat.zero_le _
      | cons b bs =>
        rw [lp_cons] at h1 h2
        rw [cp_cons, cp_cons]
        by_cases hab : a = b
        · subst hab
          by_cases hac : a = c
          · subst hac
            rw [if_pos rfl] at h1 h2
            rw [if_pos rfl, if_pos rfl]
            exact Nat.succ_le_succ (ih cs bs h1 h2)
          · rw [if_neg hac] at h1
            rw [if_neg (fun e => hac e.symm)] at h2
            have h1 := of_decide_eq_true h1
            have h2 := of_decide_eq_true h2
            omega
        · rw [if_neg hab]
          exact Nat.zero_le _
theorem cp_high (s : List Int) : ∀ t K : List Int, tx_lp false s t = true → tx_lp false s K = false → tx_cp t K ≤ tx_cp s K := by
  induction s with
  | nil =>
    intro t K h1 h2
    cases K with
    | nil => rw [cp_nil_r]; exact Nat.zero_le _
    | cons b bs => rw [lp_nil_cons] at h2; cases h2
  | cons a as ih =>
    intro t K h1 h2
    cases t with
    | nil => rw [cp_nil_l]; exact Nat.zero_le _
    | cons c cs =>
      cases K with
      | nil => rw [cp_nil_r]; exact Nat.zero_le _
      | cons b bs =>
        rw [lp_cons] at h1 h2
        rw [cp_cons, cp_cons]
        by_cases hcb : c = b
        · subst hcb
          by_cases hac : a = c
          · subst hac
            rw [if_pos rfl] at h1 h2
            rw [if_pos rfl, if_pos rfl]
            exact Nat.succ_le_succ (ih cs bs h1 h2)
          · rw [if_neg hac] at h1 h2
            rw [h1] at h2
            cases h2
        · rw [if_neg hcb]
          exact Nat.zero_le _
/-! sorted lists of terms -/
def tx_so (S : List (List Int)) : Prop := S.Pairwise (fun s t => tx_lp false s t = true)
def tx_ct (p : Bool) (K : List Int) (S : List (List Int)) : Nat := S.countP (fun t => tx_lp p t K)
theorem ct_zero {p : Bool} {K a : List Int} {S : List (List Int)} (h : ∀ t ∈ S, tx_lp false a t = true) (ha : tx_lp p a K = false) : tx_ct p K S = 0 := by
  refine List.countP_eq_zero.mpr (fun t ht q => ?_)
  rw [lp_mono p a t K (h t ht) q] at ha
  cases ha
theorem ct_at {p : Bool} {K : List Int} : ∀ {S : List (List Int)} (_ : tx_so S) (j : Nat) (t : List Int), S[j]? = some t → (tx_lp p t K = true ↔ j < tx_ct p K S)
  | [], _, j, t, h => by simp at h
  | a :: as, hs, j, t, h => by
    have hs := List.pairwise_cons.mp hs
    by_cases ha : tx_lp p a K = true
    · have e : tx_ct p K (a :: as) = tx_ct p K as + 1 := List.countP_cons_of_pos ha
      rw [e]
      cases j with
      | zero =>
        simp at h
        subst h
        exact ⟨fun _ => Nat.succ_pos _, fun _ => ha⟩
      | succ j =>
        have := ct_at (p := p) (K := K) hs.2 j t (by simpa using h)
        rw [this]
        omega
    · have ha' : tx_lp p a K = false := by simpa using ha
      have e : tx_ct p K (a :: as) = 0 := by
        have e1 : tx_ct p K (a :: as) = tx_ct p K as := List.countP_cons_of_neg ha
        rw [e1]
        exact ct_zero hs.1 ha'
      rw [e]
      cases j with
      | zero =>
        simp at h
        subst h
        exact ⟨fun q => absurd q ha, fun q => absurd q (Nat.lt_irrefl 0)⟩
      | succ j =>
        have hm : t ∈ as := List.mem_of_getElem? (i := j) (by simpa using h)
        refine ⟨fun q => absurd (lp_mono p a t K (hs.1 t hm) q) ha, fun q => absurd q (Nat.not_lt_zero _)⟩
theorem ct_le (p : Bool) (K : List Int) (S : List (List Int)) : tx_ct p K S ≤ S.length := List.countP_le_length
theorem ct_app (p : Bool) (K : List Int) (S T : List (List Int)) : tx_ct p K (S ++ T) = tx_ct p K S + tx_ct p K T := List.countP_append
theorem ct_perm {p : Bool} {K : List Int} {S T : List (List Int)} (h : S.Perm T) : tx_ct p K S = tx_ct p K T := h.countP_eq _
theorem ct_idx {S : List (List Int)} (hs : tx_so S) {j : Nat} {t : List Int} (h : S[j]? = some t) : tx_ct false t S = j := by
  have h1 := ct_at (p := false) (K := t) hs j t h
  rw [lp_irr] at h1
  have h2 : ¬ j < tx_ct false t S := fun q => by cases h1.mpr q
  rcases Nat.lt_or_ge (tx_ct false t S) j with q | q
  · exfalso
    have hl : j < S.length := (List.getElem?_eq_some_iff.mp h).1
    have hlt : tx_ct false t S < S.length := by omega
    have h3 := ct_at (p := false) (K := t) hs (tx_ct false t S) S[tx_ct false t S] (List.getElem?_eq_getElem hlt)
    have h4 : tx_lp false S[tx_ct false t S] t = true := by
      have hj : S[j] = t := (List.getElem?_eq_some_iff.mp h).2
      have := List.pairwise_iff_getElem.mp hs _ _ hlt hl q
      rw [hj] at this
      exact this
    exact Nat.lt_irrefl _ (h3.mp h4)
  · omega
/-- the key is held: then it stands at its rank -/
theorem held_at {S : List (List Int)} (hs : tx_so S) {K : List Int} (hK : K ∈ S) : S[tx_ct false K S]? = some K := by
  obtain ⟨j, hj⟩ := List.getElem?_of_mem hK
  rw [ct_idx hs hj]
  exact hj
end
section
/-! plain: the reference -/
theorem up_s {α : Type} (f : Nat → α) (k : Nat) (v : α) : va_up f k v k = v := if_pos rfl
theorem up_n {α : Type} (f : Nat → α) (k : Nat) (v : α) {j : Nat} (h : j ≠ k) : va_up f k v j = f j := if_neg h
/-- an array holds a term from a place on -/
def rT (f : Nat → Int) (b : Nat) (t : List Int) : Prop := ∀ i, i < t.length → f (b + i) = t.getD i 0
def wfT (t : List Int) : Prop := t.length ≤ 6 ∧ ∀ i, i < t.length → 0 ≤ t.getD i 0 ∧ t.getD i 0 ≤ 9
/-- rows of six: letters, lengths -/
def rL (f len : Nat → Int) (Ls : List (List Int)) : Prop := ∀ k t, Ls[k]? = some t → len k = t.length ∧ rT f (6 * k) t
def MI (v : MS) (K : List Int) (Ts : List (List Int)) : Prop :=
  mty v = K.length ∧ rT (mkey v) 0 K ∧ wfT K ∧ mtm v = Ts.length ∧ Ts.length ≤ 40 ∧ rL (mlet v) (mlen v) Ts ∧ (∀ t ∈ Ts, wfT t ∧ 0 < t.length) ∧ Ts.Nodup
theorem getlt {α : Type} {l : List α} {k : Nat} {t : α} (h : l[k]? = some t) : k < l.length := (List.getElem?_eq_some_iff.mp h).1
theorem M_shared_loop {v : MS} {K t : List Int} {Ts : List (List Int)} (hI : MI v K Ts) {j : Nat} (ht : Ts[j]? = some t) (C : Int → MS → Prop) (hp : C (tx_cp t K) v) :
    ∀ (n m : Nat) (x : Int), x = m → m ≤ tx_cp t K → K.length < m + n → wl_M_shared_2 j C n x v := by
  obtain ⟨hty, hkey, hK, htm, h40, hL, hwf, hnd⟩ := hI
  have hj := getlt ht
  have hw := (hwf t (List.mem_of_getElem? ht)).1
  have hcl := cp_le t K
  intro n
  induction n with
  | zero => intro m x hx hm hn; omega
  | succ n ih =>
    intro m x hx hm hn
    subst hx
    rw [wl_M_shared_2]
    have hw1 := hw.1
    have hK1 := hK.1
    refine br_le_i (fun h => ?_) (fun h => ?_)
    · rw [cp_end hm (Or.inr (Or.inl (by omega)))] at hp; exact hp
    · refine ⟨⟨by omega, by omega⟩, fun v16 e16 => ?_⟩
      rw [show ((j : Int)).toNat = j by omega, (hL j t ht).1] at e16
      subst e16
      refine br_le_i (fun h => ?_) (fun h => ?_)
      · rw [cp_end hm (Or.inl (by omega))] at hp; exact hp
      · have hb1 := hw.2 m (by omega)
        have hb2 := hK.2 m (by omega)
        refine ⟨⟨by omega, by omega⟩, fun v30 e30 => ?_⟩
        rw [show (6 * (j : Int) + (m : Int)).toNat = 6 * j + m by omega, (hL j t ht).2 m (by omega)] at e30
        refine ⟨⟨by omega, by omega⟩, fun v36 e36 => ?_⟩
        rw [show ((m : Int)).toNat = 0 + m by omega, hkey m (by omega)] at e36
        subst e30
        subst e36
        refine br_eq_i (fun h => ?_) (fun h => ?_)
        · exact ih (m + 1) _ (by omega) (cp_step hm (by omega) (by omega) h) (by omega)
        · rw [cp_end hm (Or.inr (Or.inr h))] at hp; exact hp
theorem M_shared {v : MS} {K t : List Int} {Ts : List (List Int)} (hI : MI v K Ts) {j : Nat} (ht : Ts[j]? = some t) {post : Int → MS → Prop} (hp : post (tx_cp t K) v) : wm_M_shared j v post := by
  have h6 := hI.2.2.1.1
  exact ⟨8, M_shared_loop hI ht (fun y u => post y u) hp 8 0 0 rfl (Nat.zero_le _) (by omega)⟩
def b2i (b : Bool) : Int := if b = true then 1 else 0
theorem b2i_t {b : Bool} (h : b = true) : b2i b = 1 := if_pos h
theorem b2i_f {b : Bool} (h : b = false) : b2i b = 0 := by rw [h]; rfl
theorem M_precedes {v : MS} {K t : List Int} {Ts : List (List Int)} (hI : MI v K Ts) {j : Nat} (ht : Ts[j]? = some t) {post : Int → MS → Prop} (hp : post (b2i (tx_lp false t K)) v) : wm_M_precedes j v post := by
  rw [wm_M_precedes]
  refine M_shared hI ht ?_
  obtain ⟨hty, hkey, hK, htm, h40, hL, hwf, hnd⟩ := hI
  have hj := getlt ht
  have hw := (hwf t (List.mem_of_getElem? ht)).1
  have hcl := cp_le t K
  have hw1 := hw.1
  have hK1 := hK.1
  rw [lp_cp] at hp
  refine br_lt_i (fun h => ?_) (fun h => ?_)
  · rw [if_neg (by omega)] at hp
    refine ⟨⟨by omega, by omega⟩, fun v16 e16 => ?_⟩
    rw [show ((j : Int)).toNat = j by omega, (hL j t ht).1] at e16
    subst e16
    refine br_le_i (fun h => ?_) (fun h => ?_)
    · rw [decide_eq_true (show tx_cp t K = t.length by omega)] at hp
      exact ⟨Or.inr rfl, hp⟩
    · have hb1 := hw.2 (tx_cp t K) (by omega)
      have hb2 := hK.2 (tx_cp t K) (by omega)
      refine ⟨⟨by omega, by omega⟩, fun v30 e30 => ?_⟩
      rw [show (6 * (j : Int) + (tx_cp t K : Int)).toNat = 6 * j + tx_cp t K by omega, (hL j t ht).2 _ (by omega)] at e30
      refine ⟨⟨by omega, by omega⟩, fun v36 e36 => ?_⟩
      rw [show ((tx_cp t K : Int)).toNat = 0 + tx_cp t K by omega, hkey _ (by omega)] at e36
      subst e30
      subst e36
      rw [decide_eq_false (show ¬ tx_cp t K = t.length by omega), Bool.false_or] at hp
      refine br_le_i (fun h => ?_) (fun h => ?_)
      · rw [decide_eq_false (by omega)] at hp
        exact ⟨Or.inl rfl, hp⟩
      · rw [decide_eq_true (by omega)] at hp
        exact ⟨Or.inr rfl, hp⟩
  · rw [if_pos (by omega)] at hp
    exact ⟨Or.inl rfl, hp⟩
theorem take_s {α : Type} {l : List α} {j : Nat} {t : α} (h : l[j]? = some t) : l.take (j + 1) = l.take j ++ [t] := by rw [List.take_add_one, h]; rfl
theorem M_before_loop {v : MS} {K : List Int} {Ts : List (List Int)} (hI : MI v K Ts) (C : Int → MS → Prop) (hp : C (tx_ct false K Ts) v) :
    ∀ (n j : Nat) (x y : Int), y = j → x = tx_ct false K (Ts.take j) → j ≤ Ts.length → Ts.length < j + n → wl_M_before_4 C n x y v := by
  have htm := hI.2.2.2.1
  have h40 := hI.2.2.2.2.1
  intro n
  induction n with
  | zero => intro j x y _ _ _ _; omega
  | succ n ih =>
    intro j x y hy hx hj hn
    subst hy
    rw [wl_M_before_4]
    refine br_le_i (fun h => ?_) (fun h => ?_)
    · rw [List.take_of_length_le (by omega)] at hx
      rw [hx]; exact hp
    · have hlt : j < Ts.length := by omega
      have ht : Ts[j]? = some Ts[j] := List.getElem?_eq_getElem hlt
      refine M_precedes hI ht ?_
      have e := ct_app false K (Ts.take j) [Ts[j]]
      rw [← take_s ht] at e
      by_cases hq : tx_lp false Ts[j] K = true
      · rw [b2i_t hq]
        have e2 : tx_ct false K [Ts[j]] = 1 := by simp [tx_ct, hq]
        refine br_eq_i (fun h => absurd h (by decide)) (fun h => ?_)
        exact ih (j + 1) _ _ (by omega) (by omega) (by omega) (by omega)
      · have hq : tx_lp false Ts[j] K = false := by simpa using hq
        rw [b2i_f hq]
        have e2 : tx_ct false K [Ts[j]] = 0 := by simp [tx_ct, hq]
        refine br_eq_i (fun h => ?_) (fun h => absurd rfl h)
        exact ih (j + 1) _ _ (by omega) (by omega) (by omega) (by omega)
theorem M_before {v : MS} {K : List Int} {Ts : List (List Int)} (hI : MI v K Ts) {post : Int → MS → Prop} (hp : post (tx_ct false K Ts) v) : wm_M_before v post := by
  have h40 := hI.2.2.2.2.1
  exact ⟨42, M_before_loop hI (fun y u => post y u) hp 42 0 0 0 rfl rfl (Nat.zero_le _) (by omega)⟩
def tx_bg (K : List Int) (S : List (List Int)) : Nat := S.countP (fun t => decide (tx_cp t K = K.length))
theorem bg_app (K : List Int) (S T : List (List Int)) : tx_bg K (S ++ T) = tx_bg K S + tx_bg K T := List.countP_append
theorem M_beginning_loop {v : MS} {K : List Int} {Ts : List (List Int)} (hI : MI v K Ts) (C : Int → MS → Prop) (hp : C (tx_bg K Ts) v) :
    ∀ (n j : Nat) (x y : Int), y = j → x = tx_bg K (Ts.take j) → j ≤ Ts.length → Ts.length < j + n → wl_M_beginning_4 C n x y v := by
  have htm := hI.2.2.2.1
  have h40 := hI.2.2.2.2.1
  have hty := hI.1
  have hK1 := hI.2.2.1.1
  intro n
  induction n with
  | zero => intro j x y _ _ _ _; omega
  | succ n ih =>
    intro j x y hy hx hj hn
    subst hy
    rw [wl_M_beginning_4]
    refine br_le_i (fun h => ?_) (fun h => ?_)
    · rw [List.take_of_length_le (by omega)] at hx
      rw [hx]; exact hp
    · have hlt : j < Ts.length := by omega
      have ht : Ts[j]? = some Ts[j] := List.getElem?_eq_getElem hlt
      refine M_shared hI ht ?_
      have hcl := cp_le Ts[j] K
      have e := bg_app K (Ts.take j) [Ts[j]]
      rw [← take_s ht] at e
      refine br_eq_i (fun h => ?_) (fun h => ?_)
      · have e2 : tx_bg K [Ts[j]] = 1 := by simp [tx_bg, show tx_cp Ts[j] K = K.length by omega]
        exact ih (j + 1) _ _ (by omega) (by omega) (by omega) (by omega)
      · have e2 : tx_bg K [Ts[j]] = 0 := by simp [tx_bg, show ¬ tx_cp Ts[j] K = K.length by omega]
        exact ih (j + 1) _ _ (by omega) (by omega) (by omega) (by omega)
theorem M_beginning {v : MS} {K : List Int} {Ts : List (List Int)} (hI : MI v K Ts) {post : Int → MS → Prop} (hp : post (tx_bg K Ts) v) : wm_M_beginning v post := by
  have h40 := hI.2.2.2.2.1
  exact ⟨42, M_beginning_loop hI (fun y u => post y u) hp 42 0 0 0 rfl rfl (Nat.zero_le _) (by omega)⟩
/-- the most letters in common with the key -/
def isMx (K : List Int) (S : List (List Int)) (r : Int) : Prop := (S = [] ∧ r = -1) ∨ ((∃ t ∈ S, r = tx_cp t K) ∧ ∀ t ∈ S, (tx_cp t K : Int) ≤ r)
theorem isMx_uniq {K : List Int} {S T : List (List Int)} {a b : Int} (h : S.Perm T) (ha : isMx K S a) (hb : isMx K T b) : a = b := by
  rcases ha with ⟨e, ha⟩ | ⟨⟨s, hs, ha⟩, ha2⟩
  · rcases hb with ⟨_, hb⟩ | ⟨⟨t, ht, _⟩, _⟩
    · rw [ha, hb]
    · have := h.mem_iff.mpr ht
      rw [e] at this
      cases this
  · rcases hb with ⟨e, hb⟩ | ⟨⟨t, ht, hb⟩, hb2⟩
    · have := h.mem_iff.mp hs
      rw [e] at this
      cases this
    · have h1 := ha2 t (h.mem_iff.mpr ht)
      have h2 := hb2 s (h.mem_iff.mp hs)
      omega
theorem isMx_snoc {K t : List Int} {S : List (List Int)} {r : Int} (h : isMx K S r) : isMx K (S ++ [t]) (if (tx_cp t K : Int) ≤ r then r else tx_cp t K) := by
  refine Or.inr ?_
  rcases h with ⟨e, rfl⟩ | ⟨⟨s, hs, ha⟩, ha2⟩
  · subst e
    rw [if_neg (by omega)]
    refine ⟨⟨t, by simp, rfl⟩, fun q hq => ?_⟩
    simp at hq
    rw [hq]; exact Int.le_refl _
  · by_cases hc : (tx_cp t K : Int) ≤ r
    · rw [if_pos hc]
      refine ⟨⟨s, List.mem_append_left _ hs, ha⟩, fun q hq => ?_⟩
      rcases List.mem_append.mp hq with q1 | q1
      · exact ha2 q q1
      · simp at q1; rw [q1]; exact hc
    · rw [if_neg hc]
      refine ⟨⟨t, by simp, rfl⟩, fun q hq => ?_⟩
      rcases List.mem_append.mp hq with q1 | q1
      · have := ha2 q q1; omega
      · simp at q1; rw [q1]; exact Int.le_refl _
theorem isMx_bd {K : List Int} {S : List (List Int)} {r : Int} (h : isMx K S r) : -1 ≤ r ∧ r ≤ K.length := by
  rcases h with ⟨_, rfl⟩ | ⟨⟨s, _, rfl⟩, _⟩
  · omega
  · have := cp_le s K
    omega
theorem M_common_loop {v : MS} {K : List Int} {Ts : List (List Int)} (hI : MI v K Ts) (C : Int → MS → Prop) (hp : ∀ r, isMx K Ts r → C r v) :
    ∀ (n j : Nat) (x y : Int), y = j → isMx K (Ts.take j) x → j ≤ Ts.length → Ts.length < j + n → wl_M_common_4 C n x y v := by
  have htm := hI.2.2.2.1
  have h40 := hI.2.2.2.2.1
  have hK1 := hI.2.2.1.1
  intro n
  induction n with
  | zero => intro j x y _ _ _ _; omega
  | succ n ih =>
    intro j x y hy hx hj hn
    subst hy
    rw [wl_M_common_4]
    refine br_le_i (fun h => ?_) (fun h => ?_)
    · rw [List.take_of_length_le (by omega)] at hx
      exact hp _ hx
    · have hlt : j < Ts.length := by omega
      have ht : Ts[j]? = some Ts[j] := List.getElem?_eq_getElem hlt
      refine M_shared hI ht ?_
      have hcl := cp_le Ts[j] K
      have hbd := isMx_bd hx
      have e := isMx_snoc (t := Ts[j]) hx
      rw [← take_s ht] at e
      refine br_le_i (fun h => ?_) (fun h => ?_)
      · rw [if_pos h] at e
        exact ih (j + 1) _ _ (by omega) e (by omega) (by omega)
      · rw [if_neg (by omega)] at e
        exact ih (j + 1) _ _ (by omega) e (by omega) (by omega)
theorem M_common {v : MS} {K : List Int} {Ts : List (List Int)} (hI : MI v K Ts) {post : Int → MS → Prop} (hp : ∀ r, isMx K Ts r → post r v) : wm_M_common v post := by
  have h40 := hI.2.2.2.2.1
  exact ⟨42, M_common_loop hI (fun y u => post y u) hp 42 0 (-1) 0 rfl (Or.inl ⟨by simp, rfl⟩) (Nat.zero_le _) (by omega)⟩
theorem M_same_loop {v : MS} {K : List Int} {Ts : List (List Int)} (hI : MI v K Ts) (post : Int → MS → Prop) (C : MS → Prop) (h1 : ∀ j : Nat, Ts[j]? = some K → post j v) (h2 : K ∉ Ts → C v) :
    ∀ (n j : Nat) (x : Int), x = j → K ∉ Ts.take j → j ≤ Ts.length → Ts.length < j + n → wl_M_same_2 post C n x v := by
  have htm := hI.2.2.2.1
  have h40 := hI.2.2.2.2.1
  have hK1 := hI.2.2.1.1
  have hty := hI.1
  have hL := hI.2.2.2.2.2.1
  have hwf := hI.2.2.2.2.2.2.1
  intro n
  induction n with
  | zero => intro j x _ _ _ _; omega
  | succ n ih =>
    intro j x hx hnm hj hn
    subst hx
    rw [wl_M_same_2]
    refine br_le_i (fun h => ?_) (fun h => ?_)
    · rw [List.take_of_length_le (by omega)] at hnm
      exact h2 hnm
    · have hlt : j < Ts.length := by omega
      have ht : Ts[j]? = some Ts[j] := List.getElem?_eq_getElem hlt
      have hw1 := (hwf Ts[j] (List.mem_of_getElem? ht)).1.1
      have hcl := cp_le Ts[j] K
      have nx : Ts[j] ≠ K → K ∉ Ts.take (j + 1) := fun hne hm => by
        rw [take_s ht] at hm
        rcases List.mem_append.mp hm with q | q
        · exact hnm q
        · simp at q; exact hne q.symm
      refine ⟨⟨by omega, by omega⟩, fun v15 e15 => ?_⟩
      rw [show ((j : Int)).toNat = j by omega, (hL j _ ht).1] at e15
      subst e15
      refine br_eq_i (fun h => ?_) (fun h => ?_)
      · refine M_shared hI ht ?_
        refine br_eq_i (fun h => ?_) (fun h => ?_)
        · have e := cp_full Ts[j] K (by omega) (by omega)
          exact h1 j (by rw [ht, e])
        · exact ih (j + 1) _ (by omega) (nx (fun e => h (by rw [e, cp_self]; omega))) (by omega) (by omega)
      · exact ih (j + 1) _ (by omega) (nx (fun e => h (by rw [e]; omega))) (by omega) (by omega)
theorem M_same {v : MS} {K : List Int} {Ts : List (List Int)} (hI : MI v K Ts) {post : Int → MS → Prop} (h1 : ∀ j : Nat, Ts[j]? = some K → post j v) (h2 : K ∉ Ts → post (-1) v) : wm_M_same v post := by
  have h40 := hI.2.2.2.2.1
  exact ⟨42, M_same_loop hI post (fun u => post (-1) u) h1 h2 42 0 0 rfl (by simp) (Nat.zero_le _) (by omega)⟩
theorem M_held {v : MS} {K : List Int} {Ts : List (List Int)} (hI : MI v K Ts) {post : Int → MS → Prop} (h1 : K ∈ Ts → post 1 v) (h2 : K ∉ Ts → post 0 v) : wm_M_held v post := by
  have h40 := hI.2.2.2.2.1
  refine M_same hI (fun j hj => ?_) (fun hn => ?_)
  · have := getlt hj
    refine br_lt_i (fun h => ?_) (fun h => ⟨Or.inr rfl, h1 (List.mem_of_getElem? hj)⟩)
    omega
  · refine br_lt_i (fun h => ⟨Or.inl rfl, h2 hn⟩) (fun h => ?_)
    omega
end
section
theorem M_less_loop {v : MS} {K s t : List Int} {Ts : List (List Int)} (hI : MI v K Ts) {a b : Nat} (hs : Ts[a]? = some s) (ht : Ts[b]? = some t) (post : Int → MS → Prop) (C : MS → Prop) (hp : post (b2i (tx_lp false s t)) v) (hC : post 0 v → C v) :
    ∀ (n m : Nat) (x : Int), x = m → m ≤ tx_cp s t → 6 < m + n → wl_M_less_2 a b post C n x v := by
  obtain ⟨hty, hkey, hK, htm, h40, hL, hwf, hnd⟩ := hI
  have hja := getlt hs
  have hjb := getlt ht
  have hwa := (hwf s (List.mem_of_getElem? hs)).1
  have hwb := (hwf t (List.mem_of_getElem? ht)).1
  have hwa1 := hwa.1
  have hwb1 := hwb.1
  have hcl := cp_le s t
  rw [lp_cp] at hp
  intro n
  induction n with
  | zero => intro m x hx hm hn; omega
  | succ n ih =>
    intro m x hx hm hn
    subst hx
    rw [wl_M_less_2]
    refine br_le_i (fun h => ?_) (fun h => ?_)
    · rw [if_pos (by omega)] at hp
      exact hC hp
    · refine ⟨⟨by omega, by omega⟩, fun v14 e14 => ?_⟩
      rw [show ((b : Int)).toNat = b by omega, (hL b t ht).1] at e14
      subst e14
      refine br_lt_i (fun h => ?_) (fun h => ?_)
      · refine ⟨⟨by omega, by omega⟩, fun v26 e26 => ?_⟩
        rw [show ((a : Int)).toNat = a by omega, (hL a s hs).1] at e26
        subst e26
        refine br_lt_i (fun h => ?_) (fun h => ?_)
        · have hb1 := hwa.2 m (by omega)
          have hb2 := hwb.2 m (by omega)
          refine ⟨⟨by omega, by omega⟩, fun v42 e42 => ?_⟩
          rw [show (6 * (a : Int) + (m : Int)).toNat = 6 * a + m by omega, (hL a s hs).2 m (by omega)] at e42
          refine ⟨⟨by omega, by omega⟩, fun v53 e53 => ?_⟩
          rw [show (6 * (b : Int) + (m : Int)).toNat = 6 * b + m by omega, (hL b t ht).2 m (by omega)] at e53
          subst e42
          subst e53
          refine br_eq_i (fun h => ?_) (fun h => ?_)
          · exact ih (m + 1) _ (by omega) (cp_step hm (by omega) (by omega) h) (by omega)
          · have ec := cp_end hm (Or.inr (Or.inr h))
            refine ⟨⟨by omega, by omega⟩, fun v67 e67 => ?_⟩
            rw [show (6 * (a : Int) + (m : Int)).toNat = 6 * a + m by omega, (hL a s hs).2 m (by omega)] at e67
            refine ⟨⟨by omega, by omega⟩, fun v78 e78 => ?_⟩
            rw [show (6 * (b : Int) + (m : Int)).toNat = 6 * b + m by omega, (hL b t ht).2 m (by omega)] at e78
            subst e67
            subst e78
            rw [ec, if_neg (by omega), decide_eq_false (show ¬ m = s.length by omega), Bool.false_or] at hp
            refine br_le_i (fun h => ?_) (fun h => ?_)
            · rw [decide_eq_false (by omega)] at hp
              exact ⟨Or.inl rfl, hp⟩
            · rw [decide_eq_true (by omega)] at hp
              exact ⟨Or.inr rfl, hp⟩
        · have ec := cp_end hm (Or.inl (by omega))
          rw [ec, if_neg (by omega), decide_eq_true (show m = s.length by omega), Bool.true_or] at hp
          exact ⟨Or.inr rfl, hp⟩
      · have ec := cp_end hm (Or.inr (Or.inl (by omega)))
        rw [ec, if_pos (by omega)] at hp
        exact ⟨Or.inl rfl, hp⟩
theorem M_less {v : MS} {K s t : List Int} {Ts : List (List Int)} (hI : MI v K Ts) {a b : Nat} (hs : Ts[a]? = some s) (ht : Ts[b]? = some t) {post : Int → MS → Prop} (hp : post (b2i (tx_lp false s t)) v) : wm_M_less a b v post :=
  ⟨8, M_less_loop hI hs ht post _ hp (fun h => ⟨Or.inl rfl, h⟩) 8 0 0 rfl (Nat.zero_le _) (by omega)⟩
theorem M_rankOf_loop {v : MS} {K t : List Int} {Ts : List (List Int)} (hI : MI v K Ts) {b : Nat} (htb : Ts[b]? = some t) (C : Int → MS → Prop) (hp : C (tx_ct false t Ts) v) :
    ∀ (n j : Nat) (x y : Int), y = j → x = tx_ct false t (Ts.take j) → j ≤ Ts.length → Ts.length < j + n → wl_M_rankOf_4 b C n x y v := by
  have htm := hI.2.2.2.1
  have h40 := hI.2.2.2.2.1
  intro n
  induction n with
  | zero => intro j x y _ _ _ _; omega
  | succ n ih =>
    intro j x y hy hx hj hn
    subst hy
    rw [wl_M_rankOf_4]
    refine br_le_i (fun h => ?_) (fun h => ?_)
    · rw [List.take_of_length_le (by omega)] at hx
      rw [hx]; exact hp
    · have hlt : j < Ts.length := by omega
      have ht : Ts[j]? = some Ts[j] := List.getElem?_eq_getElem hlt
      refine M_less hI ht htb ?_
      have e := ct_app false t (Ts.take j) [Ts[j]]
      rw [← take_s ht] at e
      by_cases hq : tx_lp false Ts[j] t = true
      · rw [b2i_t hq]
        have e2 : tx_ct false t [Ts[j]] = 1 := by simp [tx_ct, hq]
        refine br_eq_i (fun h => absurd h (by decide)) (fun h => ?_)
        exact ih (j + 1) _ _ (by omega) (by omega) (by omega) (by omega)
      · have hq : tx_lp false Ts[j] t = false := by simpa using hq
        rw [b2i_f hq]
        have e2 : tx_ct false t [Ts[j]] = 0 := by simp [tx_ct, hq]
        refine br_eq_i (fun h => ?_) (fun h => absurd rfl h)
        exact ih (j + 1) _ _ (by omega) (by omega) (by omega) (by omega)
theorem M_rankOf {v : MS} {K t : List Int} {Ts : List (List Int)} (hI : MI v K Ts) {b : Nat} (htb : Ts[b]? = some t) {post : Int → MS → Prop} (hp : post (tx_ct false t Ts) v) : wm_M_rankOf b v post := by
  have h40 := hI.2.2.2.2.1
  exact ⟨42, M_rankOf_loop hI htb (fun y u => post y u) hp 42 0 0 0 rfl rfl (Nat.zero_le _) (by omega)⟩
theorem M_load_copy {u : MS} {t : List Int} {j : Nat} (hj : j < 40) (hty : mty u = t.length) (h6 : t.length ≤ 6) (hT : rT (mlet u) (6 * j) t) (C : MS → Prop) (hC : ∀ g, rT g 0 t → C (rkey u g)) :
    ∀ (n i : Nat) (x : Int) (g : Nat → Int), x = i → i ≤ t.length → (∀ q, q < i → g q = t.getD q 0) → t.length < i + n → wl_M_load_31 j C n x (rkey u g) := by
  intro n
  induction n with
  | zero => intro i x g _ _ _ _; omega
  | succ n ih =>
    intro i x g hx hi hg hn
    subst hx
    rw [wl_M_load_31]
    have hty' : mty (rkey u g) = t.length := hty
    refine br_le_i (fun h => ?_) (fun h => ?_)
    · exact hC g (fun q hq => by rw [Nat.zero_add]; exact hg q (by omega))
    · refine ⟨⟨by omega, by omega⟩, fun v54 e54 => ?_⟩
      rw [show (6 * (j : Int) + (i : Int)).toNat = 6 * j + i by omega] at e54
      rw [show mlet (rkey u g) (6 * j + i) = mlet u (6 * j + i) from rfl, hT i (by omega)] at e54
      refine ⟨⟨by omega, by omega⟩, fun u55 e55 => ?_⟩
      rw [show ((i : Int)).toNat = i by omega] at e55
      subst e54
      subst e55
      refine ih (i + 1) _ (va_up g i (t.getD i 0)) (by omega) (by omega) (fun q hq => ?_) (by omega)
      by_cases hqi : q = i
      · rw [hqi, up_s]
      · rw [up_n _ _ _ hqi]; exact hg q (by omega)
theorem M_load_loop {v : MS} {K : List Int} {Ts : List (List Int)} (hI : MI v K Ts) {r : Int} (hr : rg r) (post : Int → MS → Prop) (C : MS → Prop)
    (h1 : ∀ t ∈ Ts, (tx_ct false t Ts : Int) = r → ∀ v', MI v' t Ts → post t.length v') (h2 : (∀ t ∈ Ts, (tx_ct false t Ts : Int) ≠ r) → C v) :
    ∀ (n j : Nat) (x : Int), x = j → (∀ t ∈ Ts.take j, (tx_ct false t Ts : Int) ≠ r) → j ≤ Ts.length → Ts.length < j + n → wl_M_load_2 r post C n x v := by
  obtain ⟨hr1, hr2⟩ := hr
  intro n
  induction n with
  | zero => intro j x _ _ _ _; omega
  | succ n ih =>
    intro j x hx hnm hj hn
    subst hx
    have htm := hI.2.2.2.1
    have h40 := hI.2.2.2.2.1
    rw [wl_M_load_2]
    refine br_le_i (fun h => ?_) (fun h => ?_)
    · rw [List.take_of_length_le (by omega)] at hnm
      exact h2 hnm
    · have hlt : j < Ts.length := by omega
      have ht : Ts[j]? = some Ts[j] := List.getElem?_eq_getElem hlt
      have hm : Ts[j] ∈ Ts := List.mem_of_getElem? ht
      have hcl := ct_le false Ts[j] Ts
      refine M_rankOf hI ht ?_
      refine br_eq_i (fun h => ?_) (fun h => ?_)
      · obtain ⟨hty, hkey, hK, _, _, hL, hwf, hnd⟩ := hI
        have hw := hwf _ hm
        have hw1 := hw.1.1
        refine ⟨⟨by omega, by omega⟩, fun v25 e25 => ?_⟩
        rw [show ((j : Int)).toNat = j by omega, (hL j _ ht).1] at e25
        subst e25
        intro u26 e26
        subst e26
        refine ⟨8, M_load_copy (u := rty v (Ts[j].length : Int)) (t := Ts[j]) (j := j) (by omega) rfl hw1 (hL j _ ht).2 _ (fun g hg => ?_) 8 0 0 (mkey v) rfl (Nat.zero_le _) (fun q hq => absurd hq (Nat.not_lt_zero _)) (by omega)⟩
        exact h1 Ts[j] hm h _ ⟨rfl, hg, hw.1, htm, h40, hL, hwf, hnd⟩
      · refine ih (j + 1) _ (by omega) (fun t hq => ?_) (by omega) (by omega)
        rw [take_s ht] at hq
        rcases List.mem_append.mp hq with q | q
        · exact hnm t q
        · simp at q; rw [q]; exact h
theorem M_load {v : MS} {K : List Int} {Ts : List (List Int)} (hI : MI v K Ts) {r : Int} (hr : rg r) {post : Int → MS → Prop}
    (h1 : ∀ t ∈ Ts, (tx_ct false t Ts : Int) = r → ∀ v', MI v' t Ts → post t.length v') (h2 : (∀ t ∈ Ts, (tx_ct false t Ts : Int) ≠ r) → post (-1) v) : wm_M_load r v post := by
  have h40 := hI.2.2.2.2.1
  exact ⟨42, M_load_loop hI hr post _ h1 h2 42 0 0 rfl (by simp) (Nat.zero_le _) (by omega)⟩
theorem M_insert_copy {u : MS} {K : List Int} {N : Nat} (hN : N < 40) (htm : mtm u = N) (hty : mty u = K.length) (h6 : K.length ≤ 6) (hT : rT (mkey u) 0 K) (C : MS → Prop) (hC : ∀ f, rT f (6 * N) K → (∀ q, q < 6 * N → f q = mlet u q) → C (rlet u f)) :
    ∀ (n i : Nat) (x : Int) (f : Nat → Int), x = i → i ≤ K.length → (∀ q, q < i → f (6 * N + q) = K.getD q 0) → (∀ q, q < 6 * N → f q = mlet u q) → K.length < i + n → wl_M_insert_40 C n x (rlet u f) := by
  intro n
  induction n with
  | zero => intro i x f _ _ _ _ _; omega
  | succ n ih =>
    intro i x f hx hi hf hf2 hn
    subst hx
    rw [wl_M_insert_40]
    have hty' : mty (rlet u f) = K.length := hty
    have htm' : mtm (rlet u f) = N := htm
    refine br_le_i (fun h => ?_) (fun h => ?_)
    · exact hC f (fun q hq => hf q (by omega)) hf2
    · refine ⟨⟨by omega, by omega⟩, fun v66 e66 => ?_⟩
      rw [show ((i : Int)).toNat = 0 + i by omega, show mkey (rlet u f) (0 + i) = mkey u (0 + i) from rfl, hT i (by omega)] at e66
      refine ⟨⟨by omega, by omega⟩, fun u67 e67 => ?_⟩
      rw [htm', show (6 * (N : Int) + (i : Int)).toNat = 6 * N + i by omega] at e67
      subst e66
      subst e67
      refine ih (i + 1) _ (va_up f (6 * N + i) (K.getD i 0)) (by omega) (by omega) (fun q hq => ?_) (fun q hq => ?_) (by omega)
      · by_cases hqi : q = i
        · rw [hqi, up_s]
        · rw [up_n _ _ _ (by omega)]; exact hf q (by omega)
      · rw [up_n _ _ _ (by omega)]; exact hf2 q hq
theorem get_app {α : Type} {l : List α} {x t : α} {k : Nat} (h : (l ++ [x])[k]? = some t) : l[k]? = some t ∨ (k = l.length ∧ t = x) := by
  have hk := getlt h
  simp at hk
  by_cases hl : k < l.length
  · rw [List.getElem?_append_left hl] at h
    exact Or.inl h
  · have e : k = l.length := by omega
    subst e
    simp at h
    exact Or.inr ⟨rfl, h.symm⟩
theorem M_insert {v : MS} {K : List Int} {Ts : List (List Int)} (hI : MI v K Ts) {post : Int → MS → Prop}
    (h1 : K ≠ [] → K ∉ Ts → Ts.length < 40 → ∀ v', MI v' K (Ts ++ [K]) → post (tx_ct false K Ts) v') (h2 : (K = [] ∨ Ts.length = 40 ∨ K ∈ Ts) → post (-1) v) : wm_M_insert v post := by
  have htm := hI.2.2.2.1
  have h40 := hI.2.2.2.2.1
  have hK1 := hI.2.2.1.1
  have hty := hI.1
  rw [wm_M_insert]
  refine br_eq_i (fun h => ?_) (fun h => ?_)
  · exact h2 (Or.inl (List.length_eq_zero_iff.mp (by omega)))
  · have hne : K ≠ [] := fun e => h (by rw [hty, e]; rfl)
    refine M_same hI (fun j hj => ?_) (fun hn => ?_)
    · have := getlt hj
      refine br_le_i (fun h => h2 (Or.inr (Or.inr (List.mem_of_getElem? hj)))) (fun h => ?_)
      omega
    · refine br_le_i (fun h => ?_) (fun h => ?_)
      · omega
      · refine br_eq_i (fun h => ?_) (fun h => ?_)
        · exact h2 (Or.inr (Or.inl (by omega)))
        · refine ⟨⟨by omega, by omega⟩, fun u37 e37 => ?_⟩
          rw [htm, hty, show ((Ts.length : Int)).toNat = Ts.length by omega] at e37
          subst e37
          obtain ⟨_, hkey, hK, _, _, hL, hwf, hnd⟩ := id hI
          refine ⟨8, M_insert_copy (u := rlen v (va_up (mlen v) Ts.length (K.length : Int))) (K := K) (N := Ts.length) (by omega) htm hty hK1 hkey _ (fun f hf hf2 => ?_) 8 0 0 (mlet v) rfl (Nat.zero_le _) (fun q hq => absurd hq (Nat.not_lt_zero _)) (fun q _ => rfl) (by omega)⟩
          intro u81 e81
          have hI' : MI u81 K (Ts ++ [K]) := by
            subst e81
            refine ⟨hty, hkey, hK, ?_, ?_, fun k t hk => ?_, fun t ht => ?_, ?_⟩
            · show mtm v + 1 = _
              rw [htm]; simp
            · simp; omega
            · rcases get_app hk with hk | ⟨rfl, rfl⟩
              · have hkl := getlt hk
                have hx := hL k t hk
                have hw6 := (hwf t (List.mem_of_getElem? hk)).1.1
                refine ⟨?_, fun i hi => ?_⟩
                · show va_up (mlen v) Ts.length (K.length : Int) k = _
                  rw [up_n _ _ _ (by omega)]; exact hx.1
                · show f (6 * k + i) = _
                  rw [hf2 _ (by omega)]; exact hx.2 i hi
              · refine ⟨?_, hf⟩
                show va_up (mlen v) Ts.length (t.length : Int) Ts.length = _
                rw [up_s]
            · rcases List.mem_append.mp ht with q | q
              · exact hwf t q
              · simp at q
                rw [q]
                exact ⟨hK, List.length_pos_iff.mpr hne⟩
            · exact List.nodup_append.mpr ⟨hnd, by simp, fun a ha b hb e => by simp at hb; rw [e, hb] at ha; exact hn ha⟩
          refine M_before hI' ?_
          have e : tx_ct false K (Ts ++ [K]) = tx_ct false K Ts := by
            rw [ct_app]
            have : tx_ct false K [K] = 0 := by simp [tx_ct, lp_irr]
            omega
          rw [e]
          exact h1 hne hn (by omega) _ hI'
theorem M_delete_copy {u : MS} {j N : Nat} (hj : j < 40) (hN : N < 40) (hjN : j ≤ N) (htm : mtm u = N) (C : MS → Prop) (hC : ∀ f, (∀ i, i < 6 → f (6 * j + i) = mlet u (6 * N + i)) → (∀ q, (q < 6 * j ∨ 6 * j + 6 ≤ q) → f q = mlet u q) → C (rlet u f)) :
    ∀ (n i : Nat) (x : Int) (f : Nat → Int), x = i → i ≤ 6 → (∀ q, q < i → f (6 * j + q) = mlet u (6 * N + q)) → (∀ q, (q < 6 * j ∨ 6 * j + i ≤ q) → f q = mlet u q) → 6 < i + n → wl_M_delete_43 j C n x (rlet u f) := by
  intro n
  induction n with
  | zero => intro i x f _ _ _ _ _; omega
  | succ n ih =>
    intro i x f hx hi hf hf2 hn
    subst hx
    rw [wl_M_delete_43]
    have htm' : mtm (rlet u f) = N := htm
    refine br_le_i (fun h => ?_) (fun h => ?_)
    · have hi6 : i = 6 := by omega
      subst hi6
      exact hC f hf hf2
    · refine ⟨⟨by omega, by omega⟩, fun v72 e72 => ?_⟩
      rw [htm', show (6 * (N : Int) + (i : Int)).toNat = 6 * N + i by omega, show mlet (rlet u f) (6 * N + i) = f (6 * N + i) from rfl, hf2 _ (by omega)] at e72
      refine ⟨⟨by omega, by omega⟩, fun u73 e73 => ?_⟩
      rw [show (6 * (j : Int) + (i : Int)).toNat = 6 * j + i by omega] at e73
      subst e72
      subst e73
      refine ih (i + 1) _ (va_up f (6 * j + i) (mlet u (6 * N + i))) (by omega) (by omega) (fun q hq => ?_) (fun q hq => ?_) (by omega)
      · by_cases hqi : q = i
        · rw [hqi, up_s]
        · rw [up_n _ _ _ (by omega)]; exact hf q (by omega)
      · rw [up_n _ _ _ (by omega)]; exact hf2 q (by omega)
/-- the list without its place j, the last one put there -/
def swapRm (Ts : List (List Int)) (j : Nat) : List (List Int) := (Ts.set j (Ts.getD (Ts.length - 1) [])).take (Ts.length - 1)
theorem swapRm_at {Ts : List (List Int)} {j k : Nat} {t : List Int} (h : (swapRm Ts j)[k]? = some t) : k < Ts.length - 1 ∧ ((k = j ∧ Ts[Ts.length - 1]? = some t) ∨ (k ≠ j ∧ Ts[k]? = some t)) := by
  unfold swapRm at h
  have hk := getlt h
  simp at hk
  rw [List.getElem?_take_of_lt (by omega)] at h
  refine ⟨by omega, ?_⟩
  by_cases e : k = j
  · subst e
    rw [List.getElem?_set_self (by omega)] at h
    refine Or.inl ⟨rfl, ?_⟩
    have e2 : Ts[Ts.length - 1]? = some Ts[Ts.length - 1] := List.getElem?_eq_getElem (by omega)
    rw [e2]
    rw [List.getD_eq_getElem?_getD, e2] at h
    exact h
  · rw [List.getElem?_set_ne (fun q => e q.symm)] at h
    exact Or.inr ⟨e, h⟩
theorem swapRm_len {Ts : List (List Int)} {j : Nat} : (swapRm Ts j).length = Ts.length - 1 := by
  unfold swapRm
  simp
theorem swapRm_perm {Ts : List (List Int)} {j : Nat} {K : List Int} (h : Ts[j]? = some K) : Ts.Perm (K :: swapRm Ts j) := by
  have hj := getlt h
  rcases List.eq_nil_or_concat Ts with e | ⟨L, b, e⟩
  · rw [e] at hj; simp at hj
  · rw [List.concat_eq_append] at e
    subst e
    unfold swapRm
    have e1 : (L ++ [b]).getD ((L ++ [b]).length - 1) [] = b := by simp
    rw [e1]
    have e2 : (L ++ [b]).length - 1 = L.length := by simp
    rw [e2]
    by_cases hjl : j < L.length
    · rw [List.getElem?_append_left hjl] at h
      rw [List.set_append_left _ _ hjl, List.take_left' (by simp)]
      have e3 : L = L.take j ++ K :: L.drop (j + 1) := by
        have := (List.getElem?_eq_some_iff.mp h).2
        rw [← this]
        simp
      have e4 : L.set j b = L.take j ++ b :: L.drop (j + 1) := List.set_eq_take_append_cons_drop.trans (if_pos hjl)
      rw [e4]
      refine ((List.Perm.append_right [b] (List.Perm.of_eq e3)).trans ?_)
      rw [List.append_assoc]
      refine (List.perm_middle).trans (List.Perm.cons K ?_)
      exact List.Perm.append_left _ (List.perm_append_singleton b _)
    · have e3 : j = L.length := by simp at hj; omega
      subst e3
      simp at h
      subst h
      rw [List.set_append_right _ _ (Nat.le_refl _)]
      rw [List.take_left' rfl]
      exact List.perm_append_singleton b L
theorem M_delete {v : MS} {K : List Int} {Ts : List (List Int)} (hI : MI v K Ts) {post : Int → MS → Prop}
    (h1 : K ∈ Ts → ∀ v' Ts', Ts.Perm (K :: Ts') → MI v' K Ts' → post (tx_ct false K Ts) v') (h2 : K ∉ Ts → post (-1) v) : wm_M_delete v post := by
  have htm := hI.2.2.2.1
  have h40 := hI.2.2.2.2.1
  rw [wm_M_delete]
  refine M_same hI (fun j hj => ?_) (fun hn => ?_)
  · have hlt := getlt hj
    refine br_le_i (fun h => ?_) (fun h => ?_)
    · refine M_before hI ?_
      intro u23 e23
      rw [htm] at e23
      subst e23
      obtain ⟨hty, hkey, hK, _, _, hL, hwf, hnd⟩ := id hI
      have htm2 : mtm (rtm v ((Ts.length : Int) - 1)) = ((Ts.length - 1 : Nat) : Int) := by show (Ts.length : Int) - 1 = _; omega
      refine ⟨⟨by omega, by omega⟩, fun v39 e39 => ?_⟩
      rw [htm2, show (((Ts.length - 1 : Nat) : Int)).toNat = Ts.length - 1 by omega] at e39
      refine ⟨⟨by omega, by omega⟩, fun u40 e40 => ?_⟩
      rw [show ((j : Int)).toNat = j by omega] at e40
      subst e40
      refine ⟨8, M_delete_copy (u := rlen (rtm v ((Ts.length : Int) - 1)) (va_up (mlen v) j v39)) (j := j) (N := Ts.length - 1) (by omega) (by omega) (by omega) htm2 _ (fun f hf hf2 => ?_) 8 0 0 (mlet v) rfl (Nat.zero_le _) (fun q hq => absurd hq (Nat.not_lt_zero _)) (fun q _ => rfl) (by omega)⟩
      have hpm := swapRm_perm hj
      refine h1 (List.mem_of_getElem? hj) _ (swapRm Ts j) hpm ⟨hty, hkey, hK, ?_, ?_, fun k t hk => ?_, fun t ht => ?_, ?_⟩
      · show (Ts.length : Int) - 1 = _
        rw [swapRm_len]; omega
      · rw [swapRm_len]; omega
      · obtain ⟨hk1, hk2⟩ := swapRm_at hk
        rcases hk2 with ⟨rfl, hk2⟩ | ⟨hne, hk2⟩
        · have hx := hL _ t hk2
          have hw6 := (hwf t (List.mem_of_getElem? hk2)).1.1
          refine ⟨?_, fun i hi => ?_⟩
          · show va_up (mlen v) k v39 k = _
            rw [up_s, e39]; exact hx.1
          · show f (6 * k + i) = _
            rw [hf i (by omega)]; exact hx.2 i hi
        · have hx := hL k t hk2
          have hw6 := (hwf t (List.mem_of_getElem? hk2)).1.1
          refine ⟨?_, fun i hi => ?_⟩
          · show va_up (mlen v) j v39 k = _
            rw [up_n _ _ _ hne]; exact hx.1
          · show f (6 * k + i) = _
            rw [hf2 _ (by omega)]; exact hx.2 i hi
      · exact hwf t (hpm.mem_iff.mpr (List.mem_cons_of_mem _ ht))
      · exact (List.nodup_cons.mp (hpm.nodup_iff.mp hnd)).2
    · omega
  · refine br_le_i (fun h => ?_) (fun h => ?_)
    · omega
    · exact h2 hn
/-! the key: the same in both classes -/
theorem wfT_snoc {K : List Int} {x : Int} (hK : wfT K) (h : K.length < 6) (h0 : 0 ≤ x) (h9 : x ≤ 9) : wfT (K ++ [x]) := by
  refine ⟨by simp; omega, fun i hi => ?_⟩
  simp at hi
  by_cases e : i < K.length
  · have := hK.2 i e
    rw [List.getD_eq_getElem?_getD] at this ⊢
    rw [List.getElem?_append_left e]
    exact this
  · have e : i = K.length := by omega
    subst e
    simp
    omega
theorem rT_snoc {f : Nat → Int} {b : Nat} {K : List Int} {x : Int} (hf : rT f b K) : rT (va_up f (b + K.length) x) b (K ++ [x]) := by
  intro i hi
  simp at hi
  by_cases e : i < K.length
  · rw [up_n _ _ _ (by omega), hf i e, List.getD_eq_getElem?_getD, List.getD_eq_getElem?_getD, List.getElem?_append_left e]
  · have e : i = K.length := by omega
    subst e
    rw [up_s]
    simp
theorem dropLast_get {K : List Int} {i : Nat} (h : i < K.length - 1) : K.dropLast.getD i 0 = K.getD i 0 := by
  rw [List.getD_eq_getElem?_getD, List.getD_eq_getElem?_getD, List.getElem?_dropLast, if_pos h]
theorem M_type {v : MS} {K : List Int} {Ts : List (List Int)} (hI : MI v K Ts) {x : Int} (hx : rg x) {post : Int → MS → Prop}
    (h1 : 0 ≤ x → x ≤ 9 → K.length < 6 → ∀ v', MI v' (K ++ [x]) Ts → post (K.length + 1) v') (h2 : (x < 0 ∨ 9 < x ∨ 6 ≤ K.length) → post (-1) v) : wm_M_type x v post := by
  obtain ⟨hx1, hx2⟩ := hx
  obtain ⟨hty, hkey, hK, htm, h40, hL, hwf, hnd⟩ := hI
  have hK1 := hK.1
  rw [wm_M_type]
  refine br_lt_i (fun h => h2 (Or.inl h)) (fun h => ?_)
  refine br_lt_i (fun h => h2 (Or.inr (Or.inl h))) (fun h => ?_)
  refine br_eq_i (fun h => h2 (Or.inr (Or.inr (by omega)))) (fun h => ?_)
  refine ⟨⟨by omega, by omega⟩, fun u30 e30 => ?_⟩
  intro u38 e38
  rw [hty, show ((K.length : Int)).toNat = 0 + K.length by omega] at e30
  subst e30
  subst e38
  have e : mty (rty (rkey v (va_up (mkey v) (0 + K.length) x)) (mty (rkey v (va_up (mkey v) (0 + K.length) x)) + 1)) = (K.length : Int) + 1 := by show mty v + 1 = _; rw [hty]
  rw [e]
  refine h1 (by omega) (by omega) (by omega) _ ⟨?_, rT_snoc hkey, wfT_snoc hK (by omega) (by omega) (by omega), htm, h40, hL, hwf, hnd⟩
  rw [e]; simp
theorem wfT_drop {K : List Int} (hK : wfT K) : wfT K.dropLast := by
  refine ⟨by have := hK.1; simp; omega, fun i hi => ?_⟩
  simp at hi
  rw [dropLast_get hi]
  exact hK.2 i (by omega)
theorem M_back {v : MS} {K : List Int} {Ts : List (List Int)} (hI : MI v K Ts) {post : Int → MS → Prop}
    (h1 : K ≠ [] → ∀ v', MI v' K.dropLast Ts → post (K.getD (K.length - 1) 0) v') (h2 : K = [] → post (-1) v) : wm_M_back v post := by
  obtain ⟨hty, hkey, hK, htm, h40, hL, hwf, hnd⟩ := hI
  have hK1 := hK.1
  rw [wm_M_back]
  refine br_eq_i (fun h => h2 (List.length_eq_zero_iff.mp (by omega))) (fun h => ?_)
  have hne : K ≠ [] := fun e => h (by rw [hty, e]; rfl)
  have hpos := List.length_pos_iff.mpr hne
  intro u16 e16
  subst e16
  have e : mty (rty v (mty v - 1)) = ((K.length - 1 : Nat) : Int) := by show mty v - 1 = _; rw [hty]; omega
  refine ⟨⟨by omega, by omega⟩, fun v27 e27 => ?_⟩
  rw [e, show (((K.length - 1 : Nat) : Int)).toNat = 0 + (K.length - 1) by omega, show mkey (rty v (mty v - 1)) (0 + (K.length - 1)) = mkey v (0 + (K.length - 1)) from rfl, hkey _ (by omega)] at e27
  subst e27
  refine h1 hne _ ⟨?_, fun i hi => ?_, wfT_drop hK, htm, h40, hL, hwf, hnd⟩
  · rw [e]; simp
  · simp at hi
    rw [dropLast_get hi]
    exact hkey i (by omega)
theorem M_erase {v : MS} {K : List Int} {Ts : List (List Int)} (hI : MI v K Ts) {post : MS → Prop} (h1 : ∀ v', MI v' [] Ts → post v') : wm_M_erase v post := by
  obtain ⟨hty, hkey, hK, htm, h40, hL, hwf, hnd⟩ := hI
  intro u2 e2
  subst e2
  exact h1 _ ⟨rfl, fun i hi => absurd hi (Nat.not_lt_zero _), ⟨Nat.zero_le _, fun i hi => absurd hi (Nat.not_lt_zero _)⟩, htm, h40, hL, hwf, hnd⟩
theorem M_letter {v : MS} {K : List Int} {Ts : List (List Int)} (hI : MI v K Ts) {x : Int} (hx : rg x) {post : Int → MS → Prop}
    (h1 : ∀ i : Nat, x = i → i < K.length → post (K.getD i 0) v) (h2 : (x < 0 ∨ (K.length : Int) ≤ x) → post (-1) v) : wm_M_letter x v post := by
  obtain ⟨hx1, hx2⟩ := hx
  obtain ⟨hty, hkey, hK, htm, h40, hL, hwf, hnd⟩ := hI
  have hK1 := hK.1
  rw [wm_M_letter]
  refine br_lt_i (fun h => h2 (Or.inl h)) (fun h => ?_)
  refine br_lt_i (fun h => ?_) (fun h => h2 (Or.inr (by omega)))
  refine ⟨⟨by omega, by omega⟩, fun v21 e21 => ?_⟩
  rw [show x.toNat = 0 + x.toNat by omega, hkey _ (by omega)] at e21
  subst e21
  exact h1 x.toNat (by omega) (by omega)
theorem M_size {v : MS} {K : List Int} {Ts : List (List Int)} (hI : MI v K Ts) {post : Int → MS → Prop} (h1 : post Ts.length v) : wm_M_size v post := by
  have htm := hI.2.2.2.1
  rw [wm_M_size, htm]
  exact h1
end
section
/-! accessors and setters -/
theorem gs_kl_kl (u : TS) (x : Int) : tkl (skl u x) = x := rfl
theorem gs_kl_key (u : TS) (x : (Nat → Int)) : tkl (skey u x) = tkl u := rfl
theorem gs_kl_bl (u : TS) (x : Int) : tkl (sbl u x) = tkl u := rfl
theorem gs_kl_slot (u : TS) (x : (Nat → Int)) : tkl (sslot u x) = tkl u := rfl
theorem gs_kl_tak (u : TS) (x : (Nat → Int)) : tkl (stak u x) = tkl u := rfl
theorem gs_kl_siz (u : TS) (x : (Nat → Int)) : tkl (ssiz u x) = tkl u := rfl
theorem gs_kl_dat (u : TS) (x : (Nat → Int)) : tkl (sdat u x) = tkl u := rfl
theorem gs_kl_tot (u : TS) (x : Int) : tkl (stot u x) = tkl u := rfl
theorem gs_kl_fb (u : TS) (x : Int) : tkl (sfb u x) = tkl u := rfl
theorem gs_kl_fi (u : TS) (x : Int) : tkl (sfi u x) = tkl u := rfl
theorem gs_kl_li (u : TS) (x : Int) : tkl (sli u x) = tkl u := rfl
theorem gs_kl_ll (u : TS) (x : (Nat → Int)) : tkl (sll u x) = tkl u := rfl
theorem gs_kl_len (u : TS) (x : (Nat → Int)) : tkl (slen u x) = tkl u := rfl
theorem gs_key_kl (u : TS) (x : Int) : tkey (skl u x) = tkey u := rfl
theorem gs_key_key (u : TS) (x : (Nat → Int)) : tkey (skey u x) = x := rfl
theorem gs_key_bl (u : TS) (x : Int) : tkey (sbl u x) = tkey u := rfl
theorem gs_key_slot (u : TS) (x : (Nat → Int)) : tkey (sslot u x) = tkey u := rfl
theorem gs_key_tak (u : TS) (x : (Nat → Int)) : tkey (stak u x) = tkey u := rfl
theorem gs_key_siz (u : TS) (x : (Nat → Int)) : tkey (ssiz u x) = tkey u := rfl
theorem gs_key_dat (u : TS) (x : (Nat → Int)) : tkey (sdat u x) = tkey u := rfl
theorem gs_key_tot (u : TS) (x : Int) : tkey (stot u x) = tkey u := rfl
theorem gs_key_fb (u : TS) (x : Int) : tkey (sfb u x) = tkey u := rfl
theorem gs_key_fi (u : TS) (x : Int) : tkey (sfi u x) = tkey u := rfl
theorem gs_key_li (u : TS) (x : Int) : tkey (sli u x) = tkey u := rfl
theorem gs_key_ll (u : TS) (x : (Nat → Int)) : tkey (sll u x) = tkey u := rfl
theorem gs_key_len (u : TS) (x : (Nat → Int)) : tkey (slen u x) = tkey u := rfl
theorem gs_bl_kl (u : TS) (x : Int) : tbl (skl u x) = tbl u := rfl
theorem gs_bl_key (u : TS) (x : (Nat → Int)) : tbl (skey u x) = tbl u := rfl
theorem gs_bl_bl (u : TS) (x : Int) : tbl (sbl u x) = x := rfl
theorem gs_bl_slot (u : TS) (x : (Nat → Int)) : tbl (sslot u x) = tbl u := rfl
theorem gs_bl_tak (u : TS) (x : (Nat → Int)) : tbl (stak u x) = tbl u := rfl
theorem gs_bl_siz (u : TS) (x : (Nat → Int)) : tbl (ssiz u x) = tbl u := rfl
theorem gs_bl_dat (u : TS) (x : (Nat → Int)) : tbl (sdat u x) = tbl u := rfl
theorem gs_bl_tot (u : TS) (x : Int) : tbl (stot u x) = tbl u := rfl
theorem gs_bl_fb (u : TS) (x : Int) : tbl (sfb u x) = tbl u := rfl
theorem gs_bl_fi (u : TS) (x : Int) : tbl (sfi u x) = tbl u := rfl
theorem gs_bl_li (u : TS) (x : Int) : tbl (sli u x) = tbl u := rfl
theorem gs_bl_ll (u : TS) (x : (Nat → Int)) : tbl (sll u x) = tbl u := rfl
theorem gs_bl_len (u : TS) (x : (Nat → Int)) : tbl (slen u x) = tbl u := rfl
theorem gs_slot_kl (u : TS) (x : Int) : tslot (skl u x) = tslot u := rfl
theorem gs_slot_key (u : TS) (x : (Nat → Int)) : tslot (skey u x) = tslot u := rfl
theorem gs_slot_bl (u : TS) (x : Int) : tslot (sbl u x) = tslot u := rfl
theorem gs_slot_slot (u : TS) (x : (Nat → Int)) : tslot (sslot u x) = x := rfl
theorem gs_slot_tak (u : TS) (x : (Nat → Int)) : tslot (stak u x) = tslot u := rfl
theorem gs_slot_siz (u : TS) (x : (Nat → Int)) : tslot (ssiz u x) = tslot u := rfl
theorem gs_slot_dat (u : TS) (x : (Nat → Int)) : tslot (sdat u x) = tslot u := rfl
theorem gs_slot_tot (u : TS) (x : Int) : tslot (stot u x) = tslot u := rfl
theorem gs_slot_fb (u : TS) (x : Int) : tslot (sfb u x) = tslot u := rfl
theorem gs_slot_fi (u : TS) (x : Int) : tslot (sfi u x) = tslot u := rfl
theorem gs_slot_li (u : TS) (x : Int) : tslot (sli u x) = tslot u := rfl
theorem gs_slot_ll (u : TS) (x : (Nat → Int)) : tslot (sll u x) = tslot u := rfl
theorem gs_slot_len (u : TS) (x : (Nat → Int)) : tslot (slen u x) = tslot u := rfl
theorem gs_tak_kl (u : TS) (x : Int) : ttak (skl u x) = ttak u := rfl
theorem gs_tak_key (u : TS) (x : (Nat → Int)) : ttak (skey u x) = ttak u := rfl
theorem gs_tak_bl (u : TS) (x : Int) : ttak (sbl u x) = ttak u := rfl
theorem gs_tak_slot (u : TS) (x : (Nat → Int)) : ttak (sslot u x) = ttak u := rfl
theorem gs_tak_tak (u : TS) (x : (Nat → Int)) : ttak (stak u x) = x := rfl
theorem gs_tak_siz (u : TS) (x : (Nat → Int)) : ttak (ssiz u x) = ttak u := rfl
theorem gs_tak_dat (u : TS) (x : (Nat → Int)) : ttak (sdat u x) = ttak u := rfl
theorem gs_tak_tot (u : TS) (x : Int) : ttak (stot u x) = ttak u := rfl
theorem gs_tak_fb (u : TS) (x : Int) : ttak (sfb u x) = ttak u := rfl
theorem gs_tak_fi (u : TS) (x : Int) : ttak (sfi u x) = ttak u := rfl
theorem gs_tak_li (u : TS) (x : Int) : ttak (sli u x) = ttak u := rfl
theorem gs_tak_ll (u : TS) (x : (Nat → Int)) : ttak (sll u x) = ttak u := rfl
theorem gs_tak_len (u : TS) (x : (Nat → Int)) : ttak (slen u x) = ttak u := rfl
theorem gs_siz_kl (u : TS) (x : Int) : tsiz (skl u x) = tsiz u := rfl
theorem gs_siz_key (u : TS) (x : (Nat → Int)) : tsiz (skey u x) = tsiz u := rfl
theorem gs_siz_bl (u : TS) (x : Int) : tsiz (sbl u x) = tsiz u := rfl
theorem gs_siz_slot (u : TS) (x : (Nat → Int)) : tsiz (sslot u x) = tsiz u := rfl
theorem gs_siz_tak (u : TS) (x : (Nat → Int)) : tsiz (stak u x) = tsiz u := rfl
theorem gs_siz_siz (u : TS) (x : (Nat → Int)) : tsiz (ssiz u x) = x := rfl
theorem gs_siz_dat (u : TS) (x : (Nat → Int)) : tsiz (sdat u x) = tsiz u := rfl
theorem gs_siz_tot (u : TS) (x : Int) : tsiz (stot u x) = tsiz u := rfl
theorem gs_siz_fb (u : TS) (x : Int) : tsiz (sfb u x) = tsiz u := rfl
theorem gs_siz_fi (u : TS) (x : Int) : tsiz (sfi u x) = tsiz u := rfl
theorem gs_siz_li (u : TS) (x : Int) : tsiz (sli u x) = tsiz u := rfl
theorem gs_siz_ll (u : TS) (x : (Nat → Int)) : tsiz (sll u x) = tsiz u := rfl
theorem gs_siz_len (u : TS) (x : (Nat → Int)) : tsiz (slen u x) = tsiz u := rfl
theorem gs_dat_kl (u : TS) (x : Int) : tdat (skl u x) = tdat u := rfl
theorem gs_dat_key (u : TS) (x : (Nat → Int)) : tdat (skey u x) = tdat u := rfl
theorem gs_dat_bl (u : TS) (x : Int) : tdat (sbl u x) = tdat u := rfl
theorem gs_dat_slot (u : TS) (x : (Nat → Int)) : tdat (sslot u x) = tdat u := rfl
theorem gs_dat_tak (u : TS) (x : (Nat → Int)) : tdat (stak u x) = tdat u := rfl
theorem gs_dat_siz (u : TS) (x : (Nat → Int)) : tdat (ssiz u x) = tdat u := rfl
theorem gs_dat_dat (u : TS) (x : (Nat → Int)) : tdat (sdat u x) = x := rfl
theorem gs_dat_tot (u : TS) (x : Int) : tdat (stot u x) = tdat u := rfl
theorem gs_dat_fb (u : TS) (x : Int) : tdat (sfb u x) = tdat u := rfl
theorem gs_dat_fi (u : TS) (x : Int) : tdat (sfi u x) = tdat u := rfl
theorem gs_dat_li (u : TS) (x : Int) : tdat (sli u x) = tdat u := rfl
theorem gs_dat_ll (u : TS) (x : (Nat → Int)) : tdat (sll u x) = tdat u := rfl
theorem gs_dat_len (u : TS) (x : (Nat → Int)) : tdat (slen u x) = tdat u := rfl
theorem gs_tot_kl (u : TS) (x : Int) : ttot (skl u x) = ttot u := rfl
theorem gs_tot_key (u : TS) (x : (Nat → Int)) : ttot (skey u x) = ttot u := rfl
theorem gs_tot_bl (u : TS) (x : Int) : ttot (sbl u x) = ttot u := rfl
theorem gs_tot_slot (u : TS) (x : (Nat → Int)) : ttot (sslot u x) = ttot u := rfl
theorem gs_tot_tak (u : TS) (x : (Nat → Int)) : ttot (stak u x) = ttot u := rfl
theorem gs_tot_siz (u : TS) (x : (Nat → Int)) : ttot (ssiz u x) = ttot u := rfl
theorem gs_tot_dat (u : TS) (x : (Nat → Int)) : ttot (sdat u x) = ttot u := rfl
theorem gs_tot_tot (u : TS) (x : Int) : ttot (stot u x) = x := rfl
theorem gs_tot_fb (u : TS) (x : Int) : ttot (sfb u x) = ttot u := rfl
theorem gs_tot_fi (u : TS) (x : Int) : ttot (sfi u x) = ttot u := rfl
theorem gs_tot_li (u : TS) (x : Int) : ttot (sli u x) = ttot u := rfl
theorem gs_tot_ll (u : TS) (x : (Nat → Int)) : ttot (sll u x) = ttot u := rfl
theorem gs_tot_len (u : TS) (x : (Nat → Int)) : ttot (slen u x) = ttot u := rfl
theorem gs_fb_kl (u : TS) (x : Int) : tfb (skl u x) = tfb u := rfl
theorem gs_fb_key (u : TS) (x : (Nat → Int)) : tfb (skey u x) = tfb u := rfl
theorem gs_fb_bl (u : TS) (x : Int) : tfb (sbl u x) = tfb u := rfl
theorem gs_fb_slot (u : TS) (x : (Nat → Int)) : tfb (sslot u x) = tfb u := rfl
theorem gs_fb_tak (u : TS) (x : (Nat → Int)) : tfb (stak u x) = tfb u := rfl
theorem gs_fb_siz (u : TS) (x : (Nat → Int)) : tfb (ssiz u x) = tfb u := rfl
theorem gs_fb_dat (u : TS) (x : (Nat → Int)) : tfb (sdat u x) = tfb u := rfl
theorem gs_fb_tot (u : TS) (x : Int) : tfb (stot u x) = tfb u := rfl
theorem gs_fb_fb (u : TS) (x : Int) : tfb (sfb u x) = x := rfl
theorem gs_fb_fi (u : TS) (x : Int) : tfb (sfi u x) = tfb u := rfl
theorem gs_fb_li (u : TS) (x : Int) : tfb (sli u x) = tfb u := rfl
theorem gs_fb_ll (u : TS) (x : (Nat → Int)) : tfb (sll u x) = tfb u := rfl
theorem gs_fb_len (u : TS) (x : (Nat → Int)) : tfb (slen u x) = tfb u := rfl
theorem gs_fi_kl (u : TS) (x : Int) : tfi (skl u x) = tfi u := rfl
theorem gs_fi_key (u : TS) (x : (Nat → Int)) : tfi (skey u x) = tfi u := rfl
theorem gs_fi_bl (u : TS) (x : Int) : tfi (sbl u x) = tfi u := rfl
theorem gs_fi_slot (u : TS) (x : (Nat → Int)) : tfi (sslot u x) = tfi u := rfl
theorem gs_fi_tak (u : TS) (x : (Nat → Int)) : tfi (stak u x) = tfi u := rfl
theorem gs_fi_siz (u : TS) (x : (Nat → Int)) : tfi (ssiz u x) = tfi u := rfl
theorem gs_fi_dat (u : TS) (x : (Nat → Int)) : tfi (sdat u x) = tfi u := rfl
theorem gs_fi_tot (u : TS) (x : Int) : tfi (stot u x) = tfi u := rfl
theorem gs_fi_fb (u : TS) (x : Int) : tfi (sfb u x) = tfi u := rfl
theorem gs_fi_fi (u : TS) (x : Int) : tfi (sfi u x) = x := rfl
theorem gs_fi_li (u : TS) (x : Int) : tfi (sli u x) = tfi u := rfl
theorem gs_fi_ll (u : TS) (x : (Nat → Int)) : tfi (sll u x) = tfi u := rfl
theorem gs_fi_len (u : TS) (x : (Nat → Int)) : tfi (slen u x) = tfi u := rfl
theorem gs_li_kl (u : TS) (x : Int) : tli (skl u x) = tli u := rfl
theorem gs_li_key (u : TS) (x : (Nat → Int)) : tli (skey u x) = tli u := rfl
theorem gs_li_bl (u : TS) (x : Int) : tli (sbl u x) = tli u := rfl
theorem gs_li_slot (u : TS) (x : (Nat → Int)) : tli (sslot u x) = tli u := rfl
theorem gs_li_tak (u : TS) (x : (Nat → Int)) : tli (stak u x) = tli u := rfl
theorem gs_li_siz (u : TS) (x : (Nat → Int)) : tli (ssiz u x) = tli u := rfl
theorem gs_li_dat (u : TS) (x : (Nat → Int)) : tli (sdat u x) = tli u := rfl
theorem gs_li_tot (u : TS) (x : Int) : tli (stot u x) = tli u := rfl
theorem gs_li_fb (u : TS) (x : Int) : tli (sfb u x) = tli u := rfl
theorem gs_li_fi (u : TS) (x : Int) : tli (sfi u x) = tli u := rfl
theorem gs_li_li (u : TS) (x : Int) : tli (sli u x) = x := rfl
theorem gs_li_ll (u : TS) (x : (Nat → Int)) : tli (sll u x) = tli u := rfl
theorem gs_li_len (u : TS) (x : (Nat → Int)) : tli (slen u x) = tli u := rfl
theorem gs_ll_kl (u : TS) (x : Int) : tll (skl u x) = tll u := rfl
theorem gs_ll_key (u : TS) (x : (Nat → Int)) : tll (skey u x) = tll u := rfl
theorem gs_ll_bl (u : TS) (x : Int) : tll (sbl u x) = tll u := rfl
theorem gs_ll_slot (u : TS) (x : (Nat → Int)) : tll (sslot u x) = tll u := rfl
theorem gs_ll_tak (u : TS) (x : (Nat → Int)) : tll (stak u x) = tll u := rfl
theorem gs_ll_siz (u : TS) (x : (Nat → Int)) : tll (ssiz u x) = tll u := rfl
theorem gs_ll_dat (u : TS) (x : (Nat → Int)) : tll (sdat u x) = tll u := rfl
theorem gs_ll_tot (u : TS) (x : Int) : tll (stot u x) = tll u := rfl
theorem gs_ll_fb (u : TS) (x : Int) : tll (sfb u x) = tll u := rfl
theorem gs_ll_fi (u : TS) (x : Int) : tll (sfi u x) = tll u := rfl
theorem gs_ll_li (u : TS) (x : Int) : tll (sli u x) = tll u := rfl
theorem gs_ll_ll (u : TS) (x : (Nat → Int)) : tll (sll u x) = x := rfl
theorem gs_ll_len (u : TS) (x : (Nat → Int)) : tll (slen u x) = tll u := rfl
theorem gs_len_kl (u : TS) (x : Int) : tlen (skl u x) = tlen u := rfl
theorem gs_len_key (u : TS) (x : (Nat → Int)) : tlen (skey u x) = tlen u := rfl
theorem gs_len_bl (u : TS) (x : Int) : tlen (sbl u x) = tlen u := rfl
theorem gs_len_slot (u : TS) (x : (Nat → Int)) : tlen (sslot u x) = tlen u := rfl
theorem gs_len_tak (u : TS) (x : (Nat → Int)) : tlen (stak u x) = tlen u := rfl
theorem gs_len_siz (u : TS) (x : (Nat → Int)) : tlen (ssiz u x) = tlen u := rfl
theorem gs_len_dat (u : TS) (x : (Nat → Int)) : tlen (sdat u x) = tlen u := rfl
theorem gs_len_tot (u : TS) (x : Int) : tlen (stot u x) = tlen u := rfl
theorem gs_len_fb (u : TS) (x : Int) : tlen (sfb u x) = tlen u := rfl
theorem gs_len_fi (u : TS) (x : Int) : tlen (sfi u x) = tlen u := rfl
theorem gs_len_li (u : TS) (x : Int) : tlen (sli u x) = tlen u := rfl
theorem gs_len_ll (u : TS) (x : (Nat → Int)) : tlen (sll u x) = tlen u := rfl
theorem gs_len_len (u : TS) (x : (Nat → Int)) : tlen (slen u x) = x := rfl
theorem ss_kl (u : TS) (x y : Int) : skl (skl u x) y = skl u y := rfl
theorem ss_key (u : TS) (x y : (Nat → Int)) : skey (skey u x) y = skey u y := rfl
theorem ss_bl (u : TS) (x y : Int) : sbl (sbl u x) y = sbl u y := rfl
theorem ss_slot (u : TS) (x y : (Nat → Int)) : sslot (sslot u x) y = sslot u y := rfl
theorem ss_tak (u : TS) (x y : (Nat → Int)) : stak (stak u x) y = stak u y := rfl
theorem ss_siz (u : TS) (x y : (Nat → Int)) : ssiz (ssiz u x) y = ssiz u y := rfl
theorem ss_dat (u : TS) (x y : (Nat → Int)) : sdat (sdat u x) y = sdat u y := rfl
theorem ss_tot (u : TS) (x y : Int) : stot (stot u x) y = stot u y := rfl
theorem ss_fb (u : TS) (x y : Int) : sfb (sfb u x) y = sfb u y := rfl
theorem ss_fi (u : TS) (x y : Int) : sfi (sfi u x) y = sfi u y := rfl
theorem ss_li (u : TS) (x y : Int) : sli (sli u x) y = sli u y := rfl
theorem ss_ll (u : TS) (x y : (Nat → Int)) : sll (sll u x) y = sll u y := rfl
theorem ss_len (u : TS) (x y : (Nat → Int)) : slen (slen u x) y = slen u y := rfl
theorem cm_kl_key (u : TS) (x : Int) (y : (Nat → Int)) : skl (skey u y) x = skey (skl u x) y := rfl
theorem cm_kl_bl (u : TS) (x : Int) (y : Int) : skl (sbl u y) x = sbl (skl u x) y := rfl
theorem cm_kl_slot (u : TS) (x : Int) (y : (Nat → Int)) : skl (sslot u y) x = sslot (skl u x) y := rfl
theorem cm_kl_tak (u : TS) (x : Int) (y : (Nat → Int)) : skl (stak u y) x = stak (skl u x) y := rfl
theorem cm_kl_siz (u : TS) (x : Int) (y : (Nat → Int)) : skl (ssiz u y) x = ssiz (skl u x) y := rfl
theorem cm_kl_dat (u : TS) (x : Int) (y : (Nat → Int)) : skl (sdat u y) x = sdat (skl u x) y := rfl
theorem cm_kl_tot (u : TS) (x : Int) (y : Int) : skl (stot u y) x = stot (skl u x) y := rfl
theorem cm_kl_fb (u : TS) (x : Int) (y : Int) : skl (sfb u y) x = sfb (skl u x) y := rfl
theorem cm_kl_fi (u : TS) (x : Int) (y : Int) : skl (sfi u y) x = sfi (skl u x) y := rfl
theorem cm_kl_li (u : TS) (x : Int) (y : Int) : skl (sli u y) x = sli (skl u x) y := rfl
theorem cm_kl_ll (u : TS) (x : Int) (y : (Nat → Int)) : skl (sll u y) x = sll (skl u x) y := rfl
theorem cm_kl_len (u : TS) (x : Int) (y : (Nat → Int)) : skl (slen u y) x = slen (skl u x) y := rfl
theorem cm_key_bl (u : TS) (x : (Nat → Int)) (y : Int) : skey (sbl u y) x = sbl (skey u x) y := rfl
theorem cm_key_slot (u : TS) (x : (Nat → Int)) (y : (Nat → Int)) : skey (sslot u y) x = sslot (skey u x) y := rfl
theorem cm_key_tak (u : TS) (x : (Nat → Int)) (y : (Nat → Int)) : skey (stak u y) x = stak (skey u x) y := rfl
theorem cm_key_siz (u : TS) (x : (Nat → Int)) (y : (Nat → Int)) : skey (ssiz u y) x = ssiz (skey u x) y := rfl
theorem cm_key_dat (u : TS) (x : (Nat → Int)) (y : (Nat → Int)) : skey (sdat u y) x = sdat (skey u x) y := rfl
theorem cm_key_tot (u : TS) (x : (Nat → Int)) (y : Int) : skey (stot u y) x = stot (skey u x) y := rfl
theorem cm_key_fb (u : TS) (x : (Nat → Int)) (y : Int) : skey (sfb u y) x = sfb (skey u x) y := rfl
theorem cm_key_fi (u : TS) (x : (Nat → Int)) (y : Int) : skey (sfi u y) x = sfi (skey u x) y := rfl
theorem cm_key_li (u : TS) (x : (Nat → Int)) (y : Int) : skey (sli u y) x = sli (skey u x) y := rfl
theorem cm_key_ll (u : TS) (x : (Nat → Int)) (y : (Nat → Int)) : skey (sll u y) x = sll (skey u x) y := rfl
theorem cm_key_len (u : TS) (x : (Nat → Int)) (y : (Nat → Int)) : skey (slen u y) x = slen (skey u x) y := rfl
theorem cm_bl_slot (u : TS) (x : Int) (y : (Nat → Int)) : sbl (sslot u y) x = sslot (sbl u x) y := rfl
theorem cm_bl_tak (u : TS) (x : Int) (y : (Nat → Int)) : sbl (stak u y) x = stak (sbl u x) y := rfl
theorem cm_bl_siz (u : TS) (x : Int) (y : (Nat → Int)) : sbl (ssiz u y) x = ssiz (sbl u x) y := rfl
theorem cm_bl_dat (u : TS) (x : Int) (y : (Nat → Int)) : sbl (sdat u y) x = sdat (sbl u x) y := rfl
theorem cm_bl_tot (u : TS) (x : Int) (y : Int) : sbl (stot u y) x = stot (sbl u x) y := rfl
theorem cm_bl_fb (u : TS) (x : Int) (y : Int) : sbl (sfb u y) x = sfb (sbl u x) y := rfl
theorem cm_bl_fi (u : TS) (x : Int) (y : Int) : sbl (sfi u y) x = sfi (sbl u x) y := rfl
theorem cm_bl_li (u : TS) (x : Int) (y : Int) : sbl (sli u y) x = sli (sbl u x) y := rfl
theorem cm_bl_ll (u : TS) (x : Int) (y : (Nat → Int)) : sbl (sll u y) x = sll (sbl u x) y := rfl
theorem cm_bl_len (u : TS) (x : Int) (y : (Nat → Int)) : sbl (slen u y) x = slen (sbl u x) y := rfl
theorem cm_slot_tak (u : TS) (x : (Nat → Int)) (y : (Nat → Int)) : sslot (stak u y) x = stak (sslot u x) y := rfl
theorem cm_slot_siz (u : TS) (x : (Nat → Int)) (y : (Nat → Int)) : sslot (ssiz u y) x = ssiz (sslot u x) y := rfl
theorem cm_slot_dat (u : TS) (x : (Nat → Int)) (y : (Nat → Int)) : sslot (sdat u y) x = sdat (sslot u x) y := rfl
theorem cm_slot_tot (u : TS) (x : (Nat → Int)) (y : Int) : sslot (stot u y) x = stot (sslot u x) y := rfl
theorem cm_slot_fb (u : TS) (x : (Nat → Int)) (y : Int) : sslot (sfb u y) x = sfb (sslot u x) y := rfl
theorem cm_slot_fi (u : TS) (x : (Nat → Int)) (y : Int) : sslot (sfi u y) x = sfi (sslot u x) y := rfl
theorem cm_slot_li (u : TS) (x : (Nat → Int)) (y : Int) : sslot (sli u y) x = sli (sslot u x) y := rfl
theorem cm_slot_ll (u : TS) (x : (Nat → Int)) (y : (Nat → Int)) : sslot (sll u y) x = sll (sslot u x) y := rfl
theorem cm_slot_len (u : TS) (x : (Nat → Int)) (y : (Nat → Int)) : sslot (slen u y) x = slen (sslot u x) y := rfl
theorem cm_tak_siz (u : TS) (x : (Nat → Int)) (y : (Nat → Int)) : stak (ssiz u y) x = ssiz (stak u x) y := rfl
theorem cm_tak_dat (u : TS) (x : (Nat → Int)) (y : (Nat → Int)) : stak (sdat u y) x = sdat (stak u x) y := rfl
theorem cm_tak_tot (u : TS) (x : (Nat → Int)) (y : Int) : stak (stot u y) x = stot (stak u x) y := rfl
theorem cm_tak_fb (u : TS) (x : (Nat → Int)) (y : Int) : stak (sfb u y) x = sfb (stak u x) y := rfl
theorem cm_tak_fi (u : TS) (x : (Nat → Int)) (y : Int) : stak (sfi u y) x = sfi (stak u x) y := rfl
theorem cm_tak_li (u : TS) (x : (Nat → Int)) (y : Int) : stak (sli u y) x = sli (stak u x) y := rfl
theorem cm_tak_ll (u : TS) (x : (Nat → Int)) (y : (Nat → Int)) : stak (sll u y) x = sll (stak u x) y := rfl
theorem cm_tak_len (u : TS) (x : (Nat → Int)) (y : (Nat → Int)) : stak (slen u y) x = slen (stak u x) y := rfl
theorem cm_siz_dat (u : TS) (x : (Nat → Int)) (y : (Nat → Int)) : ssiz (sdat u y) x = sdat (ssiz u x) y := rfl
theorem cm_siz_tot (u : TS) (x : (Nat → Int)) (y : Int) : ssiz (stot u y) x = stot (ssiz u x) y := rfl
theorem cm_siz_fb (u : TS) (x : (Nat → Int)) (y : Int) : ssiz (sfb u y) x = sfb (ssiz u x) y := rfl
theorem cm_siz_fi (u : TS) (x : (Nat → Int)) (y : Int) : ssiz (sfi u y) x = sfi (ssiz u x) y := rfl
theorem cm_siz_li (u : TS) (x : (Nat → Int)) (y : Int) : ssiz (sli u y) x = sli (ssiz u x) y := rfl
theorem cm_siz_ll (u : TS) (x : (Nat → Int)) (y : (Nat → Int)) : ssiz (sll u y) x = sll (ssiz u x) y := rfl
theorem cm_siz_len (u : TS) (x : (Nat → Int)) (y : (Nat → Int)) : ssiz (slen u y) x = slen (ssiz u x) y := rfl
theorem cm_dat_tot (u : TS) (x : (Nat → Int)) (y : Int) : sdat (stot u y) x = stot (sdat u x) y := rfl
theorem cm_dat_fb (u : TS) (x : (Nat → Int)) (y : Int) : sdat (sfb u y) x = sfb (sdat u x) y := rfl
theorem cm_dat_fi (u : TS) (x : (Nat → Int)) (y : Int) : sdat (sfi u y) x = sfi (sdat u x) y := rfl
theorem cm_dat_li (u : TS) (x : (Nat → Int)) (y : Int) : sdat (sli u y) x = sli (sdat u x) y := rfl
theorem cm_dat_ll (u : TS) (x : (Nat → Int)) (y : (Nat → Int)) : sdat (sll u y) x = sll (sdat u x) y := rfl
theorem cm_dat_len (u : TS) (x : (Nat → Int)) (y : (Nat → Int)) : sdat (slen u y) x = slen (sdat u x) y := rfl
theorem cm_tot_fb (u : TS) (x : Int) (y : Int) : stot (sfb u y) x = sfb (stot u x) y := rfl
theorem cm_tot_fi (u : TS) (x : Int) (y : Int) : stot (sfi u y) x = sfi (stot u x) y := rfl
theorem cm_tot_li (u : TS) (x : Int) (y : Int) : stot (sli u y) x = sli (stot u x) y := rfl
theorem cm_tot_ll (u : TS) (x : Int) (y : (Nat → Int)) : stot (sll u y) x = sll (stot u x) y := rfl
theorem cm_tot_len (u : TS) (x : Int) (y : (Nat → Int)) : stot (slen u y) x = slen (stot u x) y := rfl
theorem cm_fb_fi (u : TS) (x : Int) (y : Int) : sfb (sfi u y) x = sfi (sfb u x) y := rfl
theorem cm_fb_li (u : TS) (x : Int) (y : Int) : sfb (sli u y) x = sli (sfb u x) y := rfl
theorem cm_fb_ll (u : TS) (x : Int) (y : (Nat → Int)) : sfb (sll u y) x = sll (sfb u x) y := rfl
theorem cm_fb_len (u : TS) (x : Int) (y : (Nat → Int)) : sfb (slen u y) x = slen (sfb u x) y := rfl
theorem cm_fi_li (u : TS) (x : Int) (y : Int) : sfi (sli u y) x = sli (sfi u x) y := rfl
theorem cm_fi_ll (u : TS) (x : Int) (y : (Nat → Int)) : sfi (sll u y) x = sll (sfi u x) y := rfl
theorem cm_fi_len (u : TS) (x : Int) (y : (Nat → Int)) : sfi (slen u y) x = slen (sfi u x) y := rfl
theorem cm_li_ll (u : TS) (x : Int) (y : (Nat → Int)) : sli (sll u y) x = sll (sli u x) y := rfl
theorem cm_li_len (u : TS) (x : Int) (y : (Nat → Int)) : sli (slen u y) x = slen (sli u x) y := rfl
theorem cm_ll_len (u : TS) (x : (Nat → Int)) (y : (Nat → Int)) : sll (slen u y) x = slen (sll u x) y := rfl
theorem id_kl (u : TS) : skl u (tkl u) = u := rfl
theorem id_key (u : TS) : skey u (tkey u) = u := rfl
theorem id_bl (u : TS) : sbl u (tbl u) = u := rfl
theorem id_slot (u : TS) : sslot u (tslot u) = u := rfl
theorem id_tak (u : TS) : stak u (ttak u) = u := rfl
theorem id_siz (u : TS) : ssiz u (tsiz u) = u := rfl
theorem id_dat (u : TS) : sdat u (tdat u) = u := rfl
theorem id_tot (u : TS) : stot u (ttot u) = u := rfl
theorem id_fb (u : TS) : sfb u (tfb u) = u := rfl
theorem id_fi (u : TS) : sfi u (tfi u) = u := rfl
theorem id_li (u : TS) : sli u (tli u) = u := rfl
theorem id_ll (u : TS) : sll u (tll u) = u := rfl
theorem id_len (u : TS) : slen u (tlen u) = u := rfl
end
section
/-! plain: the class's key and its list of whole terms -/
def KY (u : TS) (K : List Int) : Prop := tkl u = K.length ∧ rT (tkey u) 0 K ∧ wfT K
def row (f g : Nat → Int) (k : Nat) (t : List Int) : Prop := g k = t.length ∧ rT f (6 * k) t
theorem T_sharedWithKey_loop {u : TS} {K t : List Int} (hk : KY u K) {j : Nat} (hj : j < 16) (hr : row (tll u) (tlen u) j t) (hw : wfT t) (C : Int → TS → Prop) (hp : C (tx_cp t K) u) :
    ∀ (n m : Nat) (x : Int), x = m → m ≤ tx_cp t K → K.length < m + n → wl_T_sharedWithKey_2 j C n x u := by
  obtain ⟨hty, hkey, hK⟩ := hk
  have hcl := cp_le t K
  have hw1 := hw.1
  have hK1 := hK.1
  intro n
  induction n with
  | zero => intro m x hx hm hn; omega
  | succ n ih =>
    intro m x hx hm hn
    subst hx
    rw [wl_T_sharedWithKey_2]
    refine br_le_i (fun h => ?_) (fun h => ?_)
    · rw [cp_end hm (Or.inr (Or.inl (by omega)))] at hp; exact hp
    · refine ⟨⟨by omega, by omega⟩, fun v16 e16 => ?_⟩
      rw [show ((j : Int)).toNat = j by omega, hr.1] at e16
      subst e16
      refine br_le_i (fun h => ?_) (fun h => ?_)
      · rw [cp_end hm (Or.inl (by omega))] at hp; exact hp
      · have hb1 := hw.2 m (by omega)
        have hb2 := hK.2 m (by omega)
        refine ⟨⟨by omega, by omega⟩, fun v30 e30 => ?_⟩
        rw [show (6 * (j : Int) + (m : Int)).toNat = 6 * j + m by omega, hr.2 m (by omega)] at e30
        refine ⟨⟨by omega, by omega⟩, fun v36 e36 => ?_⟩
        rw [show ((m : Int)).toNat = 0 + m by omega, hkey m (by omega)] at e36
        subst e30
        subst e36
        refine br_eq_i (fun h => ?_) (fun h => ?_)
        · exact ih (m + 1) _ (by omega) (cp_step hm (by omega) (by omega) h) (by omega)
        · rw [cp_end hm (Or.inr (Or.inr h))] at hp; exact hp
theorem T_sharedWithKey {u : TS} {K t : List Int} (hk : KY u K) {j : Nat} (hj : j < 16) (hr : row (tll u) (tlen u) j t) (hw : wfT t) {post : Int → TS → Prop} (hp : post (tx_cp t K) u) : wm_T_sharedWithKey j u post := by
  have h6 := hk.2.2.1
  exact ⟨8, T_sharedWithKey_loop hk hj hr hw (fun y u => post y u) hp 8 0 0 rfl (Nat.zero_le _) (by omega)⟩
theorem T_sharedInList_loop {u : TS} {s t : List Int} {a b : Nat} (ha : a < 16) (hb : b < 16) (hra : row (tll u) (tlen u) a s) (hrb : row (tll u) (tlen u) b t) (hwa : wfT s) (hwb : wfT t) (C : Int → TS → Prop) (hp : C (tx_cp s t) u) :
    ∀ (n m : Nat) (x : Int), x = m → m ≤ tx_cp s t → s.length < m + n → wl_T_sharedInList_2 a b C n x u := by
  have hcl := cp_le s t
  have hw1 := hwa.1
  have hw2 := hwb.1
  intro n
  induction n with
  | zero => intro m x hx hm hn; omega
  | succ n ih =>
    intro m x hx hm hn
    subst hx
    rw [wl_T_sharedInList_2]
    refine ⟨⟨by omega, by omega⟩, fun v8 e8 => ?_⟩
    rw [show ((a : Int)).toNat = a by omega, hra.1] at e8
    subst e8
    refine br_le_i (fun h => ?_) (fun h => ?_)
    · rw [cp_end hm (Or.inl (by omega))] at hp; exact hp
    · refine ⟨⟨by omega, by omega⟩, fun v18 e18 => ?_⟩
      rw [show ((b : Int)).toNat = b by omega, hrb.1] at e18
      subst e18
      refine br_le_i (fun h => ?_) (fun h => ?_)
      · rw [cp_end hm (Or.inr (Or.inl (by omega)))] at hp; exact hp
      · have hb1 := hwa.2 m (by omega)
        have hb2 := hwb.2 m (by omega)
        refine ⟨⟨by omega, by omega⟩, fun v32 e32 => ?_⟩
        rw [show (6 * (a : Int) + (m : Int)).toNat = 6 * a + m by omega, hra.2 m (by omega)] at e32
        refine ⟨⟨by omega, by omega⟩, fun v43 e43 => ?_⟩
        rw [show (6 * (b : Int) + (m : Int)).toNat = 6 * b + m by omega, hrb.2 m (by omega)] at e43
        subst e32
        subst e43
        refine br_eq_i (fun h => ?_) (fun h => ?_)
        · exact ih (m + 1) _ (by omega) (cp_step hm (by omega) (by omega) h) (by omega)
        · rw [cp_end hm (Or.inr (Or.inr h))] at hp; exact hp
theorem T_sharedInList {u : TS} {s t : List Int} {a b : Nat} {x y : Int} (hx : x = a) (hy : y = b) (ha : a < 16) (hb : b < 16) (hra : row (tll u) (tlen u) a s) (hrb : row (tll u) (tlen u) b t) (hwa : wfT s) (hwb : wfT t) {post : Int → TS → Prop} (hp : post (tx_cp s t) u) : wm_T_sharedInList x y u post := by
  subst hx
  subst hy
  have h6 := hwa.1
  exact ⟨8, T_sharedInList_loop ha hb hra hrb hwa hwb (fun y u => post y u) hp 8 0 0 rfl (Nat.zero_le _) (by omega)⟩
/-! copyInList -/
theorem T_copyInList_loop {u : TS} {t : List Int} {a b : Nat} (ha : a < 16) (hb : b < 16) (hab : a ≠ b) (h6 : t.length ≤ 6) (hr : row (tll u) (tlen u) a t) (C : TS → Prop)
    (hC : ∀ f, rT f (6 * b) t → (∀ q, (q < 6 * b ∨ 6 * b + 6 ≤ q) → f q = tll u q) → C (sll u f)) :
    ∀ (n i : Nat) (x : Int) (f : Nat → Int), x = i → i ≤ t.length → (∀ q, q < i → f (6 * b + q) = t.getD q 0) → (∀ q, (q < 6 * b ∨ 6 * b + 6 ≤ q) → f q = tll u q) → t.length < i + n → wl_T_copyInList_2 a b C n x (sll u f) := by
  intro n
  induction n with
  | zero => intro i x f _ _ _ _ _; omega
  | succ n ih =>
    intro i x f hx hi hf hf2 hn
    subst hx
    rw [wl_T_copyInList_2]
    refine ⟨⟨by omega, by omega⟩, fun v8 e8 => ?_⟩
    rw [show ((a : Int)).toNat = a by omega, show tlen (sll u f) a = tlen u a from rfl, hr.1] at e8
    subst e8
    refine br_le_i (fun h => ?_) (fun h => ?_)
    · exact hC f (fun q hq => hf q (by omega)) hf2
    · refine ⟨⟨by omega, by omega⟩, fun v32 e32 => ?_⟩
      rw [show (6 * (a : Int) + (i : Int)).toNat = 6 * a + i by omega, show tll (sll u f) (6 * a + i) = f (6 * a + i) from rfl, hf2 _ (by omega), hr.2 i (by omega)] at e32
      refine ⟨⟨by omega, by omega⟩, fun u33 e33 => ?_⟩
      rw [show (6 * (b : Int) + (i : Int)).toNat = 6 * b + i by omega] at e33
      subst e32
      subst e33
      refine ih (i + 1) _ (va_up f (6 * b + i) (t.getD i 0)) (by omega) (by omega) (fun q hq => ?_) (fun q hq => ?_) (by omega)
      · by_cases hqi : q = i
        · rw [hqi, up_s]
        · rw [up_n _ _ _ (by omega)]; exact hf q (by omega)
      · rw [up_n _ _ _ (by omega)]; exact hf2 q (by omega)
theorem T_copyInList {u : TS} {t : List Int} {a b : Nat} {x y : Int} (hx : x = a) (hy : y = b) (ha : a < 16) (hb : b < 16) (hab : a ≠ b) (h6 : t.length ≤ 6) (hr : row (tll u) (tlen u) a t) {post : TS → Prop}
    (hp : ∀ f, rT f (6 * b) t → (∀ q, (q < 6 * b ∨ 6 * b + 6 ≤ q) → f q = tll u q) → post (slen (sll u f) (va_up (tlen u) b t.length))) : wm_T_copyInList x y u post := by
  subst hx
  subst hy
  refine ⟨8, T_copyInList_loop ha hb hab h6 hr _ (fun f hf hf2 => ?_) 8 0 0 (tll u) rfl (Nat.zero_le _) (fun q hq => absurd hq (Nat.not_lt_zero _)) (fun q _ => rfl) (by omega)⟩
  refine ⟨⟨by omega, by omega⟩, fun v50 e50 => ?_⟩
  rw [show ((a : Int)).toNat = a by omega, show tlen (sll u f) a = tlen u a from rfl, hr.1] at e50
  subst e50
  refine ⟨⟨by omega, by omega⟩, fun u51 e51 => ?_⟩
  rw [show ((b : Int)).toNat = b by omega] at e51
  subst e51
  exact hp f hf hf2
/-- the list: how many, and their rows -/
def LB (u : TS) (Ls : List (List Int)) : Prop := tli u = Ls.length ∧ Ls.length ≤ 16 ∧ (∀ k t, Ls[k]? = some t → row (tll u) (tlen u) k t) ∧ ∀ t ∈ Ls, wfT t
theorem row_keep {f f' g g' : Nat → Int} {k b : Nat} {t : List Int} (hr : row f g k t) (h6 : t.length ≤ 6) (hkb : k ≠ b) (hf : ∀ q, (q < 6 * b ∨ 6 * b + 6 ≤ q) → f' q = f q) (hg : g' k = g k) : row f' g' k t :=
  ⟨by rw [hg]; exact hr.1, fun i hi => by rw [hf _ (by omega)]; exact hr.2 i hi⟩
theorem T_putKey_loop1 {u : TS} {Ls : List (List Int)} (h16 : Ls.length < 16) (hw : ∀ t ∈ Ls, wfT t) {pl : Nat} (hpl : pl ≤ Ls.length) (C : TS → Prop)
    (hC : ∀ f g, (∀ i t, Ls[i]? = some t → (i < pl → row f g i t) ∧ (pl ≤ i → row f g (i + 1) t)) → C (slen (sll u f) g)) :
    ∀ (n k : Nat) (x : Int) (f g : Nat → Int), x = k → pl ≤ k → k ≤ Ls.length → (∀ i t, Ls[i]? = some t → (i < k → row f g i t) ∧ (k ≤ i → row f g (i + 1) t)) → k < pl + n → wl_T_putKeyInList_5 pl C n x (slen (sll u f) g) := by
  intro n
  induction n with
  | zero => intro k x f g _ _ _ _ _; omega
  | succ n ih =>
    intro k x f g hx h1 h2 hinv hn
    subst hx
    rw [wl_T_putKeyInList_5]
    refine br_le_i (fun h => ?_) (fun h => ?_)
    · have e : k = pl := by omega
      subst e
      exact hC f g hinv
    · have hlt : k - 1 < Ls.length := by omega
      have ht : Ls[k - 1]? = some Ls[k - 1] := List.getElem?_eq_getElem hlt
      have hwt := hw _ (List.mem_of_getElem? ht)
      have hr := (hinv (k - 1) _ ht).1 (by omega)
      refine T_copyInList (u := slen (sll u f) g) (a := k - 1) (b := k) (by omega) rfl (by omega) (by omega) (by omega) hwt.1 hr (fun f2 hf hf2 => ?_)
      refine ih (k - 1) _ f2 (va_up g k (Ls[k - 1].length : Int)) (by omega) (by omega) (by omega) (fun i t hi => ⟨fun hik => ?_, fun hik => ?_⟩) (by omega)
      · exact row_keep (b := k) ((hinv i t hi).1 (by omega)) (hw t (List.mem_of_getElem? hi)).1 (by omega) hf2 (up_n _ _ _ (by omega))
      · by_cases e : i = k - 1
        · subst e
          rw [ht] at hi
          cases hi
          have ek : k - 1 + 1 = k := by omega
          rw [ek]
          exact ⟨up_s _ _ _, hf⟩
        · exact row_keep (b := k) ((hinv i t hi).2 (by omega)) (hw t (List.mem_of_getElem? hi)).1 (by omega) hf2 (up_n _ _ _ (by omega))
theorem T_putKey_loop2 {u : TS} {K : List Int} (hk : KY u K) {pl : Nat} (hpl : pl < 16) (C : TS → Prop)
    (hC : ∀ f2, rT f2 (6 * pl) K → (∀ q, (q < 6 * pl ∨ 6 * pl + 6 ≤ q) → f2 q = tll u q) → C (sll u f2)) :
    ∀ (n i : Nat) (x : Int) (f : Nat → Int), x = i → i ≤ K.length → (∀ q, q < i → f (6 * pl + q) = K.getD q 0) → (∀ q, (q < 6 * pl ∨ 6 * pl + 6 ≤ q) → f q = tll u q) → K.length < i + n → wl_T_putKeyInList_26 pl C n x (sll u f) := by
  obtain ⟨hkl, hkey, hK⟩ := hk
  have h6 := hK.1
  intro n
  induction n with
  | zero => intro i x f _ _ _ _ _; omega
  | succ n ih =>
    intro i x f hx hi hf hf2 hn
    subst hx
    rw [wl_T_putKeyInList_26]
    have hkl' : tkl (sll u f) = K.length := hkl
    refine br_le_i (fun h => ?_) (fun h => ?_)
    · exact hC f (fun q hq => hf q (by omega)) hf2
    · refine ⟨⟨by omega, by omega⟩, fun v49 e49 => ?_⟩
      rw [show ((i : Int)).toNat = 0 + i by omega, show tkey (sll u f) (0 + i) = tkey u (0 + i) from rfl, hkey i (by omega)] at e49
      refine ⟨⟨by omega, by omega⟩, fun u50 e50 => ?_⟩
      rw [show (6 * (pl : Int) + (i : Int)).toNat = 6 * pl + i by omega] at e50
      subst e49
      subst e50
      refine ih (i + 1) _ (va_up f (6 * pl + i) (K.getD i 0)) (by omega) (by omega) (fun q hq => ?_) (fun q hq => ?_) (by omega)
      · by_cases hqi : q = i
        · rw [hqi, up_s]
        · rw [up_n _ _ _ (by omega)]; exact hf q (by omega)
      · rw [up_n _ _ _ (by omega)]; exact hf2 q (by omega)
theorem get_ins {α : Type} {l : List α} {x t : α} {p i : Nat} (hp : p ≤ l.length) (h : (l.take p ++ x :: l.drop p)[i]? = some t) : (i < p ∧ l[i]? = some t) ∨ (i = p ∧ t = x) ∨ (p < i ∧ l[i - 1]? = some t) := by
  have hl : (l.take p).length = p := by simp; omega
  rcases Nat.lt_trichotomy i p with q | q | q
  · rw [List.getElem?_append_left (by omega), List.getElem?_take_of_lt q] at h
    exact Or.inl ⟨q, h⟩
  · subst q
    rw [List.getElem?_append_right (by omega), hl] at h
    simp at h
    exact Or.inr (Or.inl ⟨rfl, h.symm⟩)
  · rw [List.getElem?_append_right (by omega), hl] at h
    rw [show i - p = (i - p - 1) + 1 by omega, List.getElem?_cons_succ, List.getElem?_drop] at h
    rw [show p + (i - p - 1) = i - 1 by omega] at h
    exact Or.inr (Or.inr ⟨q, h⟩)
theorem get_del {α : Type} {l : List α} {t : α} {p i : Nat} (hp : p < l.length) (h : (l.take p ++ l.drop (p + 1))[i]? = some t) : (i < p ∧ l[i]? = some t) ∨ (p ≤ i ∧ l[i + 1]? = some t) := by
  have hl : (l.take p).length = p := by simp; omega
  rcases Nat.lt_or_ge i p with q | q
  · rw [List.getElem?_append_left (by omega), List.getElem?_take_of_lt q] at h
    exact Or.inl ⟨q, h⟩
  · rw [List.getElem?_append_right (by omega), hl, List.getElem?_drop, show p + 1 + (i - p) = i + 1 by omega] at h
    exact Or.inr ⟨q, h⟩
theorem mem_ins {α : Type} {l : List α} {x t : α} {p : Nat} (h : t ∈ l.take p ++ x :: l.drop p) : t = x ∨ t ∈ l := by
  rcases List.mem_append.mp h with q | q
  · exact Or.inr (List.mem_of_mem_take q)
  · rcases List.mem_cons.mp q with q | q
    · exact Or.inl q
    · exact Or.inr (List.mem_of_mem_drop q)
theorem mem_del {α : Type} {l : List α} {t : α} {p : Nat} (h : t ∈ l.take p ++ l.drop (p + 1)) : t ∈ l := by
  rcases List.mem_append.mp h with q | q
  · exact List.mem_of_mem_take q
  · exact List.mem_of_mem_drop q
/-- putKeyInList: the key stands at the place in the list -/
theorem T_putKeyInList {u : TS} {K : List Int} {Ls : List (List Int)} (hk : KY u K) (hb : LB u Ls) (h16 : Ls.length < 16) {pl : Nat} {x : Int} (hx : x = pl) (hpl : pl ≤ Ls.length) {post : TS → Prop}
    (hp : ∀ f g n, LB (sli (slen (sll u f) g) n) (Ls.take pl ++ K :: Ls.drop pl) → post (sli (slen (sll u f) g) n)) : wm_T_putKeyInList x u post := by
  subst hx
  obtain ⟨hli, _, hrow, hw⟩ := hb
  rw [wm_T_putKeyInList, hli]
  refine ⟨17, T_putKey_loop1 h16 hw hpl _ (fun f g hinv => ?_) 17 Ls.length _ (tll u) (tlen u) rfl hpl (Nat.le_refl _) (fun i t hi => ⟨fun _ => hrow i t hi, fun q => absurd (getlt hi) (by omega)⟩) (by omega)⟩
  have hk2 : KY (slen (sll u f) g) K := hk
  refine ⟨8, T_putKey_loop2 hk2 (pl := pl) (by omega) _ (fun f2 hf hf2 => ?_) 8 0 0 f rfl (Nat.zero_le _) (fun q hq => absurd hq (Nat.not_lt_zero _)) (fun q _ => rfl) (by have := hk.2.2.1; omega)⟩
  refine ⟨⟨by omega, by omega⟩, fun u66 e66 => ?_⟩
  intro u74 e74
  rw [show ((pl : Int)).toNat = pl by omega, show tkl (sll (slen (sll u f) g) f2) = tkl u from rfl, hk.1] at e66
  subst e66
  subst e74
  refine hp f2 (va_up g pl (K.length : Int)) _ ⟨?_, ?_, fun i t hi => ?_, fun t ht => ?_⟩
  · show tli u + 1 = _
    rw [hli]
    simp
    omega
  · simp
    omega
  · rcases get_ins hpl hi with ⟨q, hi⟩ | ⟨rfl, rfl⟩ | ⟨q, hi⟩
    · exact row_keep (b := pl) ((hinv i t hi).1 q) (hw t (List.mem_of_getElem? hi)).1 (by omega) hf2 (up_n _ _ _ (by omega))
    · exact ⟨up_s _ _ _, hf⟩
    · have := (hinv (i - 1) t hi).2 (by omega)
      rw [show i - 1 + 1 = i by omega] at this
      exact row_keep (b := pl) this (hw t (List.mem_of_getElem? hi)).1 (by omega) hf2 (up_n _ _ _ (by omega))
  · rcases mem_ins ht with q | q
    · rw [q]; exact hk.2.2
    · exact hw t q
theorem T_takeFrom_loop {u : TS} {Ls : List (List Int)} (hli : tli u = Ls.length) (h16 : Ls.length ≤ 16) (hw : ∀ t ∈ Ls, wfT t) {pl : Nat} (hpl : pl < Ls.length) (C : TS → Prop)
    (hC : ∀ f g, (∀ i t, Ls[i]? = some t → (i < pl → row f g i t) ∧ (pl < i → row f g (i - 1) t)) → C (slen (sll u f) g)) :
    ∀ (n k : Nat) (x : Int) (f g : Nat → Int), x = k → pl ≤ k → k < Ls.length → (∀ i t, Ls[i]? = some t → (i < pl → row f g i t) ∧ (pl < i → i ≤ k → row f g (i - 1) t) ∧ (k < i → row f g i t)) → Ls.length < k + n + 1 → wl_T_takeFromList_2 C n x (slen (sll u f) g) := by
  intro n
  induction n with
  | zero => intro k x f g _ _ _ _ _; omega
  | succ n ih =>
    intro k x f g hx h1 h2 hinv hn
    subst hx
    rw [wl_T_takeFromList_2]
    have hli' : tli (slen (sll u f) g) = Ls.length := hli
    refine br_le_i (fun h => ?_) (fun h => ?_)
    · refine hC f g (fun i t hi => ⟨fun q => (hinv i t hi).1 q, fun q => (hinv i t hi).2.1 q ?_⟩)
      have := getlt hi
      omega
    · have hlt : k + 1 < Ls.length := by omega
      have ht : Ls[k + 1]? = some Ls[k + 1] := List.getElem?_eq_getElem hlt
      have hwt := hw _ (List.mem_of_getElem? ht)
      have hr := (hinv (k + 1) _ ht).2.2 (by omega)
      refine T_copyInList (u := slen (sll u f) g) (a := k + 1) (b := k) (by omega) rfl (by omega) (by omega) (by omega) hwt.1 hr (fun f2 hf hf2 => ?_)
      refine ih (k + 1) _ f2 (va_up g k (Ls[k + 1].length : Int)) (by omega) (by omega) (by omega) (fun i t hi => ⟨fun hik => ?_, fun hik hik2 => ?_, fun hik => ?_⟩) (by omega)
      · exact row_keep (b := k) ((hinv i t hi).1 hik) (hw t (List.mem_of_getElem? hi)).1 (by omega) hf2 (up_n _ _ _ (by omega))
      · by_cases e : i = k + 1
        · subst e
          rw [ht] at hi
          cases hi
          rw [show k + 1 - 1 = k by omega]
          exact ⟨up_s _ _ _, hf⟩
        · exact row_keep (b := k) ((hinv i t hi).2.1 hik (by omega)) (hw t (List.mem_of_getElem? hi)).1 (by omega) hf2 (up_n _ _ _ (by omega))
      · exact row_keep (b := k) ((hinv i t hi).2.2 (by omega)) (hw t (List.mem_of_getElem? hi)).1 (by omega) hf2 (up_n _ _ _ (by omega))
theorem T_takeFromList {u : TS} {Ls : List (List Int)} (hb : LB u Ls) {pl : Nat} {x : Int} (hx : x = pl) (hpl : pl < Ls.length) {post : TS → Prop}
    (hp : ∀ f g n, LB (sli (slen (sll u f) g) n) (Ls.take pl ++ Ls.drop (pl + 1)) → post (sli (slen (sll u f) g) n)) : wm_T_takeFromList x u post := by
  subst hx
  obtain ⟨hli, h16, hrow, hw⟩ := hb
  rw [wm_T_takeFromList]
  refine ⟨17, T_takeFrom_loop hli h16 hw hpl _ (fun f g hinv => ?_) 17 pl _ (tll u) (tlen u) rfl (Nat.le_refl _) hpl (fun i t hi => ⟨fun _ => hrow i t hi, fun q q2 => by omega, fun _ => hrow i t hi⟩) (by omega)⟩
  intro u33 e33
  subst e33
  refine hp f g _ ⟨?_, ?_, fun i t hi => ?_, fun t ht => hw t (mem_del ht)⟩
  · show tli u - 1 = _
    rw [hli]
    simp
    omega
  · simp
    omega
  · rcases get_del hpl hi with ⟨q, hi⟩ | ⟨q, hi⟩
    · exact (hinv i t hi).1 q
    · have := (hinv (i + 1) t hi).2 (by omega)
      rw [show i + 1 - 1 = i by omega] at this
      exact this
end
section
/-! plain: blocks and searching -/
/-- an entry at a place: what it shares with the term before (p), how many letters follow, these letters -/
def en (d : Nat → Int) (a : Nat) (p t : List Int) : Prop := d a = (tx_cp p t : Nat) ∧ d (a + 1) = ((t.length - tx_cp p t : Nat) : Int) ∧ ∀ i, tx_cp p t ≤ i → i < t.length → d (a + 2 + (i - tx_cp p t)) = t.getD i 0
def blk (d : Nat → Int) : Nat → List Int → List (List Int) → Prop
  | _, _, [] => True
  | a, p, t :: ts => en d a p t ∧ blk d (a + 2 + (t.length - tx_cp p t)) t ts
theorem blk_cons (d : Nat → Int) (a : Nat) (p t : List Int) (ts : List (List Int)) : blk d a p (t :: ts) = (en d a p t ∧ blk d (a + 2 + (t.length - tx_cp p t)) t ts) := rfl
theorem en_congr {d d' : Nat → Int} {a : Nat} {p t : List Int} (h : en d a p t) (h6 : t.length ≤ 6) (hd : ∀ q, a ≤ q → q < a + 2 + (t.length - tx_cp p t) → d' q = d q) : en d' a p t := by
  refine ⟨by rw [hd a (by omega) (by omega)]; exact h.1, by rw [hd _ (by omega) (by omega)]; exact h.2.1, fun i h1 h2 => ?_⟩
  rw [hd _ (by omega) (by omega)]
  exact h.2.2 i h1 h2
theorem blk_congr {d d' : Nat → Int} : ∀ {ts : List (List Int)} {a : Nat} {p : List Int}, blk d a p ts → (∀ t ∈ ts, t.length ≤ 6) → (∀ q, a ≤ q → q < a + 8 * ts.length → d' q = d q) → blk d' a p ts
  | [], _, _, _, _, _ => trivial
  | t :: ts, a, p, h, h6, hd => by
    rw [blk_cons] at h ⊢
    have ht := h6 t (by simp)
    simp only [List.length_cons] at hd
    exact ⟨en_congr h.1 ht (fun q h1 h2 => hd q h1 (by omega)), blk_congr h.2 (fun x hx => h6 x (by simp [hx])) (fun q h1 h2 => hd q (by omega) (by omega))⟩
/-- the blocks: bk by the slots -/
def BS (u : TS) (Bs : List (List (List Int))) (sl : List Nat) : Prop :=
  tbl u = Bs.length ∧ sl.length = Bs.length ∧ sl.Nodup ∧ (∀ i s : Nat, sl[i]? = some s → s < 16 ∧ tslot u i = s) ∧ (∀ s : Nat, s < 16 → ttak u s = if s ∈ sl then 1 else 0) ∧ ∀ (i s : Nat) (b : List (List Int)), sl[i]? = some s → Bs[i]? = some b → tsiz u s = b.length ∧ blk (tdat u) (48 * s) [] b
/-- what holds of the blocks' terms at every time -/
def BW (Bs : List (List (List Int))) : Prop := Bs.length ≤ 16 ∧ ∀ b ∈ Bs, b.length ≤ 6 ∧ ∀ t ∈ b, wfT t
def BK (u : TS) (Bs : List (List (List Int))) : Prop := (∃ sl, BS u Bs sl) ∧ BW Bs
theorem BS.at {u : TS} {Bs : List (List (List Int))} {sl : List Nat} (h : BS u Bs sl) {i : Nat} {b : List (List Int)} (hb : Bs[i]? = some b) : ∃ s, sl[i]? = some s ∧ s < 16 ∧ tslot u i = s ∧ tsiz u s = b.length ∧ blk (tdat u) (48 * s) [] b := by
  have hi := getlt hb
  have hi2 : i < sl.length := by rw [h.2.1]; exact hi
  have hs : sl[i]? = some sl[i] := List.getElem?_eq_getElem hi2
  refine ⟨_, hs, (h.2.2.2.1 i _ hs).1, (h.2.2.2.1 i _ hs).2, (h.2.2.2.2.2 i _ b hs hb).1, (h.2.2.2.2.2 i _ b hs hb).2⟩
theorem BK.at {u : TS} {Bs : List (List (List Int))} (h : BK u Bs) {i : Nat} {b : List (List Int)} (hb : Bs[i]? = some b) : ∃ s : Nat, s < 16 ∧ tslot u i = s ∧ tsiz u s = b.length ∧ blk (tdat u) (48 * s) [] b ∧ b.length ≤ 6 ∧ ∀ t ∈ b, wfT t := by
  obtain ⟨⟨sl, hS⟩, hW⟩ := h
  obtain ⟨s, _, h1, h2, h3, h4⟩ := hS.at hb
  exact ⟨s, h1, h2, h3, h4, hW.2 b (List.mem_of_getElem? hb)⟩
theorem BK.bl {u : TS} {Bs : List (List (List Int))} (h : BK u Bs) : tbl u = Bs.length := by
  obtain ⟨⟨sl, hS⟩, _⟩ := h
  exact hS.1
/-- how many terms stand ahead of block b -/
def pre (Bs : List (List (List Int))) (b : Nat) : Nat := (Bs.take b).flatten.length
theorem pre_s {Bs : List (List (List Int))} {j : Nat} {b : List (List Int)} (h : Bs[j]? = some b) : pre Bs (j + 1) = pre Bs j + b.length := by
  unfold pre
  rw [take_s h]
  simp
theorem pre_le (Bs : List (List (List Int))) (j : Nat) : pre Bs j ≤ Bs.flatten.length := by
  unfold pre
  have := List.take_append_drop j Bs
  have e : Bs.flatten = (Bs.take j).flatten ++ (Bs.drop j).flatten := by rw [← List.flatten_append, this]
  rw [e]
  simp
theorem pre_all {Bs : List (List (List Int))} {j : Nat} (h : Bs.length ≤ j) : pre Bs j = Bs.flatten.length := by
  unfold pre
  rw [List.take_of_length_le h]
theorem T_termsBefore_loop {u : TS} {Bs : List (List (List Int))} (hB : BK u Bs) {b : Nat} (hb : b ≤ Bs.length) (C : Int → TS → Prop) (hp : C (pre Bs b) u) :
    ∀ (n j : Nat) (x y : Int), y = j → x = pre Bs j → j ≤ b → b < j + n → wl_T_termsBefore_4 b C n x y u := by
  have h16 := hB.2.1
  intro n
  induction n with
  | zero => intro j x y _ _ _ _; omega
  | succ n ih =>
    intro j x y hy hx hj hn
    subst hy
    rw [wl_T_termsBefore_4]
    refine br_le_i (fun h => ?_) (fun h => ?_)
    · have e : j = b := by omega
      subst e
      rw [hx]; exact hp
    · have hlt : j < Bs.length := by omega
      have hj2 : Bs[j]? = some Bs[j] := List.getElem?_eq_getElem hlt
      obtain ⟨s, hs, hsl, hsz, _, _, _⟩ := hB.at hj2
      refine ⟨⟨by omega, by omega⟩, fun v19 e19 => ?_⟩
      rw [show ((j : Int)).toNat = j by omega, hsl] at e19
      subst e19
      refine ⟨⟨by omega, by omega⟩, fun v20 e20 => ?_⟩
      rw [show ((s : Int)).toNat = s by omega, hsz] at e20
      subst e20
      have e := pre_s hj2
      exact ih (j + 1) _ _ (by omega) (by omega) (by omega) (by omega)
theorem T_termsBefore {u : TS} {Bs : List (List (List Int))} (hB : BK u Bs) {b : Nat} {x : Int} (hx : x = b) (hb : b ≤ Bs.length) {post : Int → TS → Prop} (hp : post (pre Bs b) u) : wm_T_termsBefore x u post := by
  subst hx
  have h16 := hB.2.1
  exact ⟨18, T_termsBefore_loop hB hb (fun y u => post y u) hp 18 0 0 0 rfl rfl (Nat.zero_le _) (by omega)⟩
theorem T_blockOfRank_loop {u : TS} {Bs : List (List (List Int))} (hB : BK u Bs) (hN : Bs.flatten.length ≤ 1000) {r : Nat} (hr : r < Bs.flatten.length) (post : Int → TS → Prop) (C : TS → Prop)
    (hp : ∀ (b : Nat) (w : List (List Int)), Bs[b]? = some w → pre Bs b ≤ r → r < pre Bs b + w.length → post b u) :
    ∀ (n j : Nat) (x y : Int), y = j → x = pre Bs j → j ≤ Bs.length → pre Bs j ≤ r → Bs.length < j + n → wl_T_blockOfRank_4 r post C n x y u := by
  have h16 := hB.2.1
  have hbl := hB.bl
  intro n
  induction n with
  | zero => intro j x y _ _ _ _; omega
  | succ n ih =>
    intro j x y hy hx hj hpr hn
    subst hy
    rw [wl_T_blockOfRank_4]
    refine br_le_i (fun h => ?_) (fun h => ?_)
    · exfalso
      rw [pre_all (by omega)] at hpr
      omega
    · have hlt : j < Bs.length := by omega
      have hj2 : Bs[j]? = some Bs[j] := List.getElem?_eq_getElem hlt
      obtain ⟨s, hs, hsl, hsz, _, h6, _⟩ := hB.at hj2
      refine ⟨⟨by omega, by omega⟩, fun v19 e19 => ?_⟩
      rw [show ((j : Int)).toNat = j by omega, hsl] at e19
      subst e19
      refine ⟨⟨by omega, by omega⟩, fun v20 e20 => ?_⟩
      rw [show ((s : Int)).toNat = s by omega, hsz] at e20
      subst e20
      have e := pre_s hj2
      have e2 := pre_le Bs j
      refine br_le_i (fun h => ?_) (fun h => ?_)
      · exact ih (j + 1) _ _ (by omega) (by omega) (by omega) (by omega) (by omega)
      · exact hp j _ hj2 hpr (by omega)
theorem T_blockOfRank {u : TS} {Bs : List (List (List Int))} (hB : BK u Bs) (hN : Bs.flatten.length ≤ 1000) {r : Nat} {x : Int} (hx : x = r) (hr : r < Bs.flatten.length) {post : Int → TS → Prop}
    (hp : ∀ (b : Nat) (w : List (List Int)), Bs[b]? = some w → pre Bs b ≤ r → r < pre Bs b + w.length → post b u) : wm_T_blockOfRank x u post := by
  subst hx
  have h16 := hB.2.1
  exact ⟨18, T_blockOfRank_loop hB hN hr post _ hp 18 0 0 0 rfl rfl (Nat.zero_le _) (by simp [pre]) (by omega)⟩
/-! matched, isLess -/
theorem T_matched_loop {u : TS} {K p t : List Int} (hk : KY u K) {a : Nat} (ha : a + 8 ≤ 768) (he : en (tdat u) a p t) (hw : wfT t) (C : Int → TS → Prop) (hp : C (tx_cp t K) u) :
    ∀ (n m : Nat) (x : Int), x = m → tx_cp p t ≤ m → m ≤ tx_cp t K → K.length < m + n → wl_T_matched_19 a t.length C n x u := by
  obtain ⟨hty, hkey, hK⟩ := hk
  have hcl := cp_le t K
  have hcp := cp_le p t
  have hw1 := hw.1
  have hK1 := hK.1
  intro n
  induction n with
  | zero => intro m x hx hm0 hm hn; omega
  | succ n ih =>
    intro m x hx hm0 hm hn
    subst hx
    rw [wl_T_matched_19]
    refine br_le_i (fun h => ?_) (fun h => ?_)
    · rw [cp_end hm (Or.inr (Or.inl (by omega)))] at hp; exact hp
    · refine br_le_i (fun h => ?_) (fun h => ?_)
      · rw [cp_end hm (Or.inl (by omega))] at hp; exact hp
      · have hb1 := hw.2 m (by omega)
        have hb2 := hK.2 m (by omega)
        refine ⟨⟨by omega, by omega⟩, fun v47 e47 => ?_⟩
        rw [show ((a : Int)).toNat = a by omega, he.1] at e47
        subst e47
        refine ⟨⟨by omega, by omega⟩, fun v30 e30 => ?_⟩
        rw [show ((a : Int) + 2 + (m : Int) - ((tx_cp p t : Nat) : Int)).toNat = a + 2 + (m - tx_cp p t) by omega, he.2.2 m hm0 (by omega)] at e30
        refine ⟨⟨by omega, by omega⟩, fun v36 e36 => ?_⟩
        rw [show ((m : Int)).toNat = 0 + m by omega, hkey m (by omega)] at e36
        subst e30
        subst e36
        refine br_eq_i (fun h => ?_) (fun h => ?_)
        · exact ih (m + 1) _ (by omega) (by omega) (cp_step hm (by omega) (by omega) h) (by omega)
        · rw [cp_end hm (Or.inr (Or.inr h))] at hp; exact hp
theorem T_matched {u : TS} {K p t : List Int} (hk : KY u K) {a m : Nat} {x y : Int} (hx : x = a) (hy : y = m) (ha : a + 8 ≤ 768) (he : en (tdat u) a p t) (hw : wfT t) (h1 : tx_cp p t ≤ m) (h2 : m ≤ tx_cp t K) {post : Int → TS → Prop} (hp : post (tx_cp t K) u) : wm_T_matched x y u post := by
  subst hx
  subst hy
  have hK1 := hk.2.2.1
  have hcp := cp_le p t
  refine ⟨⟨by omega, by omega⟩, fun v7 e7 => ?_⟩
  rw [show ((a : Int)).toNat = a by omega, he.1] at e7
  refine ⟨⟨by omega, by omega⟩, fun v15 e15 => ?_⟩
  rw [show ((a : Int) + 1).toNat = a + 1 by omega, he.2.1] at e15
  rw [show v7 + v15 = (t.length : Int) by omega]
  exact ⟨8, T_matched_loop hk ha he hw (fun y u => post y u) hp 8 m _ rfl h1 h2 (by omega)⟩
theorem T_isLess {u : TS} {K p t : List Int} (hk : KY u K) {a : Nat} {x y z : Int} (hx : x = a) (hy : y = tx_cp t K) {past : Bool} (hz : z = b2i past) (ha : a + 8 ≤ 768) (he : en (tdat u) a p t) (hw : wfT t) (h1 : tx_cp p t ≤ tx_cp t K) {post : Int → TS → Prop} (hp : post (b2i (tx_lp past t K)) u) : wm_T_isLess x y z u post := by
  subst hx
  subst hy
  subst hz
  obtain ⟨hty, hkey, hK⟩ := hk
  have hcl := cp_le t K
  have hcp := cp_le p t
  have hw1 := hw.1
  have hK1 := hK.1
  rw [wm_T_isLess]
  rw [lp_cp] at hp
  refine br_eq_i (fun h => ?_) (fun h => ?_)
  · rw [if_pos (by omega)] at hp
    refine ⟨?_, hp⟩
    cases past
    · exact Or.inl rfl
    · exact Or.inr rfl
  · rw [if_neg (by omega)] at hp
    refine ⟨⟨by omega, by omega⟩, fun v16 e16 => ?_⟩
    rw [show ((a : Int)).toNat = a by omega, he.1] at e16
    refine ⟨⟨by omega, by omega⟩, fun v24 e24 => ?_⟩
    rw [show ((a : Int) + 1).toNat = a + 1 by omega, he.2.1] at e24
    refine br_eq_i (fun h => ?_) (fun h => ?_)
    · rw [decide_eq_true (show tx_cp t K = t.length by omega)] at hp
      exact ⟨Or.inr rfl, hp⟩
    · have hb1 := hw.2 (tx_cp t K) (by omega)
      have hb2 := hK.2 (tx_cp t K) (by omega)
      refine ⟨⟨by omega, by omega⟩, fun v47 e47 => ?_⟩
      rw [show ((a : Int)).toNat = a by omega, he.1] at e47
      subst e47
      refine ⟨⟨by omega, by omega⟩, fun v30 e30 => ?_⟩
      rw [show ((a : Int) + 2 + (tx_cp t K : Int) - ((tx_cp p t : Nat) : Int)).toNat = a + 2 + (tx_cp t K - tx_cp p t) by omega, he.2.2 _ h1 (by omega)] at e30
      refine ⟨⟨by omega, by omega⟩, fun v36 e36 => ?_⟩
      rw [show ((tx_cp t K : Int)).toNat = 0 + tx_cp t K by omega, hkey _ (by omega)] at e36
      subst e30
      subst e36
      rw [decide_eq_false (show ¬ tx_cp t K = t.length by omega), Bool.false_or] at hp
      refine br_le_i (fun h => ?_) (fun h => ?_)
      · rw [decide_eq_false (by omega)] at hp
        exact ⟨Or.inl rfl, hp⟩
      · rw [decide_eq_true (by omega)] at hp
        exact ⟨Or.inr rfl, hp⟩
theorem b2i_01 (b : Bool) : b2i b = 0 ∨ b2i b = 1 := by
  cases b
  · exact Or.inl rfl
  · exact Or.inr rfl
theorem T_headIsLess {u : TS} {K : List Int} (hk : KY u K) {Bs : List (List (List Int))} (hB : BK u Bs) {b : Nat} {x z : Int} (hx : x = b) {past : Bool} (hz : z = b2i past) {t : List Int} {ts : List (List Int)} (hb : Bs[b]? = some (t :: ts)) {post : Int → TS → Prop} (hp : post (b2i (tx_lp past t K)) u) : wm_T_headIsLess x z u post := by
  subst hx
  obtain ⟨s, hs, hsl, hsz, hbk, h6, hw⟩ := hB.at hb
  have h16 := hB.2.1
  have hlt := getlt hb
  refine ⟨⟨by omega, by omega⟩, fun v7 e7 => ?_⟩
  rw [show ((b : Int)).toNat = b by omega, hsl] at e7
  subst e7
  rw [blk_cons] at hbk
  have hwt := hw t (by simp)
  have hc0 := cp_nil_l t
  refine T_matched hk (a := 48 * s) (m := 0) (by omega) rfl (by omega) hbk.1 hwt (by omega) (Nat.zero_le _) ?_
  refine T_isLess hk (a := 48 * s) (by omega) rfl hz (by omega) hbk.1 hwt (by omega) ?_
  exact ⟨b2i_01 _, hp⟩
/-! scanBlock -/
theorem T_scan_loop {u : TS} {K : List Int} (hk : KY u K) {s : Nat} (hs : s < 16) {past : Bool} {z : Int} (hz : z = b2i past) {N : Nat} (hN : tsiz u s = N) (post : Int → TS → Prop) (C : Int → TS → Prop) (hC : ∀ r, post r u → C r u) :
    ∀ (ts : List (List Int)) (n a k : Nat) (p q : List Int) (x3 x4 x5 x6 : Int), x3 = a → x4 = tx_cp q K → x5 = k → x6 = k → k + ts.length = N → ts.length < n → a + 8 * (1 + ts.length) ≤ 768 → N ≤ 1000 →
      en (tdat u) a p q → blk (tdat u) (a + 2 + (q.length - tx_cp p q)) q ts → tx_so (q :: ts) → wfT q → (∀ t ∈ ts, wfT t) → tx_lp past q K = true → post ((k + tx_ct past K ts : Nat) : Int) u → wl_T_scanBlock_19 s z post C n x3 x4 x5 x6 u := by
  have hK1 := hk.2.2.1
  intro ts
  induction ts with
  | nil =>
    intro n a k p q x3 x4 x5 x6 h3 h4 h5 h6 hkN hn ha hN1 he hb hso hwq hw hlp hp
    obtain ⟨n, rfl⟩ : ∃ n', n = n' + 1 := ⟨n - 1, by omega⟩
    simp only [List.length_nil] at hkN
    rw [wl_T_scanBlock_19]
    refine ⟨⟨by omega, by omega⟩, fun v26 e26 => ?_⟩
    rw [show ((s : Int)).toNat = s by omega, hN] at e26
    refine br_le_i (fun h => ?_) (fun h => ?_)
    · refine hC _ ?_
      rw [h5]
      exact hp
    · omega
  | cons t ts ih =>
    intro n a k p q x3 x4 x5 x6 h3 h4 h5 h6 hkN hn ha hN1 he hb hso hwq hw hlp hp
    obtain ⟨n, rfl⟩ : ∃ n', n = n' + 1 := ⟨n - 1, by omega⟩
    simp only [List.length_cons] at hkN hn ha
    have hcl := cp_le q K
    have hcq := cp_le q t
    have hcp := cp_le p q
    have hq6 := hwq.1
    have hwt := hw t (by simp)
    have ht6 := hwt.1
    have hso2 := List.pairwise_cons.mp hso
    have hqt := hso2.1 t (by simp)
    have hso3 := List.pairwise_cons.mp hso2.2
    rw [blk_cons] at hb
    rw [wl_T_scanBlock_19]
    have h0 : tx_lp past t K = false → post x5 u := fun q0 => by
      have e : tx_ct past K (t :: ts) = 0 := by
        have e1 : tx_ct past K (t :: ts) = tx_ct past K ts := List.countP_cons_of_neg (by rw [q0]; decide)
        rw [e1]
        exact ct_zero hso3.1 q0
      rw [e] at hp
      rw [h5]
      exact hp
    have h1 : tx_lp past t K = true → post ((k + 1 + tx_ct past K ts : Nat) : Int) u := fun q0 => by
      have e : tx_ct past K (t :: ts) = tx_ct past K ts + 1 := List.countP_cons_of_pos q0
      rw [e] at hp
      rw [show k + 1 + tx_ct past K ts = k + (tx_ct past K ts + 1) by omega]
      exact hp
    refine ⟨⟨by omega, by omega⟩, fun v26 e26 => ?_⟩
    rw [show ((s : Int)).toNat = s by omega, hN] at e26
    refine br_le_i (fun h => ?_) (fun h => ?_)
    · omega
    · refine ⟨⟨by omega, by omega⟩, fun v39 e39 => ?_⟩
      rw [h3, show ((a : Int) + 1).toNat = a + 1 by omega, he.2.1] at e39
      have ea : x3 + (2 + v39) = ((a + 2 + (q.length - tx_cp p q) : Nat) : Int) := by omega
      rw [ea]
      have ebnd : a + 2 + (q.length - tx_cp p q) ≤ a + 8 := by omega
      generalize a + 2 + (q.length - tx_cp p q) = a2 at hb ebnd ⊢
      refine ⟨⟨by omega, by omega⟩, fun v48 e48 => ?_⟩
      rw [show ((a2 : Int)).toNat = a2 by omega, hb.1.1] at e48
      refine br_le_i (fun h => ?_) (fun h => ?_)
      · refine ⟨⟨by omega, by omega⟩, fun v62 e62 => ?_⟩
        rw [show ((a2 : Int)).toNat = a2 by omega, hb.1.1] at e62
        refine br_eq_i (fun h => ?_) (fun h => ?_)
        · have hle := sn_eq q t K (by omega)
          refine T_matched hk (a := a2) (m := tx_cp q K) rfl h4 (by omega) hb.1 hwt (by omega) hle ?_
          refine T_isLess hk (a := a2) rfl rfl hz (by omega) hb.1 hwt (by omega) ?_
          by_cases hl : tx_lp past t K = true
          · rw [b2i_t hl]
            refine br_eq_i (fun h => absurd h (by decide)) (fun h => ?_)
            exact ih n a2 (k + 1) q t _ _ _ _ rfl rfl (by omega) (by omega) (by omega) (by omega) (by omega) hN1 hb.1 hb.2 hso2.2 hwt (fun y hy => hw y (by simp [hy])) hl (h1 hl)
          · have hl : tx_lp past t K = false := by simpa using hl
            rw [b2i_f hl]
            exact br_eq_i (fun h => h0 hl) (fun h => absurd rfl h)
        · have hgt := sn_gt past q t K hqt hlp (by omega)
          exact ih n a2 (k + 1) q t _ _ _ _ rfl (by rw [h4, hgt.2]) (by omega) (by omega) (by omega) (by omega) (by omega) hN1 hb.1 hb.2 hso2.2 hwt (fun y hy => hw y (by simp [hy])) hgt.1 (h1 hgt.1)
      · exact h0 (sn_lt past q t K hqt (by omega))
theorem T_scanBlock {u : TS} {K : List Int} (hk : KY u K) {s : Nat} (hs : s < 16) {past : Bool} {x z : Int} (hx : x = s) (hz : z = b2i past) {t : List Int} {ts : List (List Int)} (hN : tsiz u s = (t :: ts).length) (hb : blk (tdat u) (48 * s) [] (t :: ts)) (h6 : (t :: ts).length ≤ 6) (hso : tx_so (t :: ts)) (hw : ∀ q ∈ t :: ts, wfT q) (hlp : tx_lp past t K = true) {post : Int → TS → Prop} (hp : post (tx_ct past K (t :: ts)) u) : wm_T_scanBlock x z u post := by
  subst hx
  rw [blk_cons] at hb
  have hwt := hw t (by simp)
  have hc0 := cp_nil_l t
  simp only [List.length_cons] at h6
  rw [wm_T_scanBlock]
  refine T_matched hk (a := 48 * s) (m := 0) (by omega) rfl (by omega) hb.1 hwt (by omega) (Nat.zero_le _) ?_
  refine ⟨8, T_scan_loop hk hs hz hN post _ (fun r h => h) ts 8 (48 * s) 1 [] t _ _ 1 1 (by omega) rfl rfl rfl (by simp; omega) (by omega) (by omega) (by simp; omega) hb.1 hb.2 hso hwt (fun y hy => hw y (by simp [hy])) hlp ?_⟩
  have e : tx_ct past K (t :: ts) = tx_ct past K ts + 1 := List.countP_cons_of_pos hlp
  rw [e] at hp
  rw [show 1 + tx_ct past K ts = tx_ct past K ts + 1 by omega]
  exact hp
end
section
/-! plain: countLess -/
theorem fl_split {Bs : List (List (List Int))} {i : Nat} {b : List (List Int)} (h : Bs[i]? = some b) : Bs.flatten = (Bs.take i).flatten ++ (b ++ (Bs.drop (i + 1)).flatten) := by
  have hi := getlt h
  have e : Bs = Bs.take i ++ b :: Bs.drop (i + 1) := by
    have := (List.getElem?_eq_some_iff.mp h).2
    rw [← this]
    simp
  have e2 : Bs.flatten = (Bs.take i ++ b :: Bs.drop (i + 1)).flatten := congrArg _ e
  rw [e2, List.flatten_append, List.flatten_cons]
theorem so_lt {Bs : List (List (List Int))} (hso : tx_so Bs.flatten) {i j : Nat} {b c : List (List Int)} {x y : List Int} (hij : i < j) (hi : Bs[i]? = some b) (hj : Bs[j]? = some c) (hx : x ∈ b) (hy : y ∈ c) : tx_lp false x y = true := by
  rw [fl_split hj] at hso
  have h1 := (List.pairwise_append.mp hso).2.2
  refine h1 x ?_ y (List.mem_append_left _ hy)
  refine List.mem_flatten.mpr ⟨b, ?_, hx⟩
  exact List.mem_of_getElem? (i := i) (by rw [List.getElem?_take_of_lt hij]; exact hi)
theorem so_blk {Bs : List (List (List Int))} (hso : tx_so Bs.flatten) {i : Nat} {b : List (List Int)} (hi : Bs[i]? = some b) : tx_so b := by
  rw [fl_split hi] at hso
  have h1 := (List.pairwise_append.mp hso).2.1
  exact (List.pairwise_append.mp h1).1
theorem ct_full {p : Bool} {K : List Int} {Bs : List (List (List Int))} (hso : tx_so Bs.flatten) {l : Nat} {t : List Int} {ts : List (List Int)} (hl : Bs[l]? = some (t :: ts)) (ht : tx_lp p t K = true) : tx_ct p K (Bs.take l).flatten = pre Bs l := by
  refine List.countP_eq_length.mpr (fun x hx => ?_)
  rw [fl_split hl] at hso
  have h1 := (List.pairwise_append.mp hso).2.2 x hx t (by simp)
  exact lp_mono p x t K h1 ht
theorem ct_none {p : Bool} {K : List Int} {Bs : List (List (List Int))} (hso : tx_so Bs.flatten) {l : Nat} (h : ∀ i t ts, l ≤ i → Bs[i]? = some (t :: ts) → tx_lp p t K = false) : tx_ct p K (Bs.drop l).flatten = 0 := by
  refine List.countP_eq_zero.mpr (fun y hy q => ?_)
  obtain ⟨b, hb, hyb⟩ := List.mem_flatten.mp hy
  obtain ⟨i, hi⟩ := List.getElem?_of_mem hb
  rw [List.getElem?_drop] at hi
  cases b with
  | nil => cases hyb
  | cons t ts =>
    have ht := h (l + i) t ts (by omega) hi
    rcases List.mem_cons.mp hyb with e | e
    · rw [e, ht] at q; cases q
    · have := (List.pairwise_cons.mp (so_blk hso hi)).1 y e
      rw [lp_mono p t y K this q] at ht
      cases ht
theorem T_cl_loop {u : TS} {K : List Int} (hk : KY u K) {Bs : List (List (List Int))} (hB : BK u Bs) (hso : tx_so Bs.flatten) (hne : ∀ b ∈ Bs, b ≠ []) {past : Bool} {z : Int} (hz : z = b2i past) (C : Int → TS → Prop)
    (hC : ∀ l : Nat, l ≤ Bs.length → (∀ i t ts, i < l → Bs[i]? = some (t :: ts) → tx_lp past t K = true) → (∀ i t ts, l ≤ i → Bs[i]? = some (t :: ts) → tx_lp past t K = false) → C l u) :
    ∀ (d n lo hi : Nat) (x2 x3 x4 : Int), d ≤ 5 → x2 = lo → x3 = hi → x4 = 5 - (d : Int) → lo ≤ hi → hi ≤ Bs.length → hi - lo < 2 ^ d → d < n → (∀ i t ts, i < lo → Bs[i]? = some (t :: ts) → tx_lp past t K = true) → (∀ i t ts, hi ≤ i → Bs[i]? = some (t :: ts) → tx_lp past t K = false) → wl_T_countLess_10 z C n x2 x3 x4 u := by
  have h16 := hB.2.1
  intro d
  induction d with
  | zero =>
    intro n lo hi x2 x3 x4 hd h2 h3 h4 hlh hhi hdf hn hlo hhi2
    obtain ⟨n, rfl⟩ : ∃ n', n = n' + 1 := ⟨n - 1, by omega⟩
    have e : hi = lo := by simp at hdf; omega
    subst e
    rw [wl_T_countLess_10]
    refine br_le_i (fun h => ?_) (fun h => ?_)
    · rw [h2]; exact hC _ hhi hlo hhi2
    · omega
  | succ d ih =>
    intro n lo hi x2 x3 x4 hd h2 h3 h4 hlh hhi hdf hn hlo hhi2
    obtain ⟨n, rfl⟩ : ∃ n', n = n' + 1 := ⟨n - 1, by omega⟩
    rw [wl_T_countLess_10]
    refine br_le_i (fun h => ?_) (fun h => ?_)
    · omega
    · refine br_le_i (fun h => ?_) (fun h => ?_)
      · have e : hi = lo := by omega
        subst e
        rw [h2]; exact hC _ hhi hlo hhi2
      · refine ⟨⟨by omega, by omega⟩, ?_⟩
        have em : (x2 + x3) / 2 = (((lo + hi) / 2 : Nat) : Int) := by omega
        rw [em]
        have hm1 : lo ≤ (lo + hi) / 2 := by omega
        have hm2 : (lo + hi) / 2 < hi := by omega
        rw [Nat.pow_succ] at hdf
        have hm3 : hi - ((lo + hi) / 2 + 1) < 2 ^ d := by omega
        have hm4 : (lo + hi) / 2 - lo < 2 ^ d := by omega
        generalize (lo + hi) / 2 = mid at hm1 hm2 hm3 hm4 ⊢
        have hlt : mid < Bs.length := by omega
        have hmid : Bs[mid]? = some Bs[mid] := List.getElem?_eq_getElem hlt
        have hmne := hne _ (List.mem_of_getElem? hmid)
        cases hbm : Bs[mid] with
        | nil => exact absurd hbm hmne
        | cons t ts =>
          rw [hbm] at hmid
          refine T_headIsLess hk hB (b := mid) rfl hz hmid ?_
          by_cases hq : tx_lp past t K = true
          · rw [b2i_t hq]
            refine br_eq_i (fun h => absurd h (by decide)) (fun h => ?_)
            refine ih n (mid + 1) hi _ _ _ (by omega) (by omega) h3 (by omega) (by omega) hhi hm3 (by omega) (fun i t1 ts1 hi1 hb1 => ?_) hhi2
            by_cases e : i = mid
            · subst e
              rw [hmid] at hb1
              cases hb1
              exact hq
            · exact lp_mono past t1 t K (so_lt hso (i := i) (j := mid) (by omega) hb1 hmid (by simp) (by simp)) hq
          · have hq : tx_lp past t K = false := by simpa using hq
            rw [b2i_f hq]
            refine br_eq_i (fun h => ?_) (fun h => absurd rfl h)
            refine ih n lo mid _ _ _ (by omega) h2 rfl (by omega) (by omega) (by omega) hm4 (by omega) hlo (fun i t1 ts1 hi1 hb1 => ?_)
            by_cases e : i = mid
            · subst e
              rw [hmid] at hb1
              cases hb1
              exact hq
            · have h1 := so_lt hso (i := mid) (j := i) (by omega) hmid hb1 (x := t) (y := t1) (by simp) (by simp)
              cases hq1 : tx_lp past t1 K with
              | false => rfl
              | true => rw [lp_mono past t t1 K h1 hq1] at hq; cases hq
theorem T_countLess {u : TS} {K : List Int} (hk : KY u K) {Bs : List (List (List Int))} (hB : BK u Bs) (hso : tx_so Bs.flatten) (hne : ∀ b ∈ Bs, b ≠ []) {past : Bool} {z : Int} (hz : z = b2i past) {post : Int → TS → Prop}
    (hp : ∀ b i : Nat, (Bs = [] → b = 0 ∧ i = 0) → (Bs ≠ [] → b < Bs.length) → (∀ w, Bs[b]? = some w → i ≤ w.length) → tx_ct past K Bs.flatten = pre Bs b + i → post (tx_ct past K Bs.flatten) (sfi (sfb u b) i)) : wm_T_countLess z u post := by
  have h16 := hB.2.1
  rw [wm_T_countLess, hB.bl]
  refine ⟨6, T_cl_loop hk hB hso hne hz _ (fun l hl hlo hhi => ?_) 5 6 0 Bs.length 0 _ 0 (by omega) rfl rfl rfl (Nat.zero_le _) (Nat.le_refl _) (by omega) (by omega) (fun i t ts h => absurd h (Nat.not_lt_zero _)) (fun i t ts h h2 => absurd (getlt h2) (by omega))⟩
  refine br_le_i (fun h => ?_) (fun h => ?_)
  · have e : l = 0 := by omega
    subst e
    intro u67 e67
    refine br_le_i (fun h => ?_) (fun h => ?_)
    · intro u92 e92
      subst e67
      subst e92
      have hB2 : BK (sfi (sfb u 0) 0) Bs := hB
      have hc : tx_ct past K Bs.flatten = 0 := by
        have := ct_none (l := 0) (p := past) (K := K) hso hhi
        simpa using this
      refine T_termsBefore hB2 (b := 0) rfl (Nat.zero_le _) ?_
      have := hp 0 0 (fun _ => ⟨rfl, rfl⟩) (fun h => List.length_pos_iff.mpr h) (fun w _ => Nat.zero_le _) (by rw [hc]; simp [pre])
      rw [hc] at this
      exact this
    · omega
  · obtain ⟨l, rfl⟩ : ∃ l', l = l' + 1 := ⟨l - 1, by omega⟩
    have hlt : l < Bs.length := by omega
    have hl2 : Bs[l]? = some Bs[l] := List.getElem?_eq_getElem hlt
    have hlne := hne _ (List.mem_of_getElem? hl2)
    intro u67 e67
    rw [show ((l + 1 : Nat) : Int) - 1 = (l : Int) by omega] at e67
    refine br_le_i (fun h => ?_) (fun h => ?_)
    · omega
    · rw [show ((l + 1 : Nat) : Int) - 1 = (l : Int) by omega]
      obtain ⟨s, hs, hsl, hsz, hbk, h6, hw⟩ := hB.at hl2
      refine ⟨⟨by omega, by omega⟩, fun v83 e83 => ?_⟩
      subst e67
      rw [show ((l : Int)).toNat = l by omega, show tslot (sfb u (l : Int)) l = tslot u l from rfl, hsl] at e83
      subst e83
      cases hbl : Bs[l] with
      | nil => exact absurd hbl hlne
      | cons t ts =>
        rw [hbl] at hl2 hsz hbk h6 hw
        have hlp := hlo l t ts (by omega) hl2
        have hk2 : KY (sfb u (l : Int)) K := hk
        refine T_scanBlock (u := sfb u (l : Int)) hk2 hs rfl hz hsz hbk h6 (so_blk hso hl2) hw hlp ?_
        intro u92 e92
        subst e92
        have hB2 : BK (sfi (sfb u (l : Int)) (tx_ct past K (t :: ts) : Int)) Bs := hB
        refine T_termsBefore hB2 (b := l) rfl (by omega) ?_
        have hc : tx_ct past K Bs.flatten = pre Bs l + tx_ct past K (t :: ts) := by
          rw [fl_split hl2, ct_app, ct_app, ct_full hso hl2 hlp, ct_none hso hhi]
          omega
        have h9 := hp l (tx_ct past K (t :: ts)) (fun e => by rw [e] at hlt; simp at hlt) (fun _ => hlt) (fun w hw => by rw [hl2] at hw; cases hw; exact ct_le _ _ _) hc
        rw [hc] at h9
        rw [show ((pre Bs l : Nat) : Int) + tfi (sfi (sfb u (l : Int)) (tx_ct past K (t :: ts) : Int)) = ((pre Bs l + tx_ct past K (t :: ts) : Nat) : Int) by show ((pre Bs l : Nat) : Int) + (tx_ct past K (t :: ts) : Int) = _; omega]
        exact h9
end
section
/-! plain: unpack -/
theorem T_up34 {u : TS} {a P n0 : Nat} {p t : List Int} (ha : a < 768) (hd : tdat u a = (tx_cp p t : Nat)) (hli : tli u = n0) (hn0 : n0 < 16) (h6 : t.length ≤ 6) (hP : P + p.length ≤ 6 * n0) (hrow : rT (tll u) P p) (C : TS → Prop)
    (hC : ∀ f, (∀ i, i < tx_cp p t → f (6 * n0 + i) = t.getD i 0) → (∀ q, (q < 6 * n0 ∨ 6 * n0 + 6 ≤ q) → f q = tll u q) → C (sll u f)) :
    ∀ (n i : Nat) (x : Int) (f : Nat → Int), x = i → i ≤ tx_cp p t → (∀ q, q < i → f (6 * n0 + q) = t.getD q 0) → (∀ q, (q < 6 * n0 ∨ 6 * n0 + 6 ≤ q) → f q = tll u q) → tx_cp p t < i + n → wl_T_unpack_34 a P C n x (sll u f) := by
  have hcl := cp_le p t
  intro n
  induction n with
  | zero => intro i x f _ _ _ _ _; omega
  | succ n ih =>
    intro i x f hx hi hf hf2 hn
    subst hx
    rw [wl_T_unpack_34]
    have hli' : tli (sll u f) = n0 := hli
    refine ⟨⟨by omega, by omega⟩, fun v41 e41 => ?_⟩
    rw [show ((a : Int)).toNat = a by omega, show tdat (sll u f) a = tdat u a from rfl, hd] at e41
    subst e41
    refine br_le_i (fun h => ?_) (fun h => ?_)
    · exact hC f (fun q hq => hf q (by omega)) hf2
    · refine ⟨⟨by omega, by omega⟩, fun v67 e67 => ?_⟩
      rw [show ((P : Int) + (i : Int)).toNat = P + i by omega, show tll (sll u f) (P + i) = f (P + i) from rfl, hf2 _ (by omega), hrow i (by omega), cp_agree p t i (by omega)] at e67
      refine ⟨⟨by omega, by omega⟩, fun u68 e68 => ?_⟩
      rw [hli', show (6 * (n0 : Int) + (i : Int)).toNat = 6 * n0 + i by omega] at e68
      subst e67
      subst e68
      refine ih (i + 1) _ (va_up f (6 * n0 + i) (t.getD i 0)) (by omega) (by omega) (fun q hq => ?_) (fun q hq => ?_) (by omega)
      · by_cases hqi : q = i
        · rw [hqi, up_s]
        · rw [up_n _ _ _ (by omega)]; exact hf q (by omega)
      · rw [up_n _ _ _ (by omega)]; exact hf2 q (by omega)
theorem T_up78 {u : TS} {a n0 : Nat} {p t : List Int} (ha : a + 8 ≤ 768) (he : en (tdat u) a p t) (hli : tli u = n0) (hn0 : n0 < 16) (h6 : t.length ≤ 6) (C : TS → Prop)
    (hC : ∀ f, (∀ i, tx_cp p t ≤ i → i < t.length → f (6 * n0 + i) = t.getD i 0) → (∀ q, (q < 6 * n0 + tx_cp p t ∨ 6 * n0 + 6 ≤ q) → f q = tll u q) → C (sll u f)) :
    ∀ (n i : Nat) (x : Int) (f : Nat → Int), x = i → i ≤ t.length - tx_cp p t → (∀ q, tx_cp p t ≤ q → q < tx_cp p t + i → f (6 * n0 + q) = t.getD q 0) → (∀ q, (q < 6 * n0 + tx_cp p t ∨ 6 * n0 + 6 ≤ q) → f q = tll u q) → t.length - tx_cp p t < i + n → wl_T_unpack_78 a C n x (sll u f) := by
  have hcl := cp_le p t
  intro n
  induction n with
  | zero => intro i x f _ _ _ _ _; omega
  | succ n ih =>
    intro i x f hx hi hf hf2 hn
    subst hx
    rw [wl_T_unpack_78]
    have hli' : tli (sll u f) = n0 := hli
    refine ⟨⟨by omega, by omega⟩, fun v87 e87 => ?_⟩
    rw [show ((a : Int) + 1).toNat = a + 1 by omega, show tdat (sll u f) (a + 1) = tdat u (a + 1) from rfl, he.2.1] at e87
    subst e87
    refine br_le_i (fun h => ?_) (fun h => ?_)
    · exact hC f (fun q h1 hq => hf q h1 (by omega)) hf2
    · refine ⟨⟨by omega, by omega⟩, fun v107 e107 => ?_⟩
      rw [show ((a : Int)).toNat = a by omega, show tdat (sll u f) a = tdat u a from rfl, he.1] at e107
      subst e107
      refine ⟨⟨by omega, by omega⟩, fun v122 e122 => ?_⟩
      have hrd := he.2.2 (tx_cp p t + i) (by omega) (by omega)
      rw [show a + 2 + (tx_cp p t + i - tx_cp p t) = a + 2 + i by omega] at hrd
      rw [show ((a : Int) + 2 + (i : Int)).toNat = a + 2 + i by omega, show tdat (sll u f) (a + 2 + i) = tdat u (a + 2 + i) from rfl, hrd] at e122
      refine ⟨⟨by omega, by omega⟩, fun u123 e123 => ?_⟩
      rw [hli', show (6 * (n0 : Int) + ((tx_cp p t : Nat) : Int) + (i : Int)).toNat = 6 * n0 + (tx_cp p t + i) by omega] at e123
      subst e122
      subst e123
      refine ih (i + 1) _ (va_up f (6 * n0 + (tx_cp p t + i)) (t.getD (tx_cp p t + i) 0)) (by omega) (by omega) (fun q h1 hq => ?_) (fun q hq => ?_) (by omega)
      · by_cases hqi : q = tx_cp p t + i
        · rw [hqi, up_s]
        · rw [up_n _ _ _ (by omega)]; exact hf q h1 (by omega)
      · rw [up_n _ _ _ (by omega)]; exact hf2 q (by omega)
theorem up_nf {u : TS} {f g f1 f2 g2 : Nat → Int} {n n2 : Int} : sli (slen (sll (sll (sli (slen (sll u f) g) n) f1) f2) g2) n2 = sli (slen (sll u f2) g2) n2 := by
  simp only [cm_li_ll, cm_li_len, cm_ll_len, ss_ll, ss_len, ss_li]
theorem T_up15 {u : TS} {b s N : Nat} (hb : b < 16) (hs : s < 16) (hsl : tslot u b = s) (hsz : tsiz u s = N) (hN : N ≤ 16) {R : List (List Int)} (hR16 : R.length ≤ 16) (C : TS → Prop)
    (hC : ∀ f g, LB (sli (slen (sll u f) g) R.length) R → C (sli (slen (sll u f) g) R.length)) :
    ∀ (ts : List (List Int)) (n a P k : Nat) (p : List Int) (Ls : List (List Int)) (f g : Nat → Int) (U : TS) (x2 x3 x4 : Int), U = sli (slen (sll u f) g) Ls.length → x2 = a → x3 = P → x4 = k → k + ts.length = N → ts.length < n → a + 8 * ts.length ≤ 768 → blk (tdat u) a p ts → Ls ++ ts = R → (∀ i t, Ls[i]? = some t → row f g i t) → (∀ t ∈ R, wfT t) → P + p.length ≤ 6 * Ls.length → rT f P p →
      wl_T_unpack_15 b C n x2 x3 x4 U := by
  intro ts
  induction ts with
  | nil =>
    intro n a P k p Ls f g U x2 x3 x4 hU h2 h3 h4 hkN hn ha hbk hR hrow hw hP hrT
    obtain ⟨n, rfl⟩ : ∃ n', n = n' + 1 := ⟨n - 1, by omega⟩
    have hUs : tslot U = tslot u := by rw [hU, gs_slot_li, gs_slot_len, gs_slot_ll]
    have hUz : tsiz U = tsiz u := by rw [hU, gs_siz_li, gs_siz_len, gs_siz_ll]
    simp only [List.length_nil] at hkN
    rw [wl_T_unpack_15]
    refine ⟨⟨by omega, by omega⟩, fun v26 e26 => ?_⟩
    rw [show ((b : Int)).toNat = b by omega, hUs, hsl] at e26
    subst e26
    refine ⟨⟨by omega, by omega⟩, fun v27 e27 => ?_⟩
    rw [show ((s : Int)).toNat = s by omega, hUz, hsz] at e27
    subst e27
    rw [List.append_nil] at hR
    subst hR
    refine br_le_i (fun h => ?_) (fun h => ?_)
    · rw [hU]
      exact hC f g ⟨gs_li_li _ _, hR16, fun i t hi => by rw [gs_ll_li, gs_ll_len, gs_ll_ll, gs_len_li, gs_len_len]; exact hrow i t hi, hw⟩
    · omega
  | cons t ts ih =>
    intro n a P k p Ls f g U x2 x3 x4 hU h2 h3 h4 hkN hn ha hbk hR hrow hw hP hrT
    obtain ⟨n, rfl⟩ : ∃ n', n = n' + 1 := ⟨n - 1, by omega⟩
    have hUs : tslot U = tslot u := by rw [hU, gs_slot_li, gs_slot_len, gs_slot_ll]
    have hUz : tsiz U = tsiz u := by rw [hU, gs_siz_li, gs_siz_len, gs_siz_ll]
    have hUd : tdat U = tdat u := by rw [hU, gs_dat_li, gs_dat_len, gs_dat_ll]
    have hUf : tll U = f := by rw [hU, gs_ll_li, gs_ll_len, gs_ll_ll]
    have hUg : tlen U = g := by rw [hU, gs_len_li, gs_len_len]
    have hUn : tli U = (Ls.length : Int) := by rw [hU, gs_li_li]
    simp only [List.length_cons] at hkN hn ha
    have hRl : Ls.length + (ts.length + 1) = R.length := by rw [← hR]; simp
    rw [blk_cons] at hbk
    have hcl := cp_le p t
    have hwt := hw t (by rw [← hR]; simp)
    have h6 := hwt.1
    rw [wl_T_unpack_15]
    refine ⟨⟨by omega, by omega⟩, fun v26 e26 => ?_⟩
    rw [show ((b : Int)).toNat = b by omega, hUs, hsl] at e26
    subst e26
    refine ⟨⟨by omega, by omega⟩, fun v27 e27 => ?_⟩
    rw [show ((s : Int)).toNat = s by omega, hUz, hsz] at e27
    subst e27
    refine br_le_i (fun h => ?_) (fun h => ?_)
    · omega
    · subst h2
      subst h3
      refine ⟨8, T_up34 (u := U) (a := a) (P := P) (n0 := Ls.length) (p := p) (t := t) (by omega) (by rw [hUd]; exact hbk.1.1) hUn (by omega) h6 hP (by rw [hUf]; exact hrT) _ (fun f1 hf1 hf1o => ?_) 8 0 0 (tll U) rfl (Nat.zero_le _) (fun q hq => absurd hq (Nat.not_lt_zero _)) (fun q _ => rfl) (by omega)⟩
      obtain ⟨V, hV⟩ : ∃ V, V = sll U f1 := ⟨_, rfl⟩
      rw [← hV]
      have hVd : tdat V = tdat u := by rw [hV, gs_dat_ll, hUd]
      have hVf : tll V = f1 := by rw [hV, gs_ll_ll]
      have hVg : tlen V = g := by rw [hV, gs_len_ll, hUg]
      have hVn : tli V = (Ls.length : Int) := by rw [hV, gs_li_ll, hUn]
      refine ⟨8, T_up78 (u := V) (a := a) (n0 := Ls.length) (p := p) (t := t) (by omega) (by rw [hVd]; exact hbk.1) hVn (by omega) h6 _ (fun f2 hf2 hf2o => ?_) 8 0 0 (tll V) rfl (Nat.zero_le _) (fun q h1 hq => absurd hq (by omega)) (fun q _ => rfl) (by omega)⟩
      obtain ⟨Y, hY⟩ : ∃ Y, Y = sll V f2 := ⟨_, rfl⟩
      rw [← hY]
      have hYd : tdat Y = tdat u := by rw [hY, gs_dat_ll, hVd]
      have hYg : tlen Y = g := by rw [hY, gs_len_ll, hVg]
      have hYn : tli Y = (Ls.length : Int) := by rw [hY, gs_li_ll, hVn]
      refine ⟨⟨by omega, by omega⟩, fun v143 e143 => ?_⟩
      rw [show ((a : Int)).toNat = a by omega, hYd, hbk.1.1] at e143
      refine ⟨⟨by omega, by omega⟩, fun v151 e151 => ?_⟩
      rw [show ((a : Int) + 1).toNat = a + 1 by omega, hYd, hbk.1.2.1] at e151
      refine ⟨⟨by omega, by omega⟩, fun u153 e153 => ?_⟩
      rw [hYn, hYg, show ((Ls.length : Int)).toNat = Ls.length by omega, show v143 + v151 = (t.length : Int) by omega] at e153
      intro u169 e169
      have hli2 : tli u153 = (Ls.length : Int) := by rw [e153, gs_li_len, hYn]
      refine ⟨⟨by omega, by omega⟩, fun v181 e181 => ?_⟩
      have hda : tdat u169 = tdat u := by rw [e169, gs_dat_li, e153, gs_dat_len, hYd]
      rw [show ((a : Int) + 1).toNat = a + 1 by omega, hda, hbk.1.2.1] at e181
      rw [hli2]
      have eu : u169 = sli (slen (sll u f2) (va_up g Ls.length (t.length : Int))) ((Ls ++ [t]).length) := by
        rw [e169, hli2, e153, hY, hV, hU, show ((Ls.length : Int) + 1) = ((Ls ++ [t]).length : Int) by simp]
        exact up_nf
      have hrt : rT f2 (6 * Ls.length) t := fun i hi => by
        by_cases hc : i < tx_cp p t
        · rw [hf2o _ (by omega), hVf]
          exact hf1 i hc
        · exact hf2 i (by omega) hi
      have hff : ∀ q, (q < 6 * Ls.length ∨ 6 * Ls.length + 6 ≤ q) → f2 q = f q := fun q hq => by
        rw [hf2o q (by omega), hVf, hf1o q hq, hUf]
      refine ih n (a + 2 + (t.length - tx_cp p t)) (6 * Ls.length) (k + 1) t (Ls ++ [t]) f2 (va_up g Ls.length (t.length : Int)) u169 _ _ _ eu (by omega) (by omega) (by omega) (by omega) (by omega) (by omega) hbk.2 (by rw [← hR]; simp) (fun i t1 hi => ?_) hw (by simp; omega) hrt
      rcases get_app hi with hi | ⟨rfl, rfl⟩
      · have hil := getlt hi
        exact row_keep (b := Ls.length) (hrow i t1 hi) (hw t1 (by rw [← hR]; exact List.mem_append_left _ (List.mem_of_getElem? hi))).1 (by omega) hff (up_n _ _ _ (by omega))
      · exact ⟨up_s _ _ _, hrt⟩
theorem T_unpack {u : TS} {Bs : List (List (List Int))} (hB : BK u Bs) {b : Nat} {x : Int} (hx : x = b) {w : List (List Int)} (hb : Bs[b]? = some w) {Ls : List (List Int)} (hL : LB u Ls) (h16 : Ls.length + w.length ≤ 16) {post : TS → Prop}
    (hp : ∀ f g n, LB (sli (slen (sll u f) g) n) (Ls ++ w) → post (sli (slen (sll u f) g) n)) : wm_T_unpack x u post := by
  subst hx
  obtain ⟨s, hs, hsl, hsz, hbk, h6, hw⟩ := hB.at hb
  have hb16 := hB.2.1
  have hlt := getlt hb
  obtain ⟨hli, _, hrow, hwl⟩ := hL
  refine ⟨⟨by omega, by omega⟩, fun v7 e7 => ?_⟩
  rw [show ((b : Int)).toNat = b by omega, hsl] at e7
  subst e7
  have key := T_up15 (u := u) (b := b) (s := s) (N := w.length) (by omega) hs hsl hsz (by omega) (R := Ls ++ w) (by simp; omega) post (fun f g h => hp f g _ h) w (w.length + 1) (48 * s) 0 0 [] Ls (tll u) (tlen u) u (48 * (s : Int)) 0 0 (by rw [← hli, id_ll, id_len, id_li]) (by omega) rfl rfl (by omega) (by omega) (by omega) hbk rfl hrow (fun t ht => by
    rcases List.mem_append.mp ht with q | q
    · exact hwl t q
    · exact hw t q) (by simp) (fun i hi => absurd hi (Nat.not_lt_zero _))
  exact ⟨w.length + 1, key⟩
end
section
/-! plain: openBlock, closeBlock, pack, storeList -/
/-- what the blocks' own methods leave as it was -/
def FR (u v : TS) : Prop := tkl v = tkl u ∧ tkey v = tkey u ∧ ttot v = ttot u ∧ tli v = tli u ∧ tll v = tll u ∧ tlen v = tlen u ∧ tfb v = tfb u ∧ tfi v = tfi u
theorem FR.rf (u : TS) : FR u u := ⟨rfl, rfl, rfl, rfl, rfl, rfl, rfl, rfl⟩
theorem FR.tr {u v w : TS} (h : FR u v) (g : FR v w) : FR u w := by
  obtain ⟨a1, a2, a3, a4, a5, a6, a7, a8⟩ := h
  obtain ⟨b1, b2, b3, b4, b5, b6, b7, b8⟩ := g
  exact ⟨b1.trans a1, b2.trans a2, b3.trans a3, b4.trans a4, b5.trans a5, b6.trans a6, b7.trans a7, b8.trans a8⟩
theorem FR.LB {u v : TS} (h : FR u v) {Ls : List (List Int)} (hL : LB u Ls) : LB v Ls := by
  obtain ⟨a1, a2, a3, a4, a5, a6, a7, a8⟩ := h
  obtain ⟨b1, b2, b3, b4⟩ := hL
  exact ⟨a4.trans b1, b2, fun k t hk => by rw [a5, a6]; exact b3 k t hk, b4⟩
theorem FR.KY {u v : TS} (h : FR u v) {K : List Int} (hK : KY u K) : KY v K := by
  obtain ⟨a1, a2, a3, a4, a5, a6, a7, a8⟩ := h
  obtain ⟨b1, b2, b3⟩ := hK
  exact ⟨a1.trans b1, by rw [a2]; exact b2, b3⟩
theorem free_slot : ∀ (n : Nat) (sl : List Nat), (∀ s, s < n → s ∈ sl) → n ≤ sl.length
  | 0, _, _ => Nat.zero_le _
  | n + 1, sl, h => by
    have hn : n ∈ sl := h n (by omega)
    have h1 := free_slot n (sl.erase n) (fun s hs => (List.mem_erase_of_ne (by omega)).mpr (h s (by omega)))
    rw [List.length_erase_of_mem hn] at h1
    have := List.length_pos_of_mem hn
    omega
theorem T_ob5 {u : TS} (hf : ∃ s : Nat, s < 16 ∧ ttak u s = 0) (hbd : ∀ s : Nat, s < 16 → ttak u s = 0 ∨ ttak u s = 1) (C : Int → TS → Prop) (hC : ∀ s : Nat, s < 16 → ttak u s = 0 → C s u) :
    ∀ (k n s2 : Nat) (x2 x3 : Int), x2 = s2 → x3 = (k : Int) - 1 → k ≤ 16 → s2 < 16 → ((∃ s : Nat, k ≤ s ∧ s < 16 ∧ ttak u s = 0) → ttak u s2 = 0) → k < n → wl_T_openBlock_5 C n x2 x3 u := by
  intro k
  induction k with
  | zero =>
    intro n s2 x2 x3 h2 h3 hk hs hinv hn
    obtain ⟨n, rfl⟩ : ∃ n', n = n' + 1 := ⟨n - 1, by omega⟩
    rw [wl_T_openBlock_5]
    refine br_lt_i (fun h => ?_) (fun h => ?_)
    · obtain ⟨s, hs1, hs2⟩ := hf
      rw [h2]
      exact hC s2 hs (hinv ⟨s, Nat.zero_le _, hs1, hs2⟩)
    · omega
  | succ k ih =>
    intro n s2 x2 x3 h2 h3 hk hs hinv hn
    obtain ⟨n, rfl⟩ : ∃ n', n = n' + 1 := ⟨n - 1, by omega⟩
    rw [wl_T_openBlock_5]
    refine br_lt_i (fun h => ?_) (fun h => ?_)
    · omega
    · refine ⟨⟨by omega, by omega⟩, fun v14 e14 => ?_⟩
      rw [show x3.toNat = k by omega] at e14
      have hb := hbd k (by omega)
      refine br_eq_i (fun h => ?_) (fun h => ?_)
      · exact ih n k _ _ (by omega) (by omega) (by omega) (by omega) (fun _ => by rw [← e14]; exact h) (by omega)
      · refine ih n s2 _ _ h2 (by omega) (by omega) hs (fun ⟨s, h1, h2, h3⟩ => hinv ⟨s, ?_, h2, h3⟩) (by omega)
        rcases Nat.lt_or_ge k s with q | q
        · exact q
        · have e : s = k := by omega
          rw [e] at h3
          exact absurd (e14.trans h3) h
theorem T_ob45 {u : TS} {b N : Nat} (hb : b ≤ N) (hN : N < 16) (C : TS → Prop)
    (hC : ∀ h', (∀ i, i < b → h' i = tslot u i) → (∀ i, b ≤ i → i < N → h' (i + 1) = tslot u i) → C (sslot u h')) :
    ∀ (n k : Nat) (x : Int) (h0 : Nat → Int) (U : TS), U = sslot u h0 → x = k → b ≤ k → k ≤ N → (∀ i, i < k → h0 i = tslot u i) → (∀ i, k ≤ i → i < N → h0 (i + 1) = tslot u i) → k < b + n → wl_T_openBlock_45 b C n x U := by
  intro n
  induction n with
  | zero => intro k x h0 U _ _ _ _ _ _ _; omega
  | succ n ih =>
    intro k x h0 U hU hx h1 h2 hlo hhi hn
    subst hx
    rw [wl_T_openBlock_45]
    have hUs : tslot U = h0 := by rw [hU, gs_slot_slot]
    refine br_le_i (fun h => ?_) (fun h => ?_)
    · have e : k = b := by omega
      subst e
      rw [hU]
      exact hC h0 hlo hhi
    · refine ⟨⟨by omega, by omega⟩, fun v62 e62 => ?_⟩
      rw [show ((k : Int) - 1).toNat = k - 1 by omega, hUs, hlo _ (by omega)] at e62
      refine ⟨⟨by omega, by omega⟩, fun u63 e63 => ?_⟩
      rw [show ((k : Int)).toNat = k by omega, hUs, e62, hU, ss_slot] at e63
      refine ih (k - 1) _ (va_up h0 k (tslot u (k - 1))) u63 e63 (by omega) (by omega) (by omega) (fun i hi => ?_) (fun i hi1 hi2 => ?_) (by omega)
      · rw [up_n _ _ _ (by omega)]; exact hlo i (by omega)
      · by_cases e : i = k - 1
        · rw [e, show k - 1 + 1 = k by omega, up_s]
        · rw [up_n _ _ _ (by omega)]; exact hhi i (by omega) hi2
theorem mem_ins_iff {l : List Nat} {x q p : Nat} : q ∈ l.take p ++ x :: l.drop p ↔ q = x ∨ q ∈ l := by
  refine ⟨mem_ins, fun h => ?_⟩
  rcases h with h | h
  · rw [h]; simp
  · rw [← List.take_append_drop p l] at h
    rcases List.mem_append.mp h with h | h
    · exact List.mem_append_left _ h
    · exact List.mem_append_right _ (List.mem_cons_of_mem _ h)
theorem T_openBlock {u : TS} {A C : List (List (List Int))} (hB : BK u (A ++ C)) (hlen : (A ++ C).length < 16) {x : Int} (hx : x = A.length) {post : TS → Prop} (hp : ∀ u', BK u' (A ++ [] :: C) → FR u u' → post u') : wm_T_openBlock x u post := by
  subst hx
  obtain ⟨⟨sl, hbl, hsl, hnd, hslot, htak, hblk⟩, hW⟩ := hB
  have hfree : ∃ s : Nat, s < 16 ∧ s ∉ sl := by
    refine Classical.byContradiction (fun hno => ?_)
    have := free_slot 16 sl (fun s hs => Classical.byContradiction (fun hq => hno ⟨s, hs, hq⟩))
    omega
  obtain ⟨s0, hs0, hs1⟩ := hfree
  refine ⟨18, T_ob5 ⟨s0, hs0, by rw [htak s0 hs0, if_neg hs1]⟩ (fun s hs => by rw [htak s hs]; by_cases q : s ∈ sl <;> simp [q]) _ (fun s hs hfr => ?_) 16 18 0 0 15 rfl rfl (by omega) (by omega) (fun ⟨s, h1, h2, h3⟩ => by omega) (by omega)⟩
  have hsn : s ∉ sl := fun q => by rw [htak s hs, if_pos q] at hfr; cases hfr
  refine ⟨⟨by omega, by omega⟩, fun u32 e32 => ?_⟩
  rw [show ((s : Int)).toNat = s by omega] at e32
  refine ⟨⟨by omega, by omega⟩, fun u39 e39 => ?_⟩
  have hz32 : tsiz u32 = tsiz u := by rw [e32, gs_siz_tak]
  rw [show ((s : Int)).toNat = s by omega, hz32] at e39
  have hb39 : tbl u39 = (A ++ C).length := by rw [e39, gs_bl_siz, e32, gs_bl_tak, hbl]
  have hs39 : tslot u39 = tslot u := by rw [e39, gs_slot_siz, e32, gs_slot_tak]
  rw [hb39]
  have hAC : A.length ≤ (A ++ C).length := by simp
  refine ⟨18, T_ob45 (u := u39) (b := A.length) (N := (A ++ C).length) hAC hlen _ (fun h' hlo hhi => ?_) 18 (A ++ C).length _ (tslot u39) u39 (id_slot _).symm rfl hAC (Nat.le_refl _) (fun _ _ => rfl) (fun i h1 h2 => by omega) (by omega)⟩
  rw [hs39] at hlo hhi
  refine ⟨⟨by omega, by omega⟩, fun u76 e76 => ?_⟩
  rw [show ((A.length : Int)).toNat = A.length by omega, gs_slot_slot, ss_slot] at e76
  intro u84 e84
  have hb76 : tbl u76 = (A ++ C).length := by rw [e76, gs_bl_slot, hb39]
  rw [hb76] at e84
  have f_sl : tslot u84 = va_up h' A.length (s : Int) := by rw [e84, gs_slot_bl, e76, gs_slot_slot]
  have f_tk : ttak u84 = va_up (ttak u) s 1 := by rw [e84, gs_tak_bl, e76, gs_tak_slot, e39, gs_tak_siz, e32, gs_tak_tak]
  have f_sz : tsiz u84 = va_up (tsiz u) s 0 := by rw [e84, gs_siz_bl, e76, gs_siz_slot, e39, gs_siz_siz]
  have f_da : tdat u84 = tdat u := by rw [e84, gs_dat_bl, e76, gs_dat_slot, e39, gs_dat_siz, e32, gs_dat_tak]
  have f_bl : tbl u84 = ((A ++ C).length : Int) + 1 := by rw [e84, gs_bl_bl]
  have hple : A.length ≤ sl.length := by rw [hsl]; exact hAC
  have eB : A ++ [] :: C = (A ++ C).take A.length ++ [] :: (A ++ C).drop A.length := by simp
  refine hp u84 ⟨⟨sl.take A.length ++ s :: sl.drop A.length, ?_, ?_, ?_, fun i s' hi => ?_, fun q hq => ?_, fun i s' b hi hb => ?_⟩, ?_, fun b hb => ?_⟩ ?_
  · rw [f_bl]; simp; omega
  · simp; simp at hsl; omega
  · refine (List.perm_middle.nodup_iff).mpr (List.nodup_cons.mpr ⟨?_, ?_⟩)
    · rw [List.take_append_drop]; exact hsn
    · rw [List.take_append_drop]; exact hnd
  · rw [f_sl]
    rcases get_ins hple hi with ⟨q, hi⟩ | ⟨rfl, rfl⟩ | ⟨q, hi⟩
    · have := hslot i s' hi
      exact ⟨this.1, by rw [up_n _ _ _ (by omega), hlo i q]; exact this.2⟩
    · exact ⟨hs, up_s _ _ _⟩
    · have := hslot (i - 1) s' hi
      have hl := getlt hi
      have hh := hhi (i - 1) (by omega) (by omega)
      rw [show i - 1 + 1 = i by omega] at hh
      exact ⟨this.1, by rw [up_n _ _ _ (by omega), hh]; exact this.2⟩
  · rw [f_tk]
    by_cases e : q = s
    · rw [e, up_s, if_pos (mem_ins_iff.mpr (Or.inl rfl))]
    · rw [up_n _ _ _ e, htak q hq]
      by_cases hm : q ∈ sl
      · rw [if_pos hm, if_pos (mem_ins_iff.mpr (Or.inr hm))]
      · rw [if_neg hm, if_neg (fun hh => by rcases mem_ins_iff.mp hh with hh | hh; exact e hh; exact hm hh)]
  · rw [f_sz, f_da]
    rw [eB] at hb
    rcases get_ins hple hi with ⟨q, hi⟩ | ⟨hq, hi⟩ | ⟨q, hi⟩
    · rcases get_ins hAC hb with ⟨_, hb⟩ | ⟨q2, _⟩ | ⟨q2, _⟩
      · have hne : s' ≠ s := fun e => hsn (by rw [← e]; exact List.mem_of_getElem? hi)
        rw [up_n _ _ _ hne]
        exact hblk i s' b hi hb
      · omega
      · omega
    · rcases get_ins hAC hb with ⟨q2, _⟩ | ⟨_, hb⟩ | ⟨q2, _⟩
      · omega
      · rw [hi, hb, up_s]
        exact ⟨rfl, trivial⟩
      · omega
    · rcases get_ins hAC hb with ⟨q2, _⟩ | ⟨q2, _⟩ | ⟨_, hb⟩
      · omega
      · omega
      · have hne : s' ≠ s := fun e => hsn (by rw [← e]; exact List.mem_of_getElem? hi)
        rw [up_n _ _ _ hne]
        exact hblk (i - 1) s' b hi hb
  · simp; simp at hlen; omega
  · rw [eB] at hb
    rcases mem_ins hb with hb | hb
    · rw [hb]; exact ⟨Nat.zero_le _, fun t ht => by cases ht⟩
    · exact hW.2 b hb
  · refine ⟨?_, ?_, ?_, ?_, ?_, ?_, ?_, ?_⟩
    · rw [e84, gs_kl_bl, e76, gs_kl_slot, e39, gs_kl_siz, e32, gs_kl_tak]
    · rw [e84, gs_key_bl, e76, gs_key_slot, e39, gs_key_siz, e32, gs_key_tak]
    · rw [e84, gs_tot_bl, e76, gs_tot_slot, e39, gs_tot_siz, e32, gs_tot_tak]
    · rw [e84, gs_li_bl, e76, gs_li_slot, e39, gs_li_siz, e32, gs_li_tak]
    · rw [e84, gs_ll_bl, e76, gs_ll_slot, e39, gs_ll_siz, e32, gs_ll_tak]
    · rw [e84, gs_len_bl, e76, gs_len_slot, e39, gs_len_siz, e32, gs_len_tak]
    · rw [e84, gs_fb_bl, e76, gs_fb_slot, e39, gs_fb_siz, e32, gs_fb_tak]
    · rw [e84, gs_fi_bl, e76, gs_fi_slot, e39, gs_fi_siz, e32, gs_fi_tak]
/-! closeBlock -/
theorem T_cb14 {u : TS} {b N : Nat} (hbl : tbl u = N) (hb : b < N) (hN : N ≤ 16) (C : TS → Prop)
    (hC : ∀ h', (∀ i, i < b → h' i = tslot u i) → (∀ i, b ≤ i → i + 1 < N → h' i = tslot u (i + 1)) → C (sslot u h')) :
    ∀ (n k : Nat) (x : Int) (h0 : Nat → Int) (U : TS), U = sslot u h0 → x = k → b ≤ k → k < N → (∀ i, i < b → h0 i = tslot u i) → (∀ i, b ≤ i → i < k → h0 i = tslot u (i + 1)) → (∀ i, k ≤ i → h0 i = tslot u i) → N < k + n + 1 → wl_T_closeBlock_14 C n x U := by
  intro n
  induction n with
  | zero => intro k x h0 U _ _ _ _ _ _ _ _; omega
  | succ n ih =>
    intro k x h0 U hU hx h1 h2 hlo hmid hhi hn
    subst hx
    rw [wl_T_closeBlock_14]
    have hUs : tslot U = h0 := by rw [hU, gs_slot_slot]
    have hUb : tbl U = N := by rw [hU, gs_bl_slot, hbl]
    refine br_le_i (fun h => ?_) (fun h => ?_)
    · rw [hU]
      exact hC h0 hlo (fun i hi1 hi2 => hmid i hi1 (by omega))
    · refine ⟨⟨by omega, by omega⟩, fun v36 e36 => ?_⟩
      rw [show ((k : Int) + 1).toNat = k + 1 by omega, hUs, hhi _ (by omega)] at e36
      refine ⟨⟨by omega, by omega⟩, fun u37 e37 => ?_⟩
      rw [show ((k : Int)).toNat = k by omega, hUs, e36, hU, ss_slot] at e37
      refine ih (k + 1) _ (va_up h0 k (tslot u (k + 1))) u37 e37 (by omega) (by omega) (by omega) (fun i hi => ?_) (fun i hi1 hi2 => ?_) (fun i hi => ?_) (by omega)
      · rw [up_n _ _ _ (by omega)]; exact hlo i (by omega)
      · by_cases e : i = k
        · rw [e, up_s]
        · rw [up_n _ _ _ e]; exact hmid i hi1 (by omega)
      · rw [up_n _ _ _ (by omega)]; exact hhi i (by omega)
theorem T_closeBlock {u : TS} {A C : List (List (List Int))} {y : List (List Int)} (hB : BK u (A ++ y :: C)) {x : Int} (hx : x = A.length) {post : TS → Prop} (hp : ∀ u', BK u' (A ++ C) → FR u u' → post u') : wm_T_closeBlock x u post := by
  subst hx
  obtain ⟨⟨sl, hbl, hsl, hnd, hslot, htak, hblk⟩, hW⟩ := hB
  have hlenN : (A ++ y :: C).length = A.length + C.length + 1 := by simp; omega
  have hAN : A.length < (A ++ y :: C).length := by omega
  have h16 := hW.1
  have hAs : A.length < sl.length := by omega
  have hsb : sl[A.length]? = some sl[A.length] := List.getElem?_eq_getElem hAs
  obtain ⟨hs, hsl2⟩ := hslot _ _ hsb
  have esl : sl.Perm (sl[A.length] :: (sl.take A.length ++ sl.drop (A.length + 1))) := by
    have e : sl = sl.take A.length ++ sl[A.length] :: sl.drop (A.length + 1) := by simp
    exact (List.Perm.of_eq e).trans List.perm_middle
  generalize sl[A.length] = s at hsb hs hsl2 esl
  have hnd2 := List.nodup_cons.mp (esl.nodup_iff.mp hnd)
  refine ⟨⟨by omega, by omega⟩, fun v9 e9 => ?_⟩
  rw [show ((A.length : Int)).toNat = A.length by omega, hsl2] at e9
  subst e9
  refine ⟨⟨by omega, by omega⟩, fun u11 e11 => ?_⟩
  rw [show ((s : Int)).toNat = s by omega] at e11
  have hb11 : tbl u11 = (A ++ y :: C).length := by rw [e11, gs_bl_tak, hbl]
  have hs11 : tslot u11 = tslot u := by rw [e11, gs_slot_tak]
  refine ⟨18, T_cb14 (u := u11) (b := A.length) (N := (A ++ y :: C).length) hb11 hAN h16 _ (fun h' hlo hhi => ?_) 18 A.length _ (tslot u11) u11 (id_slot _).symm rfl (Nat.le_refl _) hAN (fun _ _ => rfl) (fun i h1 h2 => by omega) (fun _ _ => rfl) (by omega)⟩
  rw [hs11] at hlo hhi
  intro u51 e51
  have hb44 : tbl (sslot u11 h') = (A ++ y :: C).length := by rw [gs_bl_slot, hb11]
  rw [hb44] at e51
  have f_sl : tslot u51 = h' := by rw [e51, gs_slot_bl, gs_slot_slot]
  have f_tk : ttak u51 = va_up (ttak u) s 0 := by rw [e51, gs_tak_bl, gs_tak_slot, e11, gs_tak_tak]
  have f_sz : tsiz u51 = tsiz u := by rw [e51, gs_siz_bl, gs_siz_slot, e11, gs_siz_tak]
  have f_da : tdat u51 = tdat u := by rw [e51, gs_dat_bl, gs_dat_slot, e11, gs_dat_tak]
  have f_bl : tbl u51 = ((A ++ y :: C).length : Int) - 1 := by rw [e51, gs_bl_bl]
  have eB : A ++ C = (A ++ y :: C).take A.length ++ (A ++ y :: C).drop (A.length + 1) := by simp
  refine hp u51 ⟨⟨sl.take A.length ++ sl.drop (A.length + 1), ?_, ?_, hnd2.2, fun i s' hi => ?_, fun q hq => ?_, fun i s' b hi hb => ?_⟩, ?_, fun b hb => ?_⟩ ?_
  · rw [f_bl]; simp; omega
  · have := esl.length_eq
    simp only [List.length_cons] at this
    simp at this ⊢
    omega
  · rw [f_sl]
    rcases get_del hAs hi with ⟨q, hi⟩ | ⟨q, hi⟩
    · have := hslot i s' hi
      exact ⟨this.1, by rw [hlo i q]; exact this.2⟩
    · have := hslot (i + 1) s' hi
      have hl := getlt hi
      exact ⟨this.1, by rw [hhi i q (by omega)]; exact this.2⟩
  · rw [f_tk]
    by_cases e : q = s
    · rw [e, up_s, if_neg hnd2.1]
    · rw [up_n _ _ _ e, htak q hq]
      have hiff : q ∈ sl ↔ q ∈ sl.take A.length ++ sl.drop (A.length + 1) := by
        rw [esl.mem_iff, List.mem_cons]
        exact ⟨fun h => h.resolve_left e, Or.inr⟩
      by_cases hm : q ∈ sl
      · rw [if_pos hm, if_pos (hiff.mp hm)]
      · rw [if_neg hm, if_neg (fun hh => hm (hiff.mpr hh))]
  · rw [f_sz, f_da]
    rw [eB] at hb
    rcases get_del hAs hi with ⟨q, hi⟩ | ⟨q, hi⟩
    · rcases get_del hAN hb with ⟨_, hb⟩ | ⟨q2, _⟩
      · exact hblk i s' b hi hb
      · omega
    · rcases get_del hAN hb with ⟨q2, _⟩ | ⟨_, hb⟩
      · omega
      · exact hblk (i + 1) s' b hi hb
  · simp; omega
  · rw [eB] at hb
    exact hW.2 b (mem_del hb)
  · refine ⟨?_, ?_, ?_, ?_, ?_, ?_, ?_, ?_⟩
    · rw [e51, gs_kl_bl, gs_kl_slot, e11, gs_kl_tak]
    · rw [e51, gs_key_bl, gs_key_slot, e11, gs_key_tak]
    · rw [e51, gs_tot_bl, gs_tot_slot, e11, gs_tot_tak]
    · rw [e51, gs_li_bl, gs_li_slot, e11, gs_li_tak]
    · rw [e51, gs_ll_bl, gs_ll_slot, e11, gs_ll_tak]
    · rw [e51, gs_len_bl, gs_len_slot, e11, gs_len_tak]
    · rw [e51, gs_fb_bl, gs_fb_slot, e11, gs_fb_tak]
    · rw [e51, gs_fi_bl, gs_fi_slot, e11, gs_fi_tak]
end
section
/-! plain: pack, storeList -/
theorem T_pk78 {u : TS} {a k sh : Nat} {t : List Int} (ha : a + 8 ≤ 768) (hk : k < 16) (hr : row (tll u) (tlen u) k t) (h6 : t.length ≤ 6) (hsh : sh ≤ t.length) (C : TS → Prop)
    (hC : ∀ d', (∀ i, sh ≤ i → i < t.length → d' (a + 2 + (i - sh)) = t.getD i 0) → (∀ q, (q < a + 2 ∨ a + 2 + (t.length - sh) ≤ q) → d' q = tdat u q) → C (sdat u d')) :
    ∀ (n i : Nat) (x : Int) (d : Nat → Int) (U : TS), U = sdat u d → x = i → sh ≤ i → i ≤ t.length → (∀ q, sh ≤ q → q < i → d (a + 2 + (q - sh)) = t.getD q 0) → (∀ q, (q < a + 2 ∨ a + 2 + (t.length - sh) ≤ q) → d q = tdat u q) → t.length < i + n → wl_T_pack_78 a k sh C n x U := by
  intro n
  induction n with
  | zero => intro i x d U _ _ _ _ _ _ _; omega
  | succ n ih =>
    intro i x d U hU hx hi0 hi hd hd2 hn
    subst hx
    rw [wl_T_pack_78]
    have hUd : tdat U = d := by rw [hU, gs_dat_dat]
    have hUf : tll U = tll u := by rw [hU, gs_ll_dat]
    have hUg : tlen U = tlen u := by rw [hU, gs_len_dat]
    refine ⟨⟨by omega, by omega⟩, fun v86 e86 => ?_⟩
    rw [show ((k : Int)).toNat = k by omega, hUg, hr.1] at e86
    subst e86
    refine br_le_i (fun h => ?_) (fun h => ?_)
    · rw [hU]
      exact hC d (fun q h1 h2 => hd q h1 (by omega)) hd2
    · refine ⟨⟨by omega, by omega⟩, fun v116 e116 => ?_⟩
      rw [show (6 * (k : Int) + (i : Int)).toNat = 6 * k + i by omega, hUf, hr.2 i (by omega)] at e116
      refine ⟨⟨by omega, by omega⟩, fun u117 e117 => ?_⟩
      rw [show ((a : Int) + 2 + (i : Int) - (sh : Int)).toNat = a + 2 + (i - sh) by omega, hUd, e116, hU, ss_dat] at e117
      refine ih (i + 1) _ (va_up d (a + 2 + (i - sh)) (t.getD i 0)) u117 e117 (by omega) (by omega) (by omega) (fun q h1 hq => ?_) (fun q hq => ?_) (by omega)
      · by_cases hqi : q = i
        · rw [hqi, up_s]
        · rw [up_n _ _ _ (by omega)]; exact hd q h1 (by omega)
      · rw [up_n _ _ _ (by omega)]; exact hd2 q (by omega)
theorem T_pk44 {u : TS} {a k : Nat} {p t : List Int} (ha : a + 8 ≤ 768) (hk : k < 16) (hr : row (tll u) (tlen u) k t) (h6 : t.length ≤ 6) (C18 : Int → Int → TS → Prop) {z x5 x6 : Int} (h5 : x5 = a) (hx6 : x6 = k) (hz : z = (tx_cp p t : Nat))
    (hC : ∀ d', en d' a p t → (∀ q, (q < a ∨ a + 2 + (t.length - tx_cp p t) ≤ q) → d' q = tdat u q) → C18 ((a + 2 + (t.length - tx_cp p t) : Nat) : Int) ((k + 1 : Nat) : Int) (sdat u d')) : wj_T_pack_44 C18 x5 x6 z u := by
  subst h5
  subst hx6
  subst hz
  have hcl := cp_le p t
  refine ⟨⟨by omega, by omega⟩, fun u54 e54 => ?_⟩
  rw [show ((a : Int)).toNat = a by omega] at e54
  have g54 : tlen u54 = tlen u := by rw [e54, gs_len_dat]
  have d54 : tdat u54 = va_up (tdat u) a ((tx_cp p t : Nat) : Int) := by rw [e54, gs_dat_dat]
  refine ⟨⟨by omega, by omega⟩, fun v69 e69 => ?_⟩
  rw [show ((k : Int)).toNat = k by omega, g54, hr.1] at e69
  refine ⟨⟨by omega, by omega⟩, fun u73 e73 => ?_⟩
  rw [show ((a : Int) + 1).toNat = a + 1 by omega, d54, e69, show (t.length : Int) - ((tx_cp p t : Nat) : Int) = ((t.length - tx_cp p t : Nat) : Int) by omega, e54, ss_dat] at e73
  have d73 : tdat u73 = va_up (va_up (tdat u) a ((tx_cp p t : Nat) : Int)) (a + 1) ((t.length - tx_cp p t : Nat) : Int) := by rw [e73, gs_dat_dat]
  have hr73 : row (tll u73) (tlen u73) k t := by rw [e73, gs_ll_dat, gs_len_dat]; exact hr
  refine ⟨8, T_pk78 (u := u73) (a := a) (k := k) (sh := tx_cp p t) (t := t) ha hk hr73 h6 hcl.2 _ (fun d' hd hd2 => ?_) 8 (tx_cp p t) _ (tdat u73) u73 (id_dat _).symm rfl (Nat.le_refl _) hcl.2 (fun q h1 h2 => by omega) (fun _ _ => rfl) (by omega)⟩
  have g124 : tlen (sdat u73 d') = tlen u := by rw [gs_len_dat, e73, gs_len_dat]
  refine ⟨⟨by omega, by omega⟩, fun v133 e133 => ?_⟩
  rw [show ((k : Int)).toNat = k by omega, g124, hr.1] at e133
  have e1 : (a : Int) + (2 + v133 - ((tx_cp p t : Nat) : Int)) = ((a + 2 + (t.length - tx_cp p t) : Nat) : Int) := by omega
  rw [e1]
  have e2 : sdat u73 d' = sdat u d' := by rw [e73, ss_dat]
  rw [e2]
  refine hC d' ⟨?_, ?_, fun i h1 h2 => hd i h1 h2⟩ (fun q hq => ?_)
  · rw [hd2 _ (by omega), d73, up_n _ _ _ (by omega), up_s]
  · rw [hd2 _ (by omega), d73, up_s]
  · rw [hd2 _ (by omega), d73, up_n _ _ _ (by omega), up_n _ _ _ (by omega)]
theorem T_pk18 {u : TS} {Ls : List (List Int)} (hL : LB u Ls) {fr e : Nat} (he : e ≤ Ls.length) (C : TS → Prop) :
    ∀ (ts : List (List Int)) (n a k : Nat) (p : List Int) (d : Nat → Int) (U : TS) (x5 x6 : Int), U = sdat u d → x5 = a → x6 = k → k + ts.length = e → fr ≤ k → ts.length < n → a + 8 * ts.length ≤ 768 → (∀ i t, ts[i]? = some t → Ls[k + i]? = some t) → ((k = fr ∧ p = []) ∨ (fr < k ∧ Ls[k - 1]? = some p)) →
      (∀ d', blk d' a p ts → (∀ q, (q < a ∨ a + 8 * ts.length ≤ q) → d' q = d q) → C (sdat u d')) → wl_T_pack_18 fr e C n x5 x6 U := by
  obtain ⟨hli, h16, hrow, hw⟩ := hL
  intro ts
  induction ts with
  | nil =>
    intro n a k p d U x5 x6 hU h5 h6 hke hfk hn ha hts hpv hC
    obtain ⟨n, rfl⟩ : ∃ n', n = n' + 1 := ⟨n - 1, by omega⟩
    simp only [List.length_nil] at hke
    rw [wl_T_pack_18]
    refine br_le_i (fun h => ?_) (fun h => ?_)
    · rw [hU]
      exact hC d trivial (fun q _ => rfl)
    · omega
  | cons t ts ih =>
    intro n a k p d U x5 x6 hU h5 h6 hke hfk hn ha hts hpv hC
    obtain ⟨n, rfl⟩ : ∃ n', n = n' + 1 := ⟨n - 1, by omega⟩
    simp only [List.length_cons] at hke hn ha hC
    have ht : Ls[k]? = some t := by have := hts 0 t rfl; simpa using this
    have hwt := hw t (List.mem_of_getElem? ht)
    have h6t := hwt.1
    have hcl := cp_le p t
    have hUr : row (tll U) (tlen U) k t := by rw [hU, gs_ll_dat, gs_len_dat]; exact hrow k t ht
    have hUd : tdat U = d := by rw [hU, gs_dat_dat]
    have key : ∀ z : Int, z = (tx_cp p t : Nat) → wj_T_pack_44 (wl_T_pack_18 fr e C n) x5 x6 z U := by
      intro z hz
      refine T_pk44 (u := U) (a := a) (k := k) (p := p) (t := t) (by omega) (by omega) hUr h6t _ h5 h6 hz (fun d1 hen hd1 => ?_)
      rw [hUd] at hd1
      have hen2 := hen
      refine ih n (a + 2 + (t.length - tx_cp p t)) (k + 1) t d1 _ _ _ (by rw [hU, ss_dat]) rfl rfl (by omega) (by omega) (by omega) (by omega) (fun i t1 hi => ?_) (Or.inr ⟨by omega, by rw [show k + 1 - 1 = k by omega]; exact ht⟩) (fun d' hb hd' => ?_)
      · have := hts (i + 1) t1 (by simpa using hi)
        rw [show k + 1 + i = k + (i + 1) by omega]
        exact this
      · refine hC d' ?_ (fun q hq => ?_)
        · rw [blk_cons]
          exact ⟨en_congr hen h6t (fun q h1 h2 => hd' q (Or.inl h2)), hb⟩
        · rw [hd' q (by omega), hd1 q (by omega)]
    rw [wl_T_pack_18]
    refine br_le_i (fun h => ?_) (fun h => ?_)
    · omega
    · refine br_eq_i (fun h => ?_) (fun h => ?_)
      · refine key 0 ?_
        rcases hpv with ⟨_, hp⟩ | ⟨hp, _⟩
        · rw [hp, cp_nil_l]; rfl
        · omega
      · rcases hpv with ⟨hp, _⟩ | ⟨hp, hp2⟩
        · omega
        · have hUr1 : row (tll U) (tlen U) (k - 1) p := by rw [hU, gs_ll_dat, gs_len_dat]; exact hrow (k - 1) p hp2
          refine T_sharedInList (a := k - 1) (b := k) (by omega) h6 (by omega) (by omega) hUr1 hUr (hw p (List.mem_of_getElem? hp2)) hwt ?_
          exact key _ rfl
theorem T_pack {u : TS} {A C : List (List (List Int))} {y : List (List Int)} (hB : BK u (A ++ y :: C)) {Ls : List (List Int)} (hL : LB u Ls) {fr e : Nat} (hfe : fr ≤ e) (he : e ≤ Ls.length) (h6 : e - fr ≤ 6) {x x2 x3 : Int} (hx : x = A.length) (hx2 : x2 = fr) (hx3 : x3 = e) {post : TS → Prop}
    (hp : ∀ u', BK u' (A ++ (Ls.drop fr).take (e - fr) :: C) → FR u u' → post u') : wm_T_pack x x2 x3 u post := by
  subst hx
  subst hx2
  subst hx3
  obtain ⟨⟨sl, hbl, hsl, hnd, hslot, htak, hblk⟩, hW⟩ := hB
  have hlenN : (A ++ y :: C).length = A.length + C.length + 1 := by simp; omega
  have h16 := hW.1
  have hAs : A.length < sl.length := by omega
  have hsb : sl[A.length]? = some sl[A.length] := List.getElem?_eq_getElem hAs
  obtain ⟨hs, hsl2⟩ := hslot _ _ hsb
  generalize sl[A.length] = s at hsb hs hsl2
  have hlw : ((Ls.drop fr).take (e - fr)).length = e - fr := by simp; omega
  refine ⟨⟨by omega, by omega⟩, fun v5 e5 => ?_⟩
  rw [show ((A.length : Int)).toNat = A.length by omega, hsl2] at e5
  subst e5
  refine ⟨8, T_pk18 hL he _ ((Ls.drop fr).take (e - fr)) 8 (48 * s) fr [] (tdat u) u _ _ (id_dat _).symm (by omega) rfl (by omega) (Nat.le_refl _) (by omega) (by omega) (fun i t hi => ?_) (Or.inl ⟨rfl, rfl⟩) (fun d' hb hd' => ?_)⟩
  · have hi2 := getlt hi
    rw [List.getElem?_take_of_lt (by omega), List.getElem?_drop] at hi
    exact hi
  · refine ⟨⟨by omega, by omega⟩, fun u156 e156 => ?_⟩
    rw [gs_siz_dat, show ((s : Int)).toNat = s by omega, show (e : Int) - (fr : Int) = ((e - fr : Nat) : Int) by omega] at e156
    rw [hlw] at hd'
    have f_bl : tbl u156 = tbl u := by rw [e156, gs_bl_siz, gs_bl_dat]
    have f_sl : tslot u156 = tslot u := by rw [e156, gs_slot_siz, gs_slot_dat]
    have f_tk : ttak u156 = ttak u := by rw [e156, gs_tak_siz, gs_tak_dat]
    have f_sz : tsiz u156 = va_up (tsiz u) s ((e - fr : Nat) : Int) := by rw [e156, gs_siz_siz]
    have f_da : tdat u156 = d' := by rw [e156, gs_dat_siz, gs_dat_dat]
    have eset : A ++ (Ls.drop fr).take (e - fr) :: C = (A ++ y :: C).set A.length ((Ls.drop fr).take (e - fr)) := by simp
    refine hp u156 ⟨⟨sl, ?_, ?_, hnd, ?_, ?_, fun i s' b hi hb2 => ?_⟩, ?_, fun b hb2 => ?_⟩ ?_
    · rw [f_bl, hbl]; simp
    · rw [hsl]; simp
    · rw [f_sl]; exact hslot
    · rw [f_tk]; exact htak
    · rw [f_sz, f_da]
      rw [eset] at hb2
      by_cases ei : i = A.length
      · subst ei
        rw [hsb] at hi
        cases hi
        rw [List.getElem?_set_self (by omega)] at hb2
        cases hb2
        rw [up_s, hlw]
        exact ⟨rfl, hb⟩
      · rw [List.getElem?_set_ne (fun q => ei q.symm)] at hb2
        have hne : s' ≠ s := fun q => by
          subst q
          have hi2 := getlt hi
          have hx1 := (List.getElem?_eq_some_iff.mp hi).2
          have hx2 := (List.getElem?_eq_some_iff.mp hsb).2
          rcases Nat.lt_or_gt_of_ne ei with q | q
          · exact List.pairwise_iff_getElem.mp hnd i A.length hi2 hAs q (by rw [hx1, hx2])
          · exact List.pairwise_iff_getElem.mp hnd A.length i hAs hi2 q (by rw [hx1, hx2])
        rw [up_n _ _ _ hne]
        obtain ⟨g1, g2⟩ := hblk i s' b hi hb2
        have hbw := hW.2 b (List.mem_of_getElem? hb2)
        refine ⟨g1, blk_congr g2 (fun t ht => (hbw.2 t ht).1) (fun q h1 h2 => hd' q ?_)⟩
        have := hbw.1
        omega
    · simp; omega
    · rw [eset] at hb2
      rcases List.mem_or_eq_of_mem_set hb2 with q | q
      · exact hW.2 b q
      · rw [q]
        refine ⟨by omega, fun t ht => hL.2.2.2 t ?_⟩
        exact List.mem_of_mem_drop (List.mem_of_mem_take ht)
    · refine ⟨?_, ?_, ?_, ?_, ?_, ?_, ?_, ?_⟩
      · rw [e156, gs_kl_siz, gs_kl_dat]
      · rw [e156, gs_key_siz, gs_key_dat]
      · rw [e156, gs_tot_siz, gs_tot_dat]
      · rw [e156, gs_li_siz, gs_li_dat]
      · rw [e156, gs_ll_siz, gs_ll_dat]
      · rw [e156, gs_len_siz, gs_len_dat]
      · rw [e156, gs_fb_siz, gs_fb_dat]
      · rw [e156, gs_fi_siz, gs_fi_dat]
/-- the blocks that the list is stored in -/
def nb (Ls : List (List Int)) : List (List (List Int)) := if Ls.length = 0 then [] else if Ls.length ≤ 6 then [Ls] else [Ls.take ((Ls.length + 1) / 2), Ls.drop ((Ls.length + 1) / 2)]
theorem T_st60_1 {u : TS} {A C : List (List (List Int))} {y : List (List Int)} (hB : BK u (A ++ y :: C)) {Ls : List (List Int)} (hL : LB u Ls) (h6 : Ls.length ≤ 6) {x : Int} (hx : x = A.length) {post : TS → Prop} (hp : ∀ u', BK u' (A ++ Ls :: C) → FR u u' → post u') : wj_T_storeList_60 post x 1 u := by
  refine br_eq_i (fun _ => ?_) (fun h => absurd rfl h)
  refine T_pack hB hL (fr := 0) (e := Ls.length) (Nat.zero_le _) (Nat.le_refl _) (by omega) hx rfl hL.1 (fun u' hB' hF => ?_)
  have e : (Ls.drop 0).take (Ls.length - 0) = Ls := by simp
  rw [e] at hB'
  exact hp u' hB' hF
theorem T_st60_2 {u : TS} {A C : List (List (List Int))} {y z : List (List Int)} (hB : BK u (A ++ y :: z :: C)) {Ls : List (List Int)} (hL : LB u Ls) (h6 : Ls.length ≤ 12) {x : Int} (hx : x = A.length) {post : TS → Prop} (hp : ∀ u', BK u' (A ++ Ls.take ((Ls.length + 1) / 2) :: Ls.drop ((Ls.length + 1) / 2) :: C) → FR u u' → post u') : wj_T_storeList_60 post x 2 u := by
  refine br_eq_i (fun h => absurd h (by decide)) (fun _ => ?_)
  refine br_eq_i (fun _ => ?_) (fun h => absurd rfl h)
  have hli := hL.1
  refine ⟨⟨by omega, by omega⟩, ?_⟩
  have eh : (tli u + 1) / 2 = (((Ls.length + 1) / 2 : Nat) : Int) := by omega
  rw [eh]
  refine T_pack hB hL (fr := 0) (e := (Ls.length + 1) / 2) (Nat.zero_le _) (by omega) (by omega) hx rfl rfl (fun u1 hB1 hF1 => ?_)
  have e : (Ls.drop 0).take ((Ls.length + 1) / 2 - 0) = Ls.take ((Ls.length + 1) / 2) := by simp
  rw [e] at hB1
  have hL1 := hF1.LB hL
  have hB1' : BK u1 ((A ++ [Ls.take ((Ls.length + 1) / 2)]) ++ z :: C) := by simpa using hB1
  refine T_pack hB1' hL1 (fr := (Ls.length + 1) / 2) (e := Ls.length) (by omega) (Nat.le_refl _) (by omega) (by rw [hx]; simp) rfl hL1.1 (fun u2 hB2 hF2 => ?_)
  have e2 : (Ls.drop ((Ls.length + 1) / 2)).take (Ls.length - (Ls.length + 1) / 2) = Ls.drop ((Ls.length + 1) / 2) := List.take_of_length_le (by simp)
  rw [e2] at hB2
  exact hp u2 (by simpa using hB2) (hF1.tr hF2)
/-- storeList(b, 1) -/
theorem T_store1 {u : TS} {A C : List (List (List Int))} {y : List (List Int)} (hB : BK u (A ++ y :: C)) (hN : (A ++ y :: C).length < 16) {Ls : List (List Int)} (hL : LB u Ls) (h12 : Ls.length ≤ 12) {x : Int} (hx : x = A.length) {post : TS → Prop} (hp : ∀ u', BK u' (A ++ (nb Ls ++ C)) → FR u u' → post u') : wm_T_storeList x 1 u post := by
  have hli := hL.1
  unfold nb at hp
  rw [wm_T_storeList]
  refine br_eq_i (fun h => ?_) (fun h => ?_)
  · rw [if_pos (by omega)] at hp
    refine br_le_i (fun h => absurd h (by decide)) (fun _ => ?_)
    refine T_closeBlock hB hx (fun u1 hB1 hF1 => ?_)
    refine br_le_i (fun _ => ?_) (fun h => absurd h (by decide))
    refine br_le_i (fun _ => ?_) (fun h => absurd h (by decide))
    refine br_eq_i (fun h => absurd h (by decide)) (fun _ => ?_)
    refine br_eq_i (fun h => absurd h (by decide)) (fun _ => ?_)
    exact hp u1 hB1 hF1
  · rw [if_neg (by omega)] at hp
    refine br_lt_i (fun h => ?_) (fun h => ?_)
    · rw [if_neg (by omega)] at hp
      refine br_le_i (fun _ => ?_) (fun h => absurd h (by decide))
      refine br_le_i (fun _ => ?_) (fun h => absurd h (by decide))
      refine br_le_i (fun h => absurd h (by decide)) (fun _ => ?_)
      have hB0 : BK u ((A ++ [y]) ++ C) := by simpa using hB
      refine T_openBlock hB0 (by simpa using hN) (by rw [hx]; simp) (fun u1 hB1 hF1 => ?_)
      have hB1' : BK u1 (A ++ y :: [] :: C) := by simpa using hB1
      exact T_st60_2 hB1' (hF1.LB hL) h12 hx (fun u2 hB2 hF2 => hp u2 hB2 (hF1.tr hF2))
    · rw [if_pos (by omega)] at hp
      refine br_le_i (fun _ => ?_) (fun h => absurd h (by decide))
      refine br_le_i (fun _ => ?_) (fun h => absurd h (by decide))
      refine br_le_i (fun _ => ?_) (fun h => absurd h (by decide))
      exact T_st60_1 hB hL (by omega) hx hp
/-- storeList(b, 2) -/
theorem T_store2 {u : TS} {A C : List (List (List Int))} {y z : List (List Int)} (hB : BK u (A ++ y :: z :: C)) {Ls : List (List Int)} (hL : LB u Ls) (h1 : 0 < Ls.length) (h12 : Ls.length ≤ 12) {x : Int} (hx : x = A.length) {post : TS → Prop} (hp : ∀ u', BK u' (A ++ (nb Ls ++ C)) → FR u u' → post u') : wm_T_storeList x 2 u post := by
  have hli := hL.1
  unfold nb at hp
  rw [if_neg (by omega)] at hp
  rw [wm_T_storeList]
  refine br_eq_i (fun h => ?_) (fun h => ?_)
  · omega
  · refine br_lt_i (fun h => ?_) (fun h => ?_)
    · rw [if_neg (by omega)] at hp
      refine br_le_i (fun _ => ?_) (fun h => absurd h (by decide))
      refine br_le_i (fun _ => ?_) (fun h => absurd h (by decide))
      refine br_le_i (fun _ => ?_) (fun h => absurd h (by decide))
      exact T_st60_2 hB hL h12 hx hp
    · rw [if_pos (by omega)] at hp
      refine br_le_i (fun h => absurd h (by decide)) (fun _ => ?_)
      refine T_closeBlock hB hx (fun u1 hB1 hF1 => ?_)
      refine br_le_i (fun _ => ?_) (fun h => absurd h (by decide))
      refine br_le_i (fun _ => ?_) (fun h => absurd h (by decide))
      exact T_st60_1 hB1 (hF1.LB hL) (by omega) hx (fun u2 hB2 hF2 => hp u2 hB2 (hF1.tr hF2))
end
section
/-! plain: the class's invariant, and its public methods -/
def TI (u : TS) (K : List Int) (Bs : List (List (List Int))) : Prop :=
  KY u K ∧ BK u Bs ∧ ttot u = Bs.flatten.length ∧ Bs.flatten.length ≤ 40 ∧ tx_so Bs.flatten ∧ (∀ t ∈ Bs.flatten, wfT t ∧ 0 < t.length) ∧ (∀ b ∈ Bs, b ≠ []) ∧ (2 ≤ Bs.length → ∀ b ∈ Bs, 3 ≤ b.length)
theorem len3 : ∀ {Bs : List (List (List Int))}, (∀ b ∈ Bs, 3 ≤ b.length) → 3 * Bs.length ≤ Bs.flatten.length
  | [], _ => by simp
  | b :: Bs, h => by
    have h1 := h b (by simp)
    have h2 := len3 (Bs := Bs) (fun x hx => h x (by simp [hx]))
    simp only [List.length_cons, List.flatten_cons, List.length_append]
    omega
theorem TI.len {u : TS} {K : List Int} {Bs : List (List (List Int))} (h : TI u K Bs) : Bs.length ≤ 13 := by
  obtain ⟨_, _, _, h40, _, _, _, h3⟩ := h
  rcases Nat.lt_or_ge Bs.length 2 with q | q
  · omega
  · have := len3 (h3 q)
    omega
theorem TI.move {u v : TS} {K : List Int} {Bs : List (List (List Int))} (h : TI u K Bs) (hk : KY v K) (hB : BK v Bs) (ht : ttot v = ttot u) : TI v K Bs := by
  obtain ⟨_, _, h1, h2, h3, h4, h5, h6⟩ := h
  exact ⟨hk, hB, ht.trans h1, h2, h3, h4, h5, h6⟩
theorem fl_at {Bs : List (List (List Int))} {b r : Nat} {w : List (List Int)} (h : Bs[b]? = some w) (h1 : pre Bs b ≤ r) (h2 : r < pre Bs b + w.length) : Bs.flatten[r]? = w[r - pre Bs b]? := by
  rw [fl_split h]
  have e : (Bs.take b).flatten.length = pre Bs b := rfl
  rw [List.getElem?_append_right (by omega), e, List.getElem?_append_left (by omega)]
theorem T_count {u : TS} {K : List Int} {Bs : List (List (List Int))} (hI : TI u K Bs) {past : Bool} {z : Int} (hz : z = b2i past) {post : Int → TS → Prop} (hp : ∀ u', TI u' K Bs → post (tx_ct past K Bs.flatten) u') : wm_T_countLess z u post := by
  obtain ⟨hk, hB, h1, h2, h3, h4, h5, h6⟩ := id hI
  exact T_countLess hk hB h3 h5 hz (fun b i _ _ _ _ => hp _ (hI.move hk hB rfl))
theorem T_fetch {u : TS} {K : List Int} {Bs : List (List (List Int))} (hI : TI u K Bs) {r : Nat} {x : Int} (hx : x = r) (hr : r < Bs.flatten.length) (P : Int → Int → TS → Prop)
    (hp : ∀ (b : Nat) (w : List (List Int)) (u' : TS), Bs[b]? = some w → pre Bs b ≤ r → r < pre Bs b + w.length → Bs.flatten[r]? = w[r - pre Bs b]? → TI u' K Bs → LB u' w → P b (pre Bs b) u') :
    wm_T_blockOfRank x u (fun r16 u16 => ∀ u22 : TS, u22 = sli u16 0 → wm_T_unpack r16 u22 (fun u27 => wm_T_termsBefore r16 u27 (fun r33 u33 => P r16 r33 u33))) := by
  obtain ⟨hk, hB, h1, h2, h3, h4, h5, h6⟩ := id hI
  refine T_blockOfRank hB (by omega) hx hr (fun b w hb g1 g2 => ?_)
  intro u22 e22
  subst e22
  have hB2 : BK (sli u 0) Bs := hB
  have hw6 := (hB.2.2 w (List.mem_of_getElem? hb)).1
  have hbl := getlt hb
  refine T_unpack hB2 rfl hb (Ls := []) ⟨rfl, by simp, fun k t h => by simp at h, fun t h => by cases h⟩ (by simp; omega) (fun f g n hL => ?_)
  have hB3 : BK (sli (slen (sll (sli u 0) f) g) n) Bs := hB
  refine T_termsBefore hB3 rfl (by omega) ?_
  exact hp b w _ hb g1 g2 (fl_at hb g1 g2) (hI.move hk hB rfl) (by simpa using hL)
theorem T_sharedAtRank {u : TS} {K : List Int} {Bs : List (List (List Int))} (hI : TI u K Bs) {r : Nat} {x : Int} (hx : x = r) {t : List Int} (hr : Bs.flatten[r]? = some t) {post : Int → TS → Prop} (hp : ∀ u', TI u' K Bs → post (tx_cp t K) u') : wm_T_sharedAtRank x u post := by
  rw [wm_T_sharedAtRank]
  refine T_fetch hI hx (getlt hr) (fun r2 r19 u19 => wm_T_sharedWithKey (x - r19) u19 (fun r26 u26 => post r26 u26)) (fun b w u' hb g1 g2 g3 hI' hL => ?_)
  rw [hr] at g3
  have hw6 := (hI.2.1.2.2 w (List.mem_of_getElem? hb)).1
  rw [show x - ((pre Bs b : Nat) : Int) = ((r - pre Bs b : Nat) : Int) by omega]
  exact T_sharedWithKey hI'.1 (by omega) (hL.2.2.1 _ t g3.symm) (hL.2.2.2 t (List.mem_of_getElem? g3.symm)) (hp u' hI')
theorem T_held {u : TS} {K : List Int} {Bs : List (List (List Int))} (hI : TI u K Bs) {post : Int → TS → Prop} (h1 : K ∈ Bs.flatten → ∀ u', TI u' K Bs → post 1 u') (h2 : K ∉ Bs.flatten → ∀ u', TI u' K Bs → post 0 u') : wm_T_held u post := by
  rw [wm_T_held]
  refine T_count hI (past := false) rfl (fun u2 hI2 => ?_)
  obtain ⟨hk, hB, htot, h40, hso, hwf, hne, h3⟩ := id hI2
  have hK6 := hk.2.2.1
  have hkl := hk.1
  have hct := ct_le false K Bs.flatten
  have hat : K ∈ Bs.flatten → Bs.flatten[tx_ct false K Bs.flatten]? = some K := fun h => held_at hso h
  refine br_eq_i (fun h => ?_) (fun h => ?_)
  · refine ⟨Or.inl rfl, h2 (fun hm => ?_) u2 hI2⟩
    have := (hwf K hm).2
    omega
  · refine br_lt_i (fun h => ?_) (fun h => ?_)
    · refine T_fetch hI2 (r := tx_ct false K Bs.flatten) rfl (by omega) _ (fun b w u' hb g1 g2 g3 hI' hL => ?_)
      have hw6 := (hB.2.2 w (List.mem_of_getElem? hb)).1
      have hlt : tx_ct false K Bs.flatten - pre Bs b < w.length := by omega
      have ht : w[tx_ct false K Bs.flatten - pre Bs b]? = some w[tx_ct false K Bs.flatten - pre Bs b] := List.getElem?_eq_getElem hlt
      rw [show ((tx_ct false K Bs.flatten : Nat) : Int) - ((pre Bs b : Nat) : Int) = ((tx_ct false K Bs.flatten - pre Bs b : Nat) : Int) by omega]
      rw [ht] at g3
      generalize tx_ct false K Bs.flatten - pre Bs b = j at hlt ht g3 ⊢
      have hr := hL.2.2.1 _ _ ht
      have hwt := hL.2.2.2 _ (List.mem_of_getElem? ht)
      generalize w[j] = t at ht g3 hr hwt
      have ht6 := hwt.1
      have hkl' := hI'.1.1
      have hcl := cp_le t K
      refine ⟨⟨by omega, by omega⟩, fun v52 e52 => ?_⟩
      rw [show ((j : Int)).toNat = j by omega, hr.1] at e52
      have hnot : t ≠ K → post 0 u' := fun hne2 => h2 (fun hm => hne2 (by have := hat hm; rw [g3] at this; exact Option.some.inj this)) u' hI'
      refine br_eq_i (fun h => ?_) (fun h => ?_)
      · refine T_sharedWithKey hI'.1 (by omega) hr hwt ?_
        refine br_eq_i (fun h => ?_) (fun h => ?_)
        · have e := cp_full t K (by omega) (by omega)
          refine ⟨Or.inr rfl, h1 ?_ u' hI'⟩
          rw [← e]
          exact List.mem_of_getElem? g3
        · exact ⟨Or.inl rfl, hnot (fun e => h (by rw [e, cp_self]; omega))⟩
      · exact ⟨Or.inl rfl, hnot (fun e => h (by rw [e52, e]; omega))⟩
    · refine ⟨Or.inl rfl, h2 (fun hm => ?_) u2 hI2⟩
      have := getlt (hat hm)
      omega
theorem T_load_copy {u : TS} {t : List Int} {j : Nat} (hj : j < 16) (hty : tkl u = t.length) (h6 : t.length ≤ 6) (hT : rT (tll u) (6 * j) t) (C : TS → Prop) (hC : ∀ g, rT g 0 t → C (skey u g)) :
    ∀ (n i : Nat) (x : Int) (g : Nat → Int), x = i → i ≤ t.length → (∀ q, q < i → g q = t.getD q 0) → t.length < i + n → wl_T_load_51 j C n x (skey u g) := by
  intro n
  induction n with
  | zero => intro i x g _ _ _ _; omega
  | succ n ih =>
    intro i x g hx hi hg hn
    subst hx
    rw [wl_T_load_51]
    have hty' : tkl (skey u g) = t.length := hty
    refine br_le_i (fun h => ?_) (fun h => ?_)
    · exact hC g (fun q hq => by rw [Nat.zero_add]; exact hg q (by omega))
    · refine ⟨⟨by omega, by omega⟩, fun v54 e54 => ?_⟩
      rw [show (6 * (j : Int) + (i : Int)).toNat = 6 * j + i by omega, gs_ll_key, hT i (by omega)] at e54
      refine ⟨⟨by omega, by omega⟩, fun u55 e55 => ?_⟩
      rw [show ((i : Int)).toNat = i by omega, gs_key_key, ss_key] at e55
      subst e54
      subst e55
      refine ih (i + 1) _ (va_up g i (t.getD i 0)) (by omega) (by omega) (fun q hq => ?_) (by omega)
      by_cases hqi : q = i
      · rw [hqi, up_s]
      · rw [up_n _ _ _ hqi]; exact hg q (by omega)
theorem T_load {u : TS} {K : List Int} {Bs : List (List (List Int))} (hI : TI u K Bs) {x : Int} (hx : rg x) {post : Int → TS → Prop}
    (h1 : ∀ (r : Nat) (t : List Int), x = r → Bs.flatten[r]? = some t → ∀ u', TI u' t Bs → post t.length u') (h2 : (x < 0 ∨ (Bs.flatten.length : Int) ≤ x) → post (-1) u) : wm_T_load x u post := by
  obtain ⟨hx1, hx2⟩ := hx
  obtain ⟨hk, hB, htot, h40, hso, hwf, hne, h3⟩ := id hI
  rw [wm_T_load]
  refine br_lt_i (fun h => h2 (Or.inl h)) (fun h => ?_)
  refine br_lt_i (fun h => ?_) (fun h => h2 (Or.inr (by omega)))
  refine T_fetch hI (r := x.toNat) (by omega) (by omega) (fun r16 r33 u33 => (0 ≤ x - r33 ∧ x - r33 < 16) ∧ ∀ v44 : Int, v44 = tlen u33 (x - r33).toNat → ∀ u45 : TS, u45 = skl u33 v44 → ∃ n51, wl_T_load_51 (x - r33) (fun u85 => post (tkl u85) u85) n51 0 u45) (fun b w u' hb g1 g2 g3 hI' hL => ?_)
  have hw6 := (hB.2.2 w (List.mem_of_getElem? hb)).1
  have hlt : x.toNat - pre Bs b < w.length := by omega
  have ht : w[x.toNat - pre Bs b]? = some w[x.toNat - pre Bs b] := List.getElem?_eq_getElem hlt
  rw [show x - ((pre Bs b : Nat) : Int) = ((x.toNat - pre Bs b : Nat) : Int) by omega]
  rw [ht] at g3
  generalize x.toNat - pre Bs b = j at hlt ht g3 ⊢
  have hr := hL.2.2.1 _ _ ht
  have hwt := hL.2.2.2 _ (List.mem_of_getElem? ht)
  generalize w[j] = t at ht g3 hr hwt
  have ht6 := hwt.1
  refine ⟨⟨by omega, by omega⟩, fun v44 e44 => ?_⟩
  rw [show ((j : Int)).toNat = j by omega, hr.1] at e44
  intro u45 e45
  rw [e44] at e45
  refine ⟨8, ?_⟩
  have key := T_load_copy (u := u45) (t := t) (j := j) (by omega) (by rw [e45, gs_kl_kl]) ht6 (by rw [e45, gs_ll_kl]; exact hr.2) (fun u85 => post (tkl u85) u85) (fun g hg => ?_) 8 0 0 (tkey u45) rfl (Nat.zero_le _) (fun q hq => absurd hq (Nat.not_lt_zero _)) (by omega)
  · rw [id_key] at key
    exact key
  · have e : tkl (skey u45 g) = t.length := by rw [gs_kl_key, e45, gs_kl_kl]
    rw [e]
    obtain ⟨hk', hB', htot', _⟩ := hI'
    have hB4 : BK (skey (skl u' (t.length : Int)) g) Bs := hB'
    rw [← e45] at hB4
    refine h1 x.toNat t (by omega) g3 _ ⟨⟨e, by rw [gs_key_key]; exact hg, hwt⟩, hB4, ?_, h40, hso, hwf, hne, h3⟩
    rw [gs_tot_key, e45, gs_tot_kl]
    exact htot'
theorem T_before {u : TS} {K : List Int} {Bs : List (List (List Int))} (hI : TI u K Bs) {post : Int → TS → Prop} (hp : ∀ u', TI u' K Bs → post (tx_ct false K Bs.flatten) u') : wm_T_before u post := by
  rw [wm_T_before]
  exact T_count hI (past := false) rfl hp
theorem ct_true (K : List Int) : ∀ S : List (List Int), tx_ct true K S = tx_bg K S + tx_ct false K S
  | [] => rfl
  | t :: S => by
    have ih := ct_true K S
    have e1 : tx_ct true K (t :: S) = tx_ct true K S + if tx_lp true t K = true then 1 else 0 := List.countP_cons
    have e2 : tx_ct false K (t :: S) = tx_ct false K S + if tx_lp false t K = true then 1 else 0 := List.countP_cons
    have e3 : tx_bg K (t :: S) = tx_bg K S + if decide (tx_cp t K = K.length) = true then 1 else 0 := List.countP_cons
    have hl := lp_true t K
    by_cases hc : tx_cp t K = K.length
    · have hf : tx_lp false t K = false := by
        cases h : tx_lp false t K with
        | false => rfl
        | true => exact absurd hc (lp_false_cp h)
      rw [hf, decide_eq_true hc] at hl
      rw [hl] at e1
      rw [hf] at e2
      rw [decide_eq_true hc] at e3
      simp at e1 e2 e3
      omega
    · rw [decide_eq_false hc, Bool.false_or] at hl
      rw [hl] at e1
      rw [decide_eq_false hc] at e3
      simp at e3
      omega
theorem T_beginning {u : TS} {K : List Int} {Bs : List (List (List Int))} (hI : TI u K Bs) {post : Int → TS → Prop} (hp : ∀ u', TI u' K Bs → post (tx_bg K Bs.flatten) u') : wm_T_beginning u post := by
  rw [wm_T_beginning]
  refine T_count hI (past := true) rfl (fun u1 hI1 => ?_)
  refine T_count hI1 (past := false) rfl (fun u2 hI2 => ?_)
  have := ct_true K Bs.flatten
  rw [show ((tx_ct true K Bs.flatten : Nat) : Int) - ((tx_ct false K Bs.flatten : Nat) : Int) = (tx_bg K Bs.flatten : Int) by omega]
  exact hp u2 hI2
theorem so_idx {S : List (List Int)} (hso : tx_so S) {i j : Nat} {s t : List Int} (hij : i < j) (hi : S[i]? = some s) (hj : S[j]? = some t) : tx_lp false s t = true := by
  have h1 := List.pairwise_iff_getElem.mp hso i j (getlt hi) (getlt hj) hij
  rw [(List.getElem?_eq_some_iff.mp hi).2, (List.getElem?_eq_some_iff.mp hj).2] at h1
  exact h1
/-- all ahead of the rank have at most as much in common with the key as the last of them -/
theorem mx_low {S : List (List Int)} (hso : tx_so S) {K t s : List Int} {r j : Nat} (hr : r + 1 ≤ tx_ct false K S) (ht : S[r]? = some t) (hj : j ≤ r) (hs : S[j]? = some s) : tx_cp s K ≤ tx_cp t K := by
  have hl := (ct_at (p := false) (K := K) hso r t ht).mpr (by omega)
  by_cases e : j = r
  · rw [e, ht] at hs
    cases hs
    exact Nat.le_refl _
  · exact cp_low s t K (so_idx hso (by omega) hs ht) hl
theorem mx_high {S : List (List Int)} (hso : tx_so S) {K t s : List Int} {r j : Nat} (hr : tx_ct false K S ≤ r) (ht : S[r]? = some t) (hj : r ≤ j) (hs : S[j]? = some s) : tx_cp s K ≤ tx_cp t K := by
  have hl : tx_lp false t K = false := by
    cases h : tx_lp false t K with
    | false => rfl
    | true =>
      have := (ct_at (p := false) (K := K) hso r t ht).mp h
      omega
  by_cases e : j = r
  · rw [e, ht] at hs
    cases hs
    exact Nat.le_refl _
  · exact cp_high t s K (so_idx hso (by omega) ht hs) hl
theorem T_common48 {u : TS} {post : Int → TS → Prop} {a b : Nat} {x z : Int} (hx : x = a) (hz : z = b) (ha : a ≤ 6) (hb : b ≤ 6) (hp : post ((max a b : Nat) : Int) u) : wj_T_common_48 post x z u := by
  subst hx
  subst hz
  refine br_le_i (fun h => ?_) (fun h => ?_)
  · rw [Nat.max_eq_right (by omega)] at hp; exact hp
  · rw [Nat.max_eq_left (by omega)] at hp; exact hp
theorem T_common {u : TS} {K : List Int} {Bs : List (List (List Int))} (hI : TI u K Bs) {post : Int → TS → Prop} (hp : ∀ r, isMx K Bs.flatten r → ∀ u', TI u' K Bs → post r u') : wm_T_common u post := by
  obtain ⟨hk, hB, htot, h40, hso, hwf, hne, h3⟩ := id hI
  have hK6 := hk.2.2.1
  rw [wm_T_common]
  refine br_eq_i (fun h => ?_) (fun h => ?_)
  · exact hp (-1) (Or.inl ⟨List.length_eq_zero_iff.mp (by omega), rfl⟩) u hI
  · refine T_count hI (past := false) rfl (fun u2 hI2 => ?_)
    have hct := ct_le false K Bs.flatten
    have htot2 := hI2.2.2.1
    -- what the second half answers, given the first
    have second : ∀ (u3 : TS) (lo : Nat), TI u3 K Bs → lo ≤ 6 → (∀ (j : Nat) (s : List Int), j < tx_ct false K Bs.flatten → Bs.flatten[j]? = some s → tx_cp s K ≤ lo) → (lo = 0 ∨ ∃ s ∈ Bs.flatten, tx_cp s K = lo) → (tx_ct false K Bs.flatten = 0 → lo = 0) → (0 < tx_ct false K Bs.flatten → ∃ s ∈ Bs.flatten, tx_cp s K = lo) → wj_T_common_30 post (tx_ct false K Bs.flatten : Nat) (lo : Nat) u3 := by
      intro u3 lo hI3 hlo6 hlo hlo2 hlo0 hlo3
      have htot3 := hI3.2.2.1
      refine br_le_i (fun h => ?_) (fun h => ?_)
      · refine T_common48 (a := lo) (b := 0) rfl rfl hlo6 (by omega) ?_
        rw [Nat.max_eq_left (by omega)]
        refine hp _ (Or.inr ⟨?_, fun t ht => ?_⟩) u3 hI3
        · have hpos : 0 < tx_ct false K Bs.flatten := by clear hlo2 hlo3 hlo; omega
          obtain ⟨s, hs, e⟩ := hlo3 hpos
          exact ⟨s, hs, by rw [e]⟩
        · obtain ⟨j, hj⟩ := List.getElem?_of_mem ht
          have := hlo j t (by have := getlt hj; omega) hj
          omega
      · have hlt : tx_ct false K Bs.flatten < Bs.flatten.length := by omega
        have ht : Bs.flatten[tx_ct false K Bs.flatten]? = some Bs.flatten[tx_ct false K Bs.flatten] := List.getElem?_eq_getElem hlt
        have hmx := fun j s (hj : tx_ct false K Bs.flatten ≤ j) (hs : Bs.flatten[j]? = some s) => mx_high (K := K) hso (Nat.le_refl _) ht hj hs
        have htm := List.mem_of_getElem? ht
        generalize Bs.flatten[tx_ct false K Bs.flatten] = t at ht hmx htm
        have hcl := cp_le t K
        refine T_sharedAtRank hI3 rfl ht (fun u4 hI4 => ?_)
        refine T_common48 (a := lo) (b := tx_cp t K) rfl rfl hlo6 (by omega) ?_
        refine hp _ (Or.inr ⟨?_, fun s hs => ?_⟩) u4 hI4
        · rcases Nat.le_total lo (tx_cp t K) with q | q
          · exact ⟨t, htm, by rw [Nat.max_eq_right q]⟩
          · rw [Nat.max_eq_left q]
            rcases hlo2 with e | ⟨s, hs, e⟩
            · exact ⟨t, htm, by rw [show lo = tx_cp t K by omega]⟩
            · exact ⟨s, hs, by rw [e]⟩
        · obtain ⟨j, hj⟩ := List.getElem?_of_mem hs
          rcases Nat.lt_or_ge j (tx_ct false K Bs.flatten) with q | q
          · have := hlo j s q hj
            have := Nat.le_max_left lo (tx_cp t K)
            omega
          · have := hmx j s q hj
            have := Nat.le_max_right lo (tx_cp t K)
            omega
    refine br_le_i (fun h => ?_) (fun h => ?_)
    · exact second u2 0 hI2 (by omega) (fun j s hj => by omega) (Or.inl rfl) (fun _ => rfl) (fun q => by omega)
    · have hlt : tx_ct false K Bs.flatten - 1 < Bs.flatten.length := by omega
      have ht : Bs.flatten[tx_ct false K Bs.flatten - 1]? = some Bs.flatten[tx_ct false K Bs.flatten - 1] := List.getElem?_eq_getElem hlt
      have hmx := fun j s (hj : j ≤ tx_ct false K Bs.flatten - 1) (hs : Bs.flatten[j]? = some s) => mx_low (K := K) hso (by omega) ht hj hs
      have htm := List.mem_of_getElem? ht
      generalize Bs.flatten[tx_ct false K Bs.flatten - 1] = t at ht hmx htm
      have hcl := cp_le t K
      refine T_sharedAtRank hI2 (r := tx_ct false K Bs.flatten - 1) (by omega) ht (fun u3 hI3 => ?_)
      exact second u3 (tx_cp t K) hI3 (by omega) (fun j s hj hs => hmx j s (by omega) hs) (Or.inr ⟨t, htm, rfl⟩) (fun q => by omega) (fun _ => ⟨t, htm, rfl⟩)
end
section
/-! plain: the key's methods, insert, delete -/
theorem T_type {u : TS} {K : List Int} {Bs : List (List (List Int))} (hI : TI u K Bs) {x : Int} (hx : rg x) {post : Int → TS → Prop}
    (h1 : 0 ≤ x → x ≤ 9 → K.length < 6 → ∀ u', TI u' (K ++ [x]) Bs → post (K.length + 1) u') (h2 : (x < 0 ∨ 9 < x ∨ 6 ≤ K.length) → post (-1) u) : wm_T_type x u post := by
  obtain ⟨hx1, hx2⟩ := hx
  obtain ⟨⟨hty, hkey, hK⟩, hB, htot, h40, hso, hwf, hne, h3⟩ := hI
  have hK1 := hK.1
  rw [wm_T_type]
  refine br_lt_i (fun h => h2 (Or.inl h)) (fun h => ?_)
  refine br_lt_i (fun h => h2 (Or.inr (Or.inl h))) (fun h => ?_)
  refine br_lt_i (fun h => ?_) (fun h => h2 (Or.inr (Or.inr (by omega))))
  refine ⟨⟨by omega, by omega⟩, fun u30 e30 => ?_⟩
  intro u38 e38
  rw [hty, show ((K.length : Int)).toNat = 0 + K.length by omega] at e30
  have e : tkl u30 = K.length := by rw [e30, gs_kl_key, hty]
  rw [e] at e38
  have e2 : tkl u38 = (K.length : Int) + 1 := by rw [e38, gs_kl_kl]
  have e3 : tkey u38 = va_up (tkey u) (0 + K.length) x := by rw [e38, gs_key_kl, e30, gs_key_key]
  rw [e2]
  have hB2 : BK (skl (skey u (va_up (tkey u) (0 + K.length) x)) ((K.length : Int) + 1)) Bs := hB
  rw [← e30, ← e38] at hB2
  refine h1 (by omega) (by omega) (by omega) _ ⟨⟨?_, by rw [e3]; exact rT_snoc hkey, wfT_snoc hK (by omega) (by omega) (by omega)⟩, hB2, ?_, h40, hso, hwf, hne, h3⟩
  · rw [e2]; simp
  · rw [e38, gs_tot_kl, e30, gs_tot_key]; exact htot
theorem T_back {u : TS} {K : List Int} {Bs : List (List (List Int))} (hI : TI u K Bs) {post : Int → TS → Prop}
    (h1 : K ≠ [] → ∀ u', TI u' K.dropLast Bs → post (K.getD (K.length - 1) 0) u') (h2 : K = [] → post (-1) u) : wm_T_back u post := by
  obtain ⟨⟨hty, hkey, hK⟩, hB, htot, h40, hso, hwf, hne, h3⟩ := hI
  have hK1 := hK.1
  rw [wm_T_back]
  refine br_eq_i (fun h => h2 (List.length_eq_zero_iff.mp (by omega))) (fun h => ?_)
  have hKne : K ≠ [] := fun e => h (by rw [hty, e]; rfl)
  have hpos := List.length_pos_iff.mpr hKne
  intro u16 e16
  rw [hty] at e16
  have e : tkl u16 = ((K.length - 1 : Nat) : Int) := by rw [e16, gs_kl_kl]; omega
  refine ⟨⟨by omega, by omega⟩, fun v27 e27 => ?_⟩
  rw [e, show (((K.length - 1 : Nat) : Int)).toNat = 0 + (K.length - 1) by omega, e16, gs_key_kl, hkey _ (by omega)] at e27
  subst e27
  have hB2 : BK (skl u ((K.length : Int) - 1)) Bs := hB
  rw [← e16] at hB2
  refine h1 hKne _ ⟨⟨?_, fun i hi => ?_, wfT_drop hK⟩, hB2, ?_, h40, hso, hwf, hne, h3⟩
  · rw [e]; simp
  · simp at hi
    rw [dropLast_get hi, e16, gs_key_kl]
    exact hkey i (by omega)
  · rw [e16, gs_tot_kl]; exact htot
theorem T_erase {u : TS} {K : List Int} {Bs : List (List (List Int))} (hI : TI u K Bs) {post : TS → Prop} (h1 : ∀ u', TI u' [] Bs → post u') : wm_T_erase u post := by
  obtain ⟨⟨hty, hkey, hK⟩, hB, htot, h40, hso, hwf, hne, h3⟩ := hI
  intro u2 e2
  have hB2 : BK (skl u 0) Bs := hB
  rw [← e2] at hB2
  refine h1 _ ⟨⟨by rw [e2, gs_kl_kl]; rfl, fun i hi => absurd hi (Nat.not_lt_zero _), ⟨Nat.zero_le _, fun i hi => absurd hi (Nat.not_lt_zero _)⟩⟩, hB2, ?_, h40, hso, hwf, hne, h3⟩
  rw [e2, gs_tot_kl]; exact htot
theorem T_letter {u : TS} {K : List Int} {Bs : List (List (List Int))} (hI : TI u K Bs) {x : Int} (hx : rg x) {post : Int → TS → Prop}
    (h1 : ∀ i : Nat, x = i → i < K.length → post (K.getD i 0) u) (h2 : (x < 0 ∨ (K.length : Int) ≤ x) → post (-1) u) : wm_T_letter x u post := by
  obtain ⟨hx1, hx2⟩ := hx
  obtain ⟨⟨hty, hkey, hK⟩, hB, htot, h40, hso, hwf, hne, h3⟩ := hI
  have hK1 := hK.1
  rw [wm_T_letter]
  refine br_lt_i (fun h => h2 (Or.inl h)) (fun h => ?_)
  refine br_lt_i (fun h => ?_) (fun h => h2 (Or.inr (by omega)))
  refine ⟨⟨by omega, by omega⟩, fun v21 e21 => ?_⟩
  rw [show x.toNat = 0 + x.toNat by omega, hkey _ (by omega)] at e21
  subst e21
  exact h1 x.toNat (by omega) (by omega)
theorem T_size {u : TS} {K : List Int} {Bs : List (List (List Int))} (hI : TI u K Bs) {post : Int → TS → Prop} (h1 : post Bs.flatten.length u) : wm_T_size u post := by
  have htm := hI.2.2.1
  rw [wm_T_size, htm]
  exact h1
theorem nb_flat (L : List (List Int)) : (nb L).flatten = L := by
  unfold nb
  by_cases h0 : L.length = 0
  · rw [if_pos h0]
    exact (List.length_eq_zero_iff.mp h0).symm
  · rw [if_neg h0]
    by_cases h6 : L.length ≤ 6
    · rw [if_pos h6]; simp
    · rw [if_neg h6]; simp
theorem nb_ne (L : List (List Int)) : ∀ b ∈ nb L, b ≠ [] := by
  intro b hb
  unfold nb at hb
  by_cases h0 : L.length = 0
  · rw [if_pos h0] at hb; cases hb
  · rw [if_neg h0] at hb
    by_cases h6 : L.length ≤ 6
    · rw [if_pos h6] at hb
      simp at hb
      rw [hb]
      exact fun e => h0 (by rw [e]; rfl)
    · rw [if_neg h6] at hb
      simp at hb
      rcases hb with hb | hb
      · intro e
        have h9 : (L.take ((L.length + 1) / 2)).length = 0 := by rw [← hb, e]; rfl
        rw [List.length_take] at h9
        omega
      · intro e
        have h9 : (L.drop ((L.length + 1) / 2)).length = 0 := by rw [← hb, e]; rfl
        rw [List.length_drop] at h9
        omega
theorem nb_3 {L : List (List Int)} (h : 3 ≤ L.length) : ∀ b ∈ nb L, 3 ≤ b.length := by
  intro b hb
  unfold nb at hb
  rw [if_neg (by omega)] at hb
  by_cases h6 : L.length ≤ 6
  · rw [if_pos h6] at hb
    simp at hb
    rw [hb]; exact h
  · rw [if_neg h6] at hb
    simp at hb
    rcases hb with hb | hb <;> rw [hb] <;> simp <;> omega
theorem nb_len {L : List (List Int)} (h : L.length ≤ 6) : (nb L).length ≤ 1 := by
  unfold nb
  by_cases h0 : L.length = 0
  · rw [if_pos h0]; simp
  · rw [if_neg h0, if_pos h]; simp
theorem nb_fl (A C : List (List (List Int))) (L : List (List Int)) : (A ++ (nb L ++ C)).flatten = A.flatten ++ (L ++ C.flatten) := by
  rw [List.flatten_append, List.flatten_append, nb_flat]
theorem TI_mk {u : TS} {K : List Int} {A C : List (List (List Int))} {L : List (List Int)} (hk : KY u K) (hB : BK u (A ++ (nb L ++ C))) (htot : ttot u = (A.flatten ++ (L ++ C.flatten)).length) (h40 : (A.flatten ++ (L ++ C.flatten)).length ≤ 40) (hso : tx_so (A.flatten ++ (L ++ C.flatten)))
    (hwf : ∀ t ∈ A.flatten ++ (L ++ C.flatten), wfT t ∧ 0 < t.length) (hne : ∀ b ∈ A ++ C, b ≠ []) (h3 : 2 ≤ (A ++ (nb L ++ C)).length → (∀ b ∈ A ++ C, 3 ≤ b.length) ∧ 3 ≤ L.length) : TI u K (A ++ (nb L ++ C)) := by
  have split : ∀ b, b ∈ A ++ (nb L ++ C) → b ∈ nb L ∨ b ∈ A ++ C := fun b hb => by
    rcases List.mem_append.mp hb with q | q
    · exact Or.inr (List.mem_append_left _ q)
    · rcases List.mem_append.mp q with q | q
      · exact Or.inl q
      · exact Or.inr (List.mem_append_right _ q)
  refine ⟨hk, hB, ?_, ?_, ?_, ?_, fun b hb => ?_, fun h2 b hb => ?_⟩
  · rw [nb_fl]; exact htot
  · rw [nb_fl]; exact h40
  · rw [nb_fl]; exact hso
  · rw [nb_fl]; exact hwf
  · rcases split b hb with q | q
    · exact nb_ne L b q
    · exact hne b q
  · have := h3 h2
    rcases split b hb with q | q
    · exact nb_3 this.2 b q
    · exact this.1 b q
theorem so_ins {P Q : List (List Int)} {K : List Int} (hso : tx_so (P ++ Q)) (hl : P.length = tx_ct false K (P ++ Q)) (hK : K ∉ P ++ Q) : tx_so (P ++ K :: Q) := by
  have hp := List.pairwise_append.mp hso
  have hPK : ∀ p ∈ P, tx_lp false p K = true := fun p hpm => by
    obtain ⟨j, hj⟩ := List.getElem?_of_mem hpm
    have hjl := getlt hj
    exact (ct_at (p := false) (K := K) hso j p (by rw [List.getElem?_append_left hjl]; exact hj)).mpr (by omega)
  have hKQ : ∀ q ∈ Q, tx_lp false K q = true := fun q hqm => by
    obtain ⟨j, hj⟩ := List.getElem?_of_mem hqm
    have h1 := ct_at (p := false) (K := K) hso (P.length + j) q (by rw [List.getElem?_append_right (by omega), Nat.add_sub_cancel_left]; exact hj)
    have h2 : ¬ tx_lp false q K = true := fun h => by have := h1.mp h; omega
    rcases lp_tot K q (fun e => hK (by rw [e]; exact List.mem_append_right _ hqm)) with h | h
    · exact h
    · exact absurd h h2
  refine List.pairwise_append.mpr ⟨hp.1, List.pairwise_cons.mpr ⟨hKQ, hp.2.1⟩, fun p hpm q hqm => ?_⟩
  rcases List.mem_cons.mp hqm with e | e
  · rw [e]; exact hPK p hpm
  · exact hp.2.2 p hpm q e
theorem bs_split {Bs : List (List (List Int))} {b : Nat} {w : List (List Int)} (h : Bs[b]? = some w) : Bs = Bs.take b ++ w :: Bs.drop (b + 1) := by
  have := (List.getElem?_eq_some_iff.mp h).2
  have hb := getlt h
  rw [← this]
  simp
theorem take_len {α : Type} {l : List α} {b : Nat} (h : b ≤ l.length) : (l.take b).length = b := by simp; omega
theorem T_ins53 {u : TS} {K : List Int} {Bs : List (List (List Int))} (hk : KY u K) (hB : BK u Bs) {b i : Nat} (hfb : tfb u = b) (hfi : tfi u = i) {w : List (List Int)} (hb : Bs[b]? = some w) (hi : i ≤ w.length) (hN : Bs.length < 16) {x : Int} {post : Int → TS → Prop}
    (hp : ∀ u', BK u' (Bs.take b ++ (nb (w.take i ++ K :: w.drop i) ++ Bs.drop (b + 1))) → KY u' K → ttot u' = ttot u + 1 → post x u') : wj_T_insert_53 post x u := by
  have hbl := getlt hb
  have hw6 := (hB.2.2 w (List.mem_of_getElem? hb)).1
  intro u55 e55
  subst e55
  have hB1 : BK (sli u 0) Bs := hB
  refine T_unpack hB1 (by rw [gs_fb_li]; exact hfb) hb (Ls := []) ⟨rfl, by simp, fun k t h => by simp at h, fun t h => by cases h⟩ (by simp; omega) (fun f g n hL => ?_)
  obtain ⟨U, hU⟩ : ∃ U, U = sli (slen (sll (sli u 0) f) g) n := ⟨_, rfl⟩
  rw [← hU] at hL ⊢
  have hBU : BK U Bs := by rw [hU]; exact hB1
  have hkU : KY U K := by rw [hU]; exact hk
  have hfbU : tfb U = b := by rw [hU, gs_fb_li, gs_fb_len, gs_fb_ll, gs_fb_li]; exact hfb
  have hfiU : tfi U = i := by rw [hU, gs_fi_li, gs_fi_len, gs_fi_ll, gs_fi_li]; exact hfi
  have htU : ttot U = ttot u := by rw [hU, gs_tot_li, gs_tot_len, gs_tot_ll, gs_tot_li]
  rw [List.nil_append] at hL
  refine T_putKeyInList hkU hL (by omega) hfiU hi (fun f2 g2 n2 hL2 => ?_)
  obtain ⟨V, hV⟩ : ∃ V, V = sli (slen (sll U f2) g2) n2 := ⟨_, rfl⟩
  rw [← hV] at hL2 ⊢
  have hBV : BK V Bs := by rw [hV]; exact hBU
  have hkV : KY V K := by rw [hV]; exact hkU
  have hfbV : tfb V = b := by rw [hV, gs_fb_li, gs_fb_len, gs_fb_ll]; exact hfbU
  have htV : ttot V = ttot u := by rw [hV, gs_tot_li, gs_tot_len, gs_tot_ll, htU]
  rw [bs_split hb] at hBV
  have hN2 : (Bs.take b ++ w :: Bs.drop (b + 1)).length < 16 := by rw [← bs_split hb]; exact hN
  refine T_store1 hBV hN2 hL2 (by simp; omega) (by rw [hfbV, take_len (by omega)]) (fun u80 hB80 hF => ?_)
  intro u90 e90
  have hB90 : BK (stot u80 (ttot u80 + 1)) (Bs.take b ++ (nb (w.take i ++ K :: w.drop i) ++ Bs.drop (b + 1))) := hB80
  have hk90 : KY (stot u80 (ttot u80 + 1)) K := hF.KY hkV
  rw [← e90] at hB90 hk90
  refine hp u90 hB90 hk90 ?_
  rw [e90, gs_tot_tot, hF.2.2.1, htV]
theorem TI_ins {u u' : TS} {K : List Int} {Bs Bs1 : List (List (List Int))} (hI : TI u K Bs) (h1 : Bs1.flatten = Bs.flatten) {b i : Nat} {w : List (List Int)} (hne1 : ∀ (j : Nat) (c : List (List Int)), j ≠ b → Bs1[j]? = some c → c ∈ Bs) (hb : Bs1[b]? = some w) (hi : i ≤ w.length) (hw6 : w.length ≤ 6) (hct : tx_ct false K Bs.flatten = pre Bs1 b + i) (hKne : K ≠ []) (hKS : K ∉ Bs.flatten) (h40 : Bs.flatten.length < 40)
    (hw : 2 ≤ Bs1.length → 3 ≤ w.length ∧ 2 ≤ Bs.length) (hk : KY u' K) (hB : BK u' (Bs1.take b ++ (nb (w.take i ++ K :: w.drop i) ++ Bs1.drop (b + 1)))) (htot : ttot u' = (Bs.flatten.length : Int) + 1) :
    TI u' K (Bs1.take b ++ (nb (w.take i ++ K :: w.drop i) ++ Bs1.drop (b + 1))) ∧ (Bs1.take b ++ (nb (w.take i ++ K :: w.drop i) ++ Bs1.drop (b + 1))).flatten.Perm (K :: Bs.flatten) := by
  obtain ⟨_, _, htot0, _, hso, hwf, hne, h3⟩ := hI
  have hbl := getlt hb
  have eS : Bs.flatten = ((Bs1.take b).flatten ++ w.take i) ++ (w.drop i ++ (Bs1.drop (b + 1)).flatten) := by
    rw [← h1, fl_split hb]
    have e : w ++ (Bs1.drop (b + 1)).flatten = w.take i ++ (w.drop i ++ (Bs1.drop (b + 1)).flatten) := by rw [← List.append_assoc, List.take_append_drop]
    rw [e, List.append_assoc]
  have eN : (Bs1.take b).flatten ++ ((w.take i ++ K :: w.drop i) ++ (Bs1.drop (b + 1)).flatten) = ((Bs1.take b).flatten ++ w.take i) ++ K :: (w.drop i ++ (Bs1.drop (b + 1)).flatten) := by simp
  have hperm : ((Bs1.take b).flatten ++ ((w.take i ++ K :: w.drop i) ++ (Bs1.drop (b + 1)).flatten)).Perm (K :: Bs.flatten) := by
    rw [eN, eS]
    exact List.perm_middle
  have hAC : ∀ c ∈ Bs1.take b ++ Bs1.drop (b + 1), c ∈ Bs := fun c hc => by
    rcases List.mem_append.mp hc with q | q
    · obtain ⟨j, hj⟩ := List.getElem?_of_mem q
      have hjl := getlt hj
      rw [take_len (by omega)] at hjl
      rw [List.getElem?_take_of_lt hjl] at hj
      exact hne1 j c (by omega) hj
    · obtain ⟨j, hj⟩ := List.getElem?_of_mem q
      rw [List.getElem?_drop] at hj
      exact hne1 _ c (by omega) hj
  refine ⟨TI_mk hk hB ?_ ?_ ?_ (fun t ht => ?_) (fun c hc => hne c (hAC c hc)) (fun h2 => ?_), by rw [nb_fl]; exact hperm⟩
  · rw [hperm.length_eq, htot]; simp
  · rw [hperm.length_eq, List.length_cons]; omega
  · rw [eN]
    rw [eS] at hso hKS hct
    refine so_ins hso ?_ hKS
    rw [hct]
    simp [pre]
    omega
  · rcases List.mem_cons.mp (hperm.mem_iff.mp ht) with q | q
    · rw [q]; exact ⟨hk.2.2, List.length_pos_iff.mpr hKne⟩
    · exact hwf t q
  · have hLl : (w.take i ++ K :: w.drop i).length = w.length + 1 := by simp; omega
    rcases Nat.lt_or_ge Bs1.length 2 with q | q
    · have hA0 : Bs1.take b = [] := List.length_eq_zero_iff.mp (by rw [take_len (by omega)]; omega)
      have hC0 : Bs1.drop (b + 1) = [] := List.length_eq_zero_iff.mp (by simp; omega)
      rw [hA0, hC0] at h2 ⊢
      refine ⟨fun c hc => by simp at hc, ?_⟩
      rcases Nat.lt_or_ge 6 (w.take i ++ K :: w.drop i).length with q2 | q2
      · omega
      · have := nb_len q2
        simp only [List.nil_append, List.append_nil] at h2
        omega
    · have := hw q
      exact ⟨fun c hc => h3 this.2 c (hAC c hc), by omega⟩
theorem T_insert {u : TS} {K : List Int} {Bs : List (List (List Int))} (hI : TI u K Bs) {post : Int → TS → Prop}
    (h1 : K ≠ [] → K ∉ Bs.flatten → Bs.flatten.length < 40 → ∀ u' Bs', TI u' K Bs' → Bs'.flatten.Perm (K :: Bs.flatten) → post (tx_ct false K Bs.flatten) u') (h2 : (K = [] ∨ Bs.flatten.length = 40 ∨ K ∈ Bs.flatten) → ∀ u', TI u' K Bs → post (-1) u') : wm_T_insert u post := by
  have hkl := hI.1.1
  have hK6 := hI.1.2.2.1
  have htot := hI.2.2.1
  have h40 := hI.2.2.2.1
  rw [wm_T_insert]
  refine br_eq_i (fun h => ?_) (fun h => ?_)
  · exact h2 (Or.inl (List.length_eq_zero_iff.mp (by omega))) u hI
  · have hKne : K ≠ [] := fun e => h (by rw [hkl, e]; rfl)
    refine br_le_i (fun h => ?_) (fun h => ?_)
    · exact h2 (Or.inr (Or.inl (by omega))) u hI
    · refine T_held hI (fun hm u17 hI17 => ?_) (fun hm u17 hI17 => ?_)
      · refine br_eq_i (fun h => absurd h (by decide)) (fun _ => ?_)
        exact h2 (Or.inr (Or.inr hm)) u17 hI17
      · refine br_eq_i (fun _ => ?_) (fun h => absurd rfl h)
        have hlen := hI17.len
        obtain ⟨hk, hB, ht17, _, hso, hwf, hne, h3⟩ := id hI17
        refine T_countLess hk hB hso hne (past := false) rfl (fun b i hb0 hb1 hb2 hct => ?_)
        obtain ⟨U, hU⟩ : ∃ U, U = sfi (sfb u17 b) i := ⟨_, rfl⟩
        rw [← hU]
        have hBU : BK U Bs := by rw [hU]; exact hB
        have hkU : KY U K := by rw [hU]; exact hk
        have hfbU : tfb U = b := by rw [hU, gs_fb_fi, gs_fb_fb]
        have hfiU : tfi U = i := by rw [hU, gs_fi_fi]
        have htU : ttot U = Bs.flatten.length := by rw [hU, gs_tot_fi, gs_tot_fb, ht17]
        have hblU := hBU.bl
        refine br_eq_i (fun h => ?_) (fun h => ?_)
        · have hBs : Bs = [] := List.length_eq_zero_iff.mp (by omega)
          obtain ⟨rfl, rfl⟩ := hb0 hBs
          have hB0 : BK U ([] ++ []) := by rw [hBs] at hBU; exact hBU
          refine T_openBlock hB0 (by simp) rfl (fun u40 hB40 hF => ?_)
          intro u45 e45
          intro u50 e50
          have hB50 : BK (sfi (sfb u40 0) 0) ([] ++ [] :: []) := hB40
          have hk50 : KY (sfi (sfb u40 0) 0) K := hF.KY hkU
          rw [← e45, ← e50] at hB50 hk50
          refine T_ins53 (b := 0) (i := 0) (w := []) hk50 hB50 (by rw [e50, gs_fb_fi, e45, gs_fb_fb]; rfl) (by rw [e50, gs_fi_fi]; rfl) rfl (Nat.zero_le _) (by simp) (fun u' hB' hk' ht' => ?_)
          have ht2 : ttot u' = (Bs.flatten.length : Int) + 1 := by rw [ht', e50, gs_tot_fi, e45, gs_tot_fb, hF.2.2.1, htU]
          have key := TI_ins (Bs1 := ([] ++ [] :: [] : List (List (List Int)))) hI17 (by rw [hBs]; rfl) (fun j c hjb hj => by
            exfalso
            have := getlt hj
            simp at this
            exact hjb this) (b := 0) (i := 0) (w := []) rfl (Nat.zero_le _) (by simp) (by rw [hBs]; rfl) hKne hm (by omega) (by simp) hk' hB' ht2
          exact h1 hKne hm (by omega) u' _ key.1 key.2
        · have hBne : Bs ≠ [] := fun e => h (by rw [hblU, e]; rfl)
          have hlt := hb1 hBne
          have hbw : Bs[b]? = some Bs[b] := List.getElem?_eq_getElem hlt
          have hi := hb2 _ hbw
          have hw6 := (hB.2.2 _ (List.mem_of_getElem? hbw)).1
          refine T_ins53 hkU hBU hfbU hfiU hbw hi (by omega) (fun u' hB' hk' ht' => ?_)
          have ht2 : ttot u' = (Bs.flatten.length : Int) + 1 := by rw [ht', htU]
          have key := TI_ins (Bs1 := Bs) hI17 rfl (fun j c hjb hj => List.mem_of_getElem? hj) hbw hi hw6 hct hKne hm (by omega) (fun q => ⟨h3 q _ (List.mem_of_getElem? hbw), q⟩) hk' hB' ht2
          exact h1 hKne hm (by omega) u' _ key.1 key.2
end
section
/-! plain: delete -/
theorem TI_del {u u' : TS} {K : List Int} {Bs A C : List (List (List Int))} {L P Q : List (List Int)} (hI : TI u K Bs) (hS : Bs.flatten = P ++ K :: Q) (hPQ : A.flatten ++ (L ++ C.flatten) = P ++ Q) (hk : KY u' K) (hB : BK u' (A ++ (nb L ++ C))) (htot : ttot u' = (Bs.flatten.length : Int) - 1) (hAC : ∀ c ∈ A ++ C, c ∈ Bs)
    (h3' : 2 ≤ (A ++ (nb L ++ C)).length → 2 ≤ Bs.length ∧ 3 ≤ L.length) : TI u' K (A ++ (nb L ++ C)) ∧ Bs.flatten.Perm (K :: (A ++ (nb L ++ C)).flatten) := by
  obtain ⟨_, _, htot0, h40, hso, hwf, hne, h3⟩ := hI
  have hperm : Bs.flatten.Perm (K :: (P ++ Q)) := by
    rw [hS]
    exact List.perm_middle
  have hl := hperm.length_eq
  rw [List.length_cons] at hl
  refine ⟨TI_mk hk hB ?_ ?_ ?_ (fun t ht => ?_) (fun c hc => hne c (hAC c hc)) (fun h2 => ?_), by rw [nb_fl, hPQ]; exact hperm⟩
  · rw [hPQ, htot]; omega
  · rw [hPQ]; omega
  · rw [hPQ]
    rw [hS] at hso
    have h1 := List.pairwise_append.mp hso
    have h2 := List.pairwise_cons.mp h1.2.1
    exact List.pairwise_append.mpr ⟨h1.1, h2.2, fun p hp q hq => h1.2.2 p hp q (List.mem_cons_of_mem _ hq)⟩
  · rw [hPQ] at ht
    exact hwf t (hperm.mem_iff.mpr (List.mem_cons_of_mem _ ht))
  · have := h3' h2
    exact ⟨fun c hc => h3 this.1 c (hAC c hc), this.2⟩
theorem tk_app {α : Type} (a w : List α) (i : Nat) : (a ++ w).take (a.length + i) ++ (a ++ w).drop (a.length + i + 1) = a ++ (w.take i ++ w.drop (i + 1)) := by
  rw [List.take_length_add_append, show a.length + i + 1 = a.length + (i + 1) by omega, List.drop_length_add_append, List.append_assoc]
theorem T_delete {u : TS} {K : List Int} {Bs : List (List (List Int))} (hI : TI u K Bs) {post : Int → TS → Prop}
    (h1 : K ∈ Bs.flatten → ∀ u' Bs', TI u' K Bs' → Bs.flatten.Perm (K :: Bs'.flatten) → post (tx_ct false K Bs.flatten) u') (h2 : K ∉ Bs.flatten → ∀ u', TI u' K Bs → post (-1) u') : wm_T_delete u post := by
  rw [wm_T_delete]
  refine T_held hI (fun hm u1 hI1 => ?_) (fun hm u1 hI1 => ?_)
  · refine br_eq_i (fun h => absurd h (by decide)) (fun _ => ?_)
    refine T_count hI1 (past := false) rfl (fun u11 hI11 => ?_)
    obtain ⟨hk, hB, htot, h40, hso, hwf, hne, h3⟩ := id hI11
    have hlen := hI11.len
    have hat := held_at hso hm
    have hlt := getlt hat
    refine T_fetch hI11 (r := tx_ct false K Bs.flatten) rfl hlt _ (fun b w v hb g1 g2 g3 hIv hL => ?_)
    rw [hat] at g3
    have hbl := getlt hb
    have hbm := List.mem_of_getElem? hb
    have hw6 := (hB.2.2 w hbm).1
    have eidx : ((tx_ct false K Bs.flatten : Nat) : Int) - ((pre Bs b : Nat) : Int) = ((tx_ct false K Bs.flatten - pre Bs b : Nat) : Int) := by omega
    obtain ⟨idx, hidx⟩ : ∃ idx, idx = tx_ct false K Bs.flatten - pre Bs b := ⟨_, rfl⟩
    rw [← hidx] at g3 eidx
    have hil : idx < w.length := by omega
    have ew : w = w.take idx ++ K :: w.drop (idx + 1) := by
      have := (List.getElem?_eq_some_iff.mp g3.symm).2
      rw [← this]
      simp
    have hLl : (w.take idx ++ w.drop (idx + 1)).length = w.length - 1 := by
      simp
      omega
    refine T_takeFromList hL eidx hil (fun f g n hL2 => ?_)
    obtain ⟨U, hU⟩ : ∃ U, U = sli (slen (sll v f) g) n := ⟨_, rfl⟩
    rw [← hU] at hL2 ⊢
    have hBU : BK U Bs := by rw [hU]; exact hIv.2.1
    have hkU : KY U K := by rw [hU]; exact hIv.1
    have htU : ttot U = Bs.flatten.length := by rw [hU, gs_tot_li, gs_tot_len, gs_tot_ll]; exact hIv.2.2.1
    intro u51 e51
    rw [htU] at e51
    have hB51 : BK u51 Bs := by rw [e51]; exact hBU
    have hk51 : KY u51 K := by rw [e51]; exact hkU
    have hL51 : LB u51 (w.take idx ++ w.drop (idx + 1)) := by rw [e51]; exact hL2
    have ht51 : ttot u51 = (Bs.flatten.length : Int) - 1 := by rw [e51, gs_tot_tot]
    have hli := hL51.1
    have hbl51 := hB51.bl
    have hS : Bs.flatten = ((Bs.take b).flatten ++ w.take idx) ++ K :: (w.drop (idx + 1) ++ (Bs.drop (b + 1)).flatten) := by
      rw [fl_split hb]
      have e : w ++ (Bs.drop (b + 1)).flatten = w.take idx ++ K :: (w.drop (idx + 1) ++ (Bs.drop (b + 1)).flatten) := by
        conv => lhs; rw [ew]
        rw [List.append_assoc, List.cons_append]
      rw [e, List.append_assoc]
    have hAC : ∀ c ∈ Bs.take b ++ Bs.drop (b + 1), c ∈ Bs := fun c hc => mem_del hc
    have hone : ∀ u', BK u' (Bs.take b ++ (nb (w.take idx ++ w.drop (idx + 1)) ++ Bs.drop (b + 1))) → FR u51 u' → (3 ≤ w.length - 1 ∨ Bs.length = 1) → post (tx_ct false K Bs.flatten) u' := by
      intro u' hB' hF hc
      have key := TI_del hI11 hS (A := Bs.take b) (C := Bs.drop (b + 1)) (L := w.take idx ++ w.drop (idx + 1)) (by simp) (hF.KY hk51) hB' (by rw [hF.2.2.1]; exact ht51) hAC (fun hge => ?_)
      · exact h1 hm u' _ key.1 key.2
      · have hn1 := nb_len (L := w.take idx ++ w.drop (idx + 1)) (by omega)
        simp only [List.length_append] at hge
        rw [take_len (by omega), List.length_drop] at hge
        rcases hc with hc | hc
        · exact ⟨by omega, by rw [hLl]; exact hc⟩
        · omega
    have hst1 : (3 ≤ w.length - 1 ∨ Bs.length = 1) → wm_T_storeList (b : Int) 1 u51 (fun u73 => post (tx_ct false K Bs.flatten) u73) := by
      intro hc
      have hB51' := hB51
      rw [bs_split hb] at hB51'
      refine T_store1 hB51' (by rw [← bs_split hb]; omega) hL51 (by omega) (by rw [take_len (by omega)]) (fun u' hB' hF => hone u' hB' hF hc)
    refine br_le_i (fun h => ?_) (fun h => ?_)
    · exact hst1 (Or.inl (by omega))
    · refine br_eq_i (fun h => ?_) (fun h => ?_)
      · exact hst1 (Or.inr (by omega))
      · have h2le : 2 ≤ Bs.length := by omega
        have hw3 := h3 h2le w hbm
        refine br_le_i (fun h => ?_) (fun h => ?_)
        · have hbe : b + 1 = Bs.length := by omega
          obtain ⟨c, hc⟩ : ∃ c, b = c + 1 := ⟨b - 1, by omega⟩
          subst hc
          have hcl : c < Bs.length := by omega
          have hcw : Bs[c]? = some Bs[c] := List.getElem?_eq_getElem hcl
          have hc3 := h3 h2le _ (List.mem_of_getElem? hcw)
          have hc6 := (hB.2.2 _ (List.mem_of_getElem? hcw)).1
          have hpre := pre_s hcw
          generalize Bs[c] = w1 at hcw hc3 hc6 hpre
          rw [show ((c + 1 : Nat) : Int) - 1 = (c : Int) by omega]
          intro u107 e107
          have hB107 : BK u107 Bs := by rw [e107]; exact hB51
          have hk107 : KY u107 K := by rw [e107]; exact hk51
          have ht107 : ttot u107 = (Bs.flatten.length : Int) - 1 := by rw [e107, gs_tot_li]; exact ht51
          refine T_unpack hB107 rfl hcw (Ls := []) ⟨by rw [e107, gs_li_li]; rfl, by simp, fun k t h => by simp at h, fun t h => by cases h⟩ (by simp; omega) (fun f1 g1' n1 hLa => ?_)
          obtain ⟨V, hV⟩ : ∃ V, V = sli (slen (sll u107 f1) g1') n1 := ⟨_, rfl⟩
          rw [← hV] at hLa ⊢
          have hBV : BK V Bs := by rw [hV]; exact hB107
          have hkV : KY V K := by rw [hV]; exact hk107
          have htV : ttot V = (Bs.flatten.length : Int) - 1 := by rw [hV, gs_tot_li, gs_tot_len, gs_tot_ll]; exact ht107
          rw [List.nil_append] at hLa
          refine T_unpack hBV rfl hb hLa (by omega) (fun f2 g2' n2 hLb => ?_)
          obtain ⟨Y, hY⟩ : ∃ Y, Y = sli (slen (sll V f2) g2') n2 := ⟨_, rfl⟩
          rw [← hY] at hLb ⊢
          have hBY : BK Y Bs := by rw [hY]; exact hBV
          have hkY : KY Y K := by rw [hY]; exact hkV
          have htY : ttot Y = (Bs.flatten.length : Int) - 1 := by rw [hY, gs_tot_li, gs_tot_len, gs_tot_ll]; exact htV
          refine T_termsBefore hBY rfl (by omega) ?_
          refine T_takeFromList hLb (pl := w1.length + idx) (by omega) (by simp; omega) (fun f3 g3' n3 hLc => ?_)
          obtain ⟨Z, hZ⟩ : ∃ Z, Z = sli (slen (sll Y f3) g3') n3 := ⟨_, rfl⟩
          rw [← hZ] at hLc ⊢
          have hBZ : BK Z Bs := by rw [hZ]; exact hBY
          have hkZ : KY Z K := by rw [hZ]; exact hkY
          have htZ : ttot Z = (Bs.flatten.length : Int) - 1 := by rw [hZ, gs_tot_li, gs_tot_len, gs_tot_ll]; exact htY
          rw [tk_app] at hLc
          have eB : Bs = Bs.take c ++ w1 :: w :: Bs.drop (c + 1 + 1) := by
            have e1 := bs_split hcw
            have e2 : Bs.drop (c + 1) = w :: Bs.drop (c + 1 + 1) := by
              have := (List.getElem?_eq_some_iff.mp hb).2
              rw [← this]
              simp
            rw [e2] at e1
            exact e1
          rw [eB] at hBZ
          refine T_store2 hBZ hLc (by simp; omega) (by rw [List.length_append, hLl]; omega) (by rw [take_len (by omega)]) (fun u' hB' hF => ?_)
          have eS2 : (Bs.take (c + 1)).flatten = (Bs.take c).flatten ++ w1 := by rw [take_s hcw]; simp
          have key := TI_del hI11 hS (A := Bs.take c) (C := Bs.drop (c + 1 + 1)) (L := w1 ++ (w.take idx ++ w.drop (idx + 1))) (by rw [eS2]; simp) (hF.KY hkZ) hB' (by rw [hF.2.2.1]; exact htZ) (fun x hx => ?_) (fun _ => ⟨h2le, by rw [List.length_append]; omega⟩)
          · exact h1 hm u' _ key.1 key.2
          · rcases List.mem_append.mp hx with q | q
            · exact List.mem_of_mem_take q
            · exact List.mem_of_mem_drop q
        · have hcl : b + 1 < Bs.length := by omega
          have hcw : Bs[b + 1]? = some Bs[b + 1] := List.getElem?_eq_getElem hcl
          have hc3 := h3 h2le _ (List.mem_of_getElem? hcw)
          have hc6 := (hB.2.2 _ (List.mem_of_getElem? hcw)).1
          generalize Bs[b + 1] = w2 at hcw hc3 hc6
          refine T_unpack hB51 (b := b + 1) (by omega) hcw hL51 (by omega) (fun f1 g1' n1 hLa => ?_)
          obtain ⟨V, hV⟩ : ∃ V, V = sli (slen (sll u51 f1) g1') n1 := ⟨_, rfl⟩
          rw [← hV] at hLa ⊢
          have hBV : BK V Bs := by rw [hV]; exact hB51
          have hkV : KY V K := by rw [hV]; exact hk51
          have htV : ttot V = (Bs.flatten.length : Int) - 1 := by rw [hV, gs_tot_li, gs_tot_len, gs_tot_ll]; exact ht51
          have e2 : Bs.drop (b + 1) = w2 :: Bs.drop (b + 1 + 1) := by
            have := (List.getElem?_eq_some_iff.mp hcw).2
            rw [← this]
            simp
          have eB : Bs = Bs.take b ++ w :: w2 :: Bs.drop (b + 1 + 1) := by
            have e1 := bs_split hb
            rw [e2] at e1
            exact e1
          rw [eB] at hBV
          refine T_store2 hBV hLa (by rw [List.length_append]; omega) (by rw [List.length_append, hLl]; omega) (by rw [take_len (by omega)]) (fun u' hB' hF => ?_)
          have key := TI_del hI11 hS (A := Bs.take b) (C := Bs.drop (b + 1 + 1)) (L := (w.take idx ++ w.drop (idx + 1)) ++ w2) (by rw [e2]; simp) (hF.KY hkV) hB' (by rw [hF.2.2.1]; exact htV) (fun x hx => ?_) (fun _ => ⟨h2le, by rw [List.length_append]; omega⟩)
          · exact h1 hm u' _ key.1 key.2
          · rcases List.mem_append.mp hx with q | q
            · exact List.mem_of_mem_take q
            · exact List.mem_of_mem_drop q
  · exact br_eq_i (fun _ => h2 hm u1 hI1) (fun h => absurd rfl h)
end
section
/-! plain: the class beside the reference: each of the law's steps -/
def INV (u : TS) (v : MS) : Prop := ∃ K Bs Ts, TI u K Bs ∧ MI v K Ts ∧ Ts.Perm Bs.flatten
def u0 : TS := (0, fun _ => 0, 0, fun _ => 0, fun _ => 0, fun _ => 0, fun _ => 0, 0, 0, 0, 0, fun _ => 0, fun _ => 0)
def v0 : MS := (0, fun _ => 0, fun _ => 0, fun _ => 0, 0)
theorem wfT_nil : wfT [] := ⟨Nat.zero_le _, fun i hi => absurd hi (Nat.not_lt_zero _)⟩
theorem INV_0 : INV u0 v0 := by
  have hT : TI u0 [] [] := by
    refine ⟨⟨rfl, fun i hi => absurd hi (Nat.not_lt_zero _), wfT_nil⟩, ⟨⟨[], rfl, rfl, List.nodup_nil, ?_, ?_, ?_⟩, ?_, ?_⟩, rfl, ?_, List.Pairwise.nil, ?_, ?_, ?_⟩
    · intro i s h
      simp at h
    · intro s _
      rfl
    · intro i s b h
      simp at h
    · simp
    · intro b hb
      cases hb
    · simp
    · intro t ht
      cases ht
    · intro b hb
      cases hb
    · intro h
      simp at h
  have hM : MI v0 [] [] := by
    refine ⟨rfl, fun i hi => absurd hi (Nat.not_lt_zero _), wfT_nil, rfl, ?_, ?_, ?_, List.nodup_nil⟩
    · simp
    · intro k t h
      simp at h
    · intro t ht
      cases ht
  exact ⟨[], [], [], hT, hM, List.Perm.refl _⟩
theorem P_type {u : TS} {v : MS} (hI : INV u v) {x : Int} (hx : rg x) : wm_T_type x u (fun r u2 => wm_M_type x v (fun r2 v2 => r2 = r ∧ INV u2 v2)) := by
  obtain ⟨K, Bs, Ts, hT, hM, hp⟩ := hI
  refine T_type hT hx (fun a1 a2 a3 u' hT' => ?_) (fun hc => ?_)
  · refine M_type hM hx (fun _ _ _ v' hM' => ⟨rfl, _, _, _, hT', hM', hp⟩) (fun hc => ?_)
    omega
  · refine M_type hM hx (fun a1 a2 a3 v' hM' => ?_) (fun _ => ⟨rfl, _, _, _, hT, hM, hp⟩)
    omega
theorem P_back {u : TS} {v : MS} (hI : INV u v) : wm_T_back u (fun r u2 => wm_M_back v (fun r2 v2 => r2 = r ∧ INV u2 v2)) := by
  obtain ⟨K, Bs, Ts, hT, hM, hp⟩ := hI
  refine T_back hT (fun hne u' hT' => ?_) (fun he => ?_)
  · exact M_back hM (fun _ v' hM' => ⟨rfl, _, _, _, hT', hM', hp⟩) (fun he => absurd he hne)
  · exact M_back hM (fun hne _ _ => absurd he hne) (fun _ => ⟨rfl, _, _, _, hT, hM, hp⟩)
theorem P_erase {u : TS} {v : MS} (hI : INV u v) : wm_T_erase u (fun u2 => wm_M_erase v (fun v2 => INV u2 v2)) := by
  obtain ⟨K, Bs, Ts, hT, hM, hp⟩ := hI
  exact T_erase hT (fun u' hT' => M_erase hM (fun v' hM' => ⟨_, _, _, hT', hM', hp⟩))
theorem P_letter {u : TS} {v : MS} (hI : INV u v) {x : Int} (hx : rg x) : wm_T_letter x u (fun r u2 => wm_M_letter x v (fun r2 v2 => r2 = r ∧ INV u2 v2)) := by
  obtain ⟨K, Bs, Ts, hT, hM, hp⟩ := hI
  refine T_letter hT hx (fun i e hi => ?_) (fun hc => ?_)
  · refine M_letter hM hx (fun j e2 hj => ?_) (fun hc => ?_)
    · have : j = i := by omega
      subst this
      exact ⟨rfl, _, _, _, hT, hM, hp⟩
    · omega
  · refine M_letter hM hx (fun j e2 hj => ?_) (fun hc => ⟨rfl, _, _, _, hT, hM, hp⟩)
    omega
theorem P_size {u : TS} {v : MS} (hI : INV u v) : wm_T_size u (fun r u2 => wm_M_size v (fun r2 v2 => r2 = r ∧ INV u2 v2)) := by
  obtain ⟨K, Bs, Ts, hT, hM, hp⟩ := hI
  refine T_size hT ?_
  refine M_size hM ⟨?_, _, _, _, hT, hM, hp⟩
  rw [hp.length_eq]
theorem P_before {u : TS} {v : MS} (hI : INV u v) : wm_T_before u (fun r u2 => wm_M_before v (fun r2 v2 => r2 = r ∧ INV u2 v2)) := by
  obtain ⟨K, Bs, Ts, hT, hM, hp⟩ := hI
  refine T_before hT (fun u' hT' => ?_)
  refine M_before hM ⟨?_, _, _, _, hT', hM, hp⟩
  rw [ct_perm hp]
theorem P_beginning {u : TS} {v : MS} (hI : INV u v) : wm_T_beginning u (fun r u2 => wm_M_beginning v (fun r2 v2 => r2 = r ∧ INV u2 v2)) := by
  obtain ⟨K, Bs, Ts, hT, hM, hp⟩ := hI
  refine T_beginning hT (fun u' hT' => ?_)
  refine M_beginning hM ⟨?_, _, _, _, hT', hM, hp⟩
  have e : tx_bg K Ts = tx_bg K Bs.flatten := hp.countP_eq _
  rw [e]
theorem P_common {u : TS} {v : MS} (hI : INV u v) : wm_T_common u (fun r u2 => wm_M_common v (fun r2 v2 => r2 = r ∧ INV u2 v2)) := by
  obtain ⟨K, Bs, Ts, hT, hM, hp⟩ := hI
  refine T_common hT (fun r hr u' hT' => ?_)
  exact M_common hM (fun r2 hr2 => ⟨isMx_uniq hp hr2 hr, _, _, _, hT', hM, hp⟩)
theorem P_held {u : TS} {v : MS} (hI : INV u v) : wm_T_held u (fun r u2 => wm_M_held v (fun r2 v2 => r2 = r ∧ INV u2 v2)) := by
  obtain ⟨K, Bs, Ts, hT, hM, hp⟩ := hI
  refine T_held hT (fun hm u' hT' => ?_) (fun hm u' hT' => ?_)
  · exact M_held hM (fun _ => ⟨rfl, _, _, _, hT', hM, hp⟩) (fun hn => absurd (hp.mem_iff.mpr hm) hn)
  · exact M_held hM (fun hn => absurd (hp.mem_iff.mp hn) hm) (fun _ => ⟨rfl, _, _, _, hT', hM, hp⟩)
theorem P_load {u : TS} {v : MS} (hI : INV u v) {x : Int} (hx : rg x) : wm_T_load x u (fun r u2 => wm_M_load x v (fun r2 v2 => r2 = r ∧ INV u2 v2)) := by
  obtain ⟨K, Bs, Ts, hT, hM, hp⟩ := hI
  have hso := hT.2.2.2.2.1
  have idx : ∀ t ∈ Ts, ∃ j, Bs.flatten[j]? = some t ∧ tx_ct false t Ts = j := fun t ht => by
    obtain ⟨j, hj⟩ := List.getElem?_of_mem (hp.mem_iff.mp ht)
    exact ⟨j, hj, by rw [ct_perm hp]; exact ct_idx hso hj⟩
  refine T_load hT hx (fun r t e hr u' hT' => ?_) (fun hc => ?_)
  · refine M_load hM hx (fun t2 ht2 hct v' hM' => ?_) (fun hno => ?_)
    · obtain ⟨j, hj, hj2⟩ := idx t2 ht2
      have ej : j = r := by omega
      rw [ej, hr] at hj
      cases hj
      exact ⟨rfl, _, _, _, hT', hM', hp⟩
    · exfalso
      refine hno t (hp.mem_iff.mpr (List.mem_of_getElem? hr)) ?_
      rw [ct_perm hp, ct_idx hso hr, e]
  · refine M_load hM hx (fun t2 ht2 hct v' hM' => ?_) (fun hno => ⟨rfl, _, _, _, hT, hM, hp⟩)
    obtain ⟨j, hj, hj2⟩ := idx t2 ht2
    have := getlt hj
    omega
theorem P_insert {u : TS} {v : MS} (hI : INV u v) : wm_T_insert u (fun r u2 => wm_M_insert v (fun r2 v2 => r2 = r ∧ INV u2 v2)) := by
  obtain ⟨K, Bs, Ts, hT, hM, hp⟩ := hI
  have hl := hp.length_eq
  refine T_insert hT (fun hne hm h40 u' Bs' hT' hpm => ?_) (fun hc u' hT' => ?_)
  · refine M_insert hM (fun _ _ _ v' hM' => ⟨by rw [ct_perm hp], _, _, _, hT', hM', ?_⟩) (fun hc => ?_)
    · exact (List.perm_append_singleton K Ts).trans ((hp.cons K).trans hpm.symm)
    · exfalso
      rcases hc with hc | hc | hc
      · exact hne hc
      · omega
      · exact hm (hp.mem_iff.mp hc)
  · refine M_insert hM (fun hne hm h40 v' hM' => ?_) (fun _ => ⟨rfl, _, _, _, hT', hM, hp⟩)
    exfalso
    rcases hc with hc | hc | hc
    · exact hne hc
    · omega
    · exact hm (hp.mem_iff.mpr hc)
theorem P_delete {u : TS} {v : MS} (hI : INV u v) : wm_T_delete u (fun r u2 => wm_M_delete v (fun r2 v2 => r2 = r ∧ INV u2 v2)) := by
  obtain ⟨K, Bs, Ts, hT, hM, hp⟩ := hI
  refine T_delete hT (fun hm u' Bs' hT' hpm => ?_) (fun hm u' hT' => ?_)
  · refine M_delete hM (fun _ v' Ts' hpm2 hM' => ⟨by rw [ct_perm hp], _, _, _, hT', hM', ?_⟩) (fun hn => absurd (hp.mem_iff.mpr hm) hn)
    exact List.Perm.cons_inv (hpm2.symm.trans (hp.trans hpm))
  · exact M_delete hM (fun hn => absurd (hp.mem_iff.mp hn) hm) (fun _ => ⟨rfl, _, _, _, hT', hM, hp⟩)
end
section
theorem mo_T : Cond.methodLink R_T 1 objectInit ∈ tw_tbl := tw_mem (List.mem_append_right _ (List.mem_of_getElem? (i := 8) (by decide +kernel))) rfl
theorem mo_inst : Cond.instanceMethod objectInit ∈ tw_tbl := tw_mem (List.mem_append_right _ (List.mem_of_getElem? (i := 9) (by decide +kernel))) rfl
theorem mo_code : Cond.code objectInit ⟨#[0xb1]⟩ 1 none ∈ tw_tbl := tw_mem (List.mem_append_right _ (List.mem_of_getElem? (i := 10) (by decide +kernel))) rfl
theorem mo_ai : Cond.arrayClass .int ∈ tw_tbl := tw_mem (List.mem_append_right _ (List.mem_of_getElem? (i := 51) (by decide +kernel))) rfl
theorem mo_az : Cond.arrayClass .boolean ∈ tw_tbl := tw_mem (List.mem_append_right _ (List.mem_of_getElem? (i := 52) (by decide +kernel))) rfl
theorem good_cons {y : MethodName} {b : ByteArray} {n : Nat} {ret : Option FieldType} (h : Cond.code y b n ret ∈ tw_tbl) : GoodIn tw_tbl (Cond.code y b n ret :: tw_tbl) := by
  have key : ∀ w ∈ Cond.code y b n ret :: tw_tbl, w ∈ tw_tbl := fun w hw => by
    rcases List.mem_cons.mp hw with rfl | hw
    · exact h
    · exact hw
  exact fun w hw => ⟨key w hw, good_of_word (good_tbl w (key w hw))⟩
def fs0_T : List Value := [.int 0, .null, .int 0, .null, .null, .null, .null, .int 0, .int 0, .int 0, .int 0, .null, .null]
def rmI_T : Room := { frames := 1, cells := 7, slots := 934, locals := 30 }
set_option maxHeartbeats 4000000 in
set_option maxRecDepth 100000 in
theorem c_T_init (l : Launch) (D : va_G) (a sz : Nat) : Met l y_T_init (Cond.code y_T_init b_T_init 1 none :: tw_tbl) rmI_T (cPre D [(a, .inr (0, [.int 0, .null, .int 0, .null, .null, .null, .null, .int 0, .int 0, .int 0, .int 0, .null, .null]))] [] sz [.ref a]) (va_Qv (fun z : (Nat → Nat) × (Nat → ClassId) => z.1 0 = a) (fun z t => va_P D classes (T_ws z.1 z.2 u0) t.heap ∧ va_K D classes (T_tys z.2) t ∧ va_D (va_A [(a, .inr (0, [.int 0, .null, .int 0, .null, .null, .null, .null, .int 0, .int 0, .int 0, .int 0, .null, .null]))] sz) (T_ws z.1 z.2 u0)) (va_A [(a, .inr (0, [.int 0, .null, .int 0, .null, .null, .null, .null, .int 0, .int 0, .int 0, .int 0, .null, .null]))] sz)) 7 934 (va_A [(a, .inr (0, [.int 0, .null, .int 0, .null, .null, .null, .null, .int 0, .int 0, .int 0, .int 0, .null, .null]))] sz) := by
  refine Met.ofW (cc := b_T_init) (maxL := 1) (ret := none) (by decide) rfl ?_
  intro p e s m args below meth c s₁ B hml hv
  obtain ⟨rfl, hsz, hP, hK, hD0⟩ := hv
  have hx := B.exec
  have hb := B.bytes
  have hr := B.returns
  have hts0 := atoms_spec (ws := Cond.code y_T_init b_T_init 1 none :: tw_tbl) B.pre
  have hts : ∀ w ∈ tw_tbl, w.before [Value.ref a].toArray s = true := fun w hw => hts0 w (List.mem_cons_of_mem _ hw)
  have hown : s.vm.findClass R_T = some m.cls := findClass_of_methodNamed B.named
  have hlocks := B.notSynchronized
  have hin : meth.name = "<init>" := (name_of_methodNamed B.named B.method).1
  subst hsz
  have hD := hD0.self (sz := s.heap.size)
  generalize hAe : va_A [(a, .inr (0, [.int 0, .null, .int 0, .null, .null, .null, .null, .int 0, .int 0, .int 0, .int 0, .null, .null]))] s.heap.size = A at hD ⊢
  have hA : ∀ q : Nat, s.heap.size ≤ q → A q := fun q h => by rw [← hAe]; exact Or.inr h
  have hS : va_S A s.heap s.heap [] := va_S.rf
  have hP : va_P D classes [(a, .inr (0, [.int 0, .null, .int 0, .null, .null, .null, .null, .int 0, .int 0, .int 0, .int 0, .null, .null]))] s.heap := hP
  have hl := lv_entry ([.ref a]) (n := 1) (Nat.le_of_ble_eq_true rfl)
  rw [lg_entry_eq]
  generalize (lg_sl ([.ref a]) ++ List.replicate (1 - (lg_sl ([.ref a])).length) Slot.unset).toArray = ls at hl ⊢
  have hl : lv_has ls 1 [(0, .ref a)] := hl
  refine lv_aload_n hx hb d_T_init_0 rfl (lv_at hl 0 rfl) ?_
  refine W.objInit hx hb hown (hts _ mo_T) (hts _ mo_inst) (hts _ mo_code) rfl (by rw [hml]; exact hl.1) rfl d_T_init_1 (Nat.le_of_ble_eq_true rfl) (Nat.le_of_ble_eq_true rfl) ?_
  refine W.eq (g2 := F0 m 4 ls []) rfl ?_
  refine lv_aload_n hx hb d_T_init_4 rfl (lv_at hl 0 rfl) ?_
  refine lv_bipush (v := iI 6) hx hb d_T_init_5 (by decide) ?_
  refine va_newa (atype := .int) (D := D) (cl := classes) (a0 := (6, .inl (fun _ => iI 0))) (N' := 6) (ty := .int) hx hb (hts _ mo_ai) rfl hK hP hD hS hA (fun _ => rfl) (by decide) (by decide) (by decide) (Nat.le_of_ble_eq_true rfl) (Nat.le_of_ble_eq_true rfl) d_T_init_7 (fun q1 c1 H hK hP hD hS => ?_)
  have hK : va_K D classes [(c1, .int)] s := hK
  have hP : va_P D classes [(a, .inr (0, [.int 0, .null, .int 0, .null, .null, .null, .null, .int 0, .int 0, .int 0, .int 0, .null, .null])), (q1, .inl (c1, 6, .inl (fun _ => iI 0)))] H := hP
  have hD : va_D A [(a, .inr (0, [.int 0, .null, .int 0, .null, .null, .null, .null, .int 0, .int 0, .int 0, .int 0, .null, .null])), (q1, .inl (c1, 6, .inl (fun _ => iI 0)))] := hD
  refine W.widen (k := 1) (n := 6) (Nat.le_of_ble_eq_true rfl) (Nat.le_of_ble_eq_true rfl) ?_
  refine va_putF (D := D) (ci := 0) (v := .ref q1) (ty := .array .int) (C := R_T) (T := F_T) (N := 13) hx hb hts i_T fy_T fy_T_ok n_T hown hK hP hD hS 0 rfl rfl 1 (by decide) (hts (.fieldLink R_T 7 "TermIndex" "key" "[I") mf_T_key) (fun _ h9 => h9) rfl hin rfl (by decide +kernel) rfl rfl (Nat.le_of_ble_eq_true rfl) d_T_init_9 (fun H locs hP hD hS => ?_)
  have hP : va_P D classes [(a, .inr (0, [.int 0, .ref q1, .int 0, .null, .null, .null, .null, .int 0, .int 0, .int 0, .int 0, .null, .null])), (q1, .inl (c1, 6, .inl (fun _ => iI 0)))] H := hP
  have hD : va_D A [(a, .inr (0, [.int 0, .ref q1, .int 0, .null, .null, .null, .null, .int 0, .int 0, .int 0, .int 0, .null, .null])), (q1, .inl (c1, 6, .inl (fun _ => iI 0)))] := hD
  refine lv_aload_n hx hb d_T_init_12 rfl (lv_at hl 0 rfl) ?_
  refine lv_bipush (v := iI 16) hx hb d_T_init_13 (by decide) ?_
  refine va_newa (atype := .int) (D := D) (cl := classes) (a0 := (16, .inl (fun _ => iI 0))) (N' := 16) (ty := .int) hx hb (hts _ mo_ai) rfl hK hP hD hS hA (fun _ => rfl) (by decide) (by decide) (by decide) (Nat.le_of_ble_eq_true rfl) (Nat.le_of_ble_eq_true rfl) d_T_init_15 (fun q2 c2 H hK hP hD hS => ?_)
  have hK : va_K D classes [(c1, .int), (c2, .int)] s := hK
  have hP : va_P D classes [(a, .inr (0, [.int 0, .ref q1, .int 0, .null, .null, .null, .null, .int 0, .int 0, .int 0, .int 0, .null, .null])), (q1, .inl (c1, 6, .inl (fun _ => iI 0))), (q2, .inl (c2, 16, .inl (fun _ => iI 0)))] H := hP
  have hD : va_D A [(a, .inr (0, [.int 0, .ref q1, .int 0, .null, .null, .null, .null, .int 0, .int 0, .int 0, .int 0, .null, .null])), (q1, .inl (c1, 6, .inl (fun _ => iI 0))), (q2, .inl (c2, 16, .inl (fun _ => iI 0)))] := hD
  refine W.widen (k := 2) (n := 22) (Nat.le_of_ble_eq_true rfl) (Nat.le_of_ble_eq_true rfl) ?_
  refine va_putF (D := D) (ci := 0) (v := .ref q2) (ty := .array .int) (C := R_T) (T := F_T) (N := 13) hx hb hts i_T fy_T fy_T_ok n_T hown hK hP hD hS 0 rfl rfl 3 (by decide) (hts (.fieldLink R_T 13 "TermIndex" "slotOf" "[I") mf_T_slot) (fun _ h9 => h9) rfl hin rfl (by decide +kernel) rfl rfl (Nat.le_of_ble_eq_true rfl) d_T_init_17 (fun H locs hP hD hS => ?_)
  have hP : va_P D classes [(a, .inr (0, [.int 0, .ref q1, .int 0, .ref q2, .null, .null, .null, .int 0, .int 0, .int 0, .int 0, .null, .null])), (q1, .inl (c1, 6, .inl (fun _ => iI 0))), (q2, .inl (c2, 16, .inl (fun _ => iI 0)))] H := hP
  have hD : va_D A [(a, .inr (0, [.int 0, .ref q1, .int 0, .ref q2, .null, .null, .null, .int 0, .int 0, .int 0, .int 0, .null, .null])), (q1, .inl (c1, 6, .inl (fun _ => iI 0))), (q2, .inl (c2, 16, .inl (fun _ => iI 0)))] := hD
  refine lv_aload_n hx hb d_T_init_20 rfl (lv_at hl 0 rfl) ?_
  refine lv_bipush (v := iI 16) hx hb d_T_init_21 (by decide) ?_
  refine va_newa (atype := .boolean) (D := D) (cl := classes) (a0 := (16, .inl (fun _ => iI 0))) (N' := 16) (ty := .boolean) hx hb (hts _ mo_az) rfl hK hP hD hS hA (fun _ => rfl) (by decide) (by decide) (by decide) (Nat.le_of_ble_eq_true rfl) (Nat.le_of_ble_eq_true rfl) d_T_init_23 (fun q3 c3 H hK hP hD hS => ?_)
  have hK : va_K D classes [(c1, .int), (c2, .int), (c3, .boolean)] s := hK
  have hP : va_P D classes [(a, .inr (0, [.int 0, .ref q1, .int 0, .ref q2, .null, .null, .null, .int 0, .int 0, .int 0, .int 0, .null, .null])), (q1, .inl (c1, 6, .inl (fun _ => iI 0))), (q2, .inl (c2, 16, .inl (fun _ => iI 0))), (q3, .inl (c3, 16, .inl (fun _ => iI 0)))] H := hP
  have hD : va_D A [(a, .inr (0, [.int 0, .ref q1, .int 0, .ref q2, .null, .null, .null, .int 0, .int 0, .int 0, .int 0, .null, .null])), (q1, .inl (c1, 6, .inl (fun _ => iI 0))), (q2, .inl (c2, 16, .inl (fun _ => iI 0))), (q3, .inl (c3, 16, .inl (fun _ => iI 0)))] := hD
  refine W.widen (k := 3) (n := 38) (Nat.le_of_ble_eq_true rfl) (Nat.le_of_ble_eq_true rfl) ?_
  refine va_putF (D := D) (ci := 0) (v := .ref q3) (ty := .array .boolean) (C := R_T) (T := F_T) (N := 13) hx hb hts i_T fy_T fy_T_ok n_T hown hK hP hD hS 0 rfl rfl 4 (by decide) (hts (.fieldLink R_T 16 "TermIndex" "taken" "[Z") mf_T_tak) (fun _ h9 => h9) rfl hin rfl (by decide +kernel) rfl rfl (Nat.le_of_ble_eq_true rfl) d_T_init_25 (fun H locs hP hD hS => ?_)
  have hP : va_P D classes [(a, .inr (0, [.int 0, .ref q1, .int 0, .ref q2, .ref q3, .null, .null, .int 0, .int 0, .int 0, .int 0, .null, .null])), (q1, .inl (c1, 6, .inl (fun _ => iI 0))), (q2, .inl (c2, 16, .inl (fun _ => iI 0))), (q3, .inl (c3, 16, .inl (fun _ => iI 0)))] H := hP
  have hD : va_D A [(a, .inr (0, [.int 0, .ref q1, .int 0, .ref q2, .ref q3, .null, .null, .int 0, .int 0, .int 0, .int 0, .null, .null])), (q1, .inl (c1, 6, .inl (fun _ => iI 0))), (q2, .inl (c2, 16, .inl (fun _ => iI 0))), (q3, .inl (c3, 16, .inl (fun _ => iI 0)))] := hD
  refine lv_aload_n hx hb d_T_init_28 rfl (lv_at hl 0 rfl) ?_
  refine lv_bipush (v := iI 16) hx hb d_T_init_29 (by decide) ?_
  refine va_newa (atype := .int) (D := D) (cl := classes) (a0 := (16, .inl (fun _ => iI 0))) (N' := 16) (ty := .int) hx hb (hts _ mo_ai) rfl hK hP hD hS hA (fun _ => rfl) (by decide) (by decide) (by decide) (Nat.le_of_ble_eq_true rfl) (Nat.le_of_ble_eq_true rfl) d_T_init_31 (fun q4 c4 H hK hP hD hS => ?_)
  have hK : va_K D classes [(c1, .int), (c2, .int), (c3, .boolean), (c4, .int)] s := hK
  have hP : va_P D classes [(a, .inr (0, [.int 0, .ref q1, .int 0, .ref q2, .ref q3, .null, .null, .int 0, .int 0, .int 0, .int 0, .null, .null])), (q1, .inl (c1, 6, .inl (fun _ => iI 0))), (q2, .inl (c2, 16, .inl (fun _ => iI 0))), (q3, .inl (c3, 16, .inl (fun _ => iI 0))), (q4, .inl (c4, 16, .inl (fun _ => iI 0)))] H := hP
  have hD : va_D A [(a, .inr (0, [.int 0, .ref q1, .int 0, .ref q2, .ref q3, .null, .null, .int 0, .int 0, .int 0, .int 0, .null, .null])), (q1, .inl (c1, 6, .inl (fun _ => iI 0))), (q2, .inl (c2, 16, .inl (fun _ => iI 0))), (q3, .inl (c3, 16, .inl (fun _ => iI 0))), (q4, .inl (c4, 16, .inl (fun _ => iI 0)))] := hD
  refine W.widen (k := 4) (n := 54) (Nat.le_of_ble_eq_true rfl) (Nat.le_of_ble_eq_true rfl) ?_
  refine va_putF (D := D) (ci := 0) (v := .ref q4) (ty := .array .int) (C := R_T) (T := F_T) (N := 13) hx hb hts i_T fy_T fy_T_ok n_T hown hK hP hD hS 0 rfl rfl 5 (by decide) (hts (.fieldLink R_T 20 "TermIndex" "sizeOf" "[I") mf_T_siz) (fun _ h9 => h9) rfl hin rfl (by decide +kernel) rfl rfl (Nat.le_of_ble_eq_true rfl) d_T_init_33 (fun H locs hP hD hS => ?_)
  have hP : va_P D classes [(a, .inr (0, [.int 0, .ref q1, .int 0, .ref q2, .ref q3, .ref q4, .null, .int 0, .int 0, .int 0, .int 0, .null, .null])), (q1, .inl (c1, 6, .inl (fun _ => iI 0))), (q2, .inl (c2, 16, .inl (fun _ => iI 0))), (q3, .inl (c3, 16, .inl (fun _ => iI 0))), (q4, .inl (c4, 16, .inl (fun _ => iI 0)))] H := hP
  have hD : va_D A [(a, .inr (0, [.int 0, .ref q1, .int 0, .ref q2, .ref q3, .ref q4, .null, .int 0, .int 0, .int 0, .int 0, .null, .null])), (q1, .inl (c1, 6, .inl (fun _ => iI 0))), (q2, .inl (c2, 16, .inl (fun _ => iI 0))), (q3, .inl (c3, 16, .inl (fun _ => iI 0))), (q4, .inl (c4, 16, .inl (fun _ => iI 0)))] := hD
  refine lv_aload_n hx hb d_T_init_36 rfl (lv_at hl 0 rfl) ?_
  refine lv_sipush (v := iI 768) hx hb d_T_init_37 (by decide) ?_
  refine va_newa (atype := .int) (D := D) (cl := classes) (a0 := (768, .inl (fun _ => iI 0))) (N' := 768) (ty := .int) hx hb (hts _ mo_ai) rfl hK hP hD hS hA (fun _ => rfl) (by decide) (by decide) (by decide) (Nat.le_of_ble_eq_true rfl) (Nat.le_of_ble_eq_true rfl) d_T_init_40 (fun q5 c5 H hK hP hD hS => ?_)
  have hK : va_K D classes [(c1, .int), (c2, .int), (c3, .boolean), (c4, .int), (c5, .int)] s := hK
  have hP : va_P D classes [(a, .inr (0, [.int 0, .ref q1, .int 0, .ref q2, .ref q3, .ref q4, .null, .int 0, .int 0, .int 0, .int 0, .null, .null])), (q1, .inl (c1, 6, .inl (fun _ => iI 0))), (q2, .inl (c2, 16, .inl (fun _ => iI 0))), (q3, .inl (c3, 16, .inl (fun _ => iI 0))), (q4, .inl (c4, 16, .inl (fun _ => iI 0))), (q5, .inl (c5, 768, .inl (fun _ => iI 0)))] H := hP
  have hD : va_D A [(a, .inr (0, [.int 0, .ref q1, .int 0, .ref q2, .ref q3, .ref q4, .null, .int 0, .int 0, .int 0, .int 0, .null, .null])), (q1, .inl (c1, 6, .inl (fun _ => iI 0))), (q2, .inl (c2, 16, .inl (fun _ => iI 0))), (q3, .inl (c3, 16, .inl (fun _ => iI 0))), (q4, .inl (c4, 16, .inl (fun _ => iI 0))), (q5, .inl (c5, 768, .inl (fun _ => iI 0)))] := hD
  refine W.widen (k := 5) (n := 822) (Nat.le_of_ble_eq_true rfl) (Nat.le_of_ble_eq_true rfl) ?_
  refine va_putF (D := D) (ci := 0) (v := .ref q5) (ty := .array .int) (C := R_T) (T := F_T) (N := 13) hx hb hts i_T fy_T fy_T_ok n_T hown hK hP hD hS 0 rfl rfl 6 (by decide) (hts (.fieldLink R_T 23 "TermIndex" "data" "[I") mf_T_dat) (fun _ h9 => h9) rfl hin rfl (by decide +kernel) rfl rfl (Nat.le_of_ble_eq_true rfl) d_T_init_42 (fun H locs hP hD hS => ?_)
  have hP : va_P D classes [(a, .inr (0, [.int 0, .ref q1, .int 0, .ref q2, .ref q3, .ref q4, .ref q5, .int 0, .int 0, .int 0, .int 0, .null, .null])), (q1, .inl (c1, 6, .inl (fun _ => iI 0))), (q2, .inl (c2, 16, .inl (fun _ => iI 0))), (q3, .inl (c3, 16, .inl (fun _ => iI 0))), (q4, .inl (c4, 16, .inl (fun _ => iI 0))), (q5, .inl (c5, 768, .inl (fun _ => iI 0)))] H := hP
  have hD : va_D A [(a, .inr (0, [.int 0, .ref q1, .int 0, .ref q2, .ref q3, .ref q4, .ref q5, .int 0, .int 0, .int 0, .int 0, .null, .null])), (q1, .inl (c1, 6, .inl (fun _ => iI 0))), (q2, .inl (c2, 16, .inl (fun _ => iI 0))), (q3, .inl (c3, 16, .inl (fun _ => iI 0))), (q4, .inl (c4, 16, .inl (fun _ => iI 0))), (q5, .inl (c5, 768, .inl (fun _ => iI 0)))] := hD
  refine lv_aload_n hx hb d_T_init_45 rfl (lv_at hl 0 rfl) ?_
  refine lv_bipush (v := iI 96) hx hb d_T_init_46 (by decide) ?_
  refine va_newa (atype := .int) (D := D) (cl := classes) (a0 := (96, .inl (fun _ => iI 0))) (N' := 96) (ty := .int) hx hb (hts _ mo_ai) rfl hK hP hD hS hA (fun _ => rfl) (by decide) (by decide) (by decide) (Nat.le_of_ble_eq_true rfl) (Nat.le_of_ble_eq_true rfl) d_T_init_48 (fun q6 c6 H hK hP hD hS => ?_)
  have hK : va_K D classes [(c1, .int), (c2, .int), (c3, .boolean), (c4, .int), (c5, .int), (c6, .int)] s := hK
  have hP : va_P D classes [(a, .inr (0, [.int 0, .ref q1, .int 0, .ref q2, .ref q3, .ref q4, .ref q5, .int 0, .int 0, .int 0, .int 0, .null, .null])), (q1, .inl (c1, 6, .inl (fun _ => iI 0))), (q2, .inl (c2, 16, .inl (fun _ => iI 0))), (q3, .inl (c3, 16, .inl (fun _ => iI 0))), (q4, .inl (c4, 16, .inl (fun _ => iI 0))), (q5, .inl (c5, 768, .inl (fun _ => iI 0))), (q6, .inl (c6, 96, .inl (fun _ => iI 0)))] H := hP
  have hD : va_D A [(a, .inr (0, [.int 0, .ref q1, .int 0, .ref q2, .ref q3, .ref q4, .ref q5, .int 0, .int 0, .int 0, .int 0, .null, .null])), (q1, .inl (c1, 6, .inl (fun _ => iI 0))), (q2, .inl (c2, 16, .inl (fun _ => iI 0))), (q3, .inl (c3, 16, .inl (fun _ => iI 0))), (q4, .inl (c4, 16, .inl (fun _ => iI 0))), (q5, .inl (c5, 768, .inl (fun _ => iI 0))), (q6, .inl (c6, 96, .inl (fun _ => iI 0)))] := hD
  refine W.widen (k := 6) (n := 918) (Nat.le_of_ble_eq_true rfl) (Nat.le_of_ble_eq_true rfl) ?_
  refine va_putF (D := D) (ci := 0) (v := .ref q6) (ty := .array .int) (C := R_T) (T := F_T) (N := 13) hx hb hts i_T fy_T fy_T_ok n_T hown hK hP hD hS 0 rfl rfl 11 (by decide) (hts (.fieldLink R_T 26 "TermIndex" "listLetters" "[I") mf_T_ll) (fun _ h9 => h9) rfl hin rfl (by decide +kernel) rfl rfl (Nat.le_of_ble_eq_true rfl) d_T_init_50 (fun H locs hP hD hS => ?_)
  have hP : va_P D classes [(a, .inr (0, [.int 0, .ref q1, .int 0, .ref q2, .ref q3, .ref q4, .ref q5, .int 0, .int 0, .int 0, .int 0, .ref q6, .null])), (q1, .inl (c1, 6, .inl (fun _ => iI 0))), (q2, .inl (c2, 16, .inl (fun _ => iI 0))), (q3, .inl (c3, 16, .inl (fun _ => iI 0))), (q4, .inl (c4, 16, .inl (fun _ => iI 0))), (q5, .inl (c5, 768, .inl (fun _ => iI 0))), (q6, .inl (c6, 96, .inl (fun _ => iI 0)))] H := hP
  have hD : va_D A [(a, .inr (0, [.int 0, .ref q1, .int 0, .ref q2, .ref q3, .ref q4, .ref q5, .int 0, .int 0, .int 0, .int 0, .ref q6, .null])), (q1, .inl (c1, 6, .inl (fun _ => iI 0))), (q2, .inl (c2, 16, .inl (fun _ => iI 0))), (q3, .inl (c3, 16, .inl (fun _ => iI 0))), (q4, .inl (c4, 16, .inl (fun _ => iI 0))), (q5, .inl (c5, 768, .inl (fun _ => iI 0))), (q6, .inl (c6, 96, .inl (fun _ => iI 0)))] := hD
  refine lv_aload_n hx hb d_T_init_53 rfl (lv_at hl 0 rfl) ?_
  refine lv_bipush (v := iI 16) hx hb d_T_init_54 (by decide) ?_
  refine va_newa (atype := .int) (D := D) (cl := classes) (a0 := (16, .inl (fun _ => iI 0))) (N' := 16) (ty := .int) hx hb (hts _ mo_ai) rfl hK hP hD hS hA (fun _ => rfl) (by decide) (by decide) (by decide) (Nat.le_of_ble_eq_true rfl) (Nat.le_of_ble_eq_true rfl) d_T_init_56 (fun q7 c7 H hK hP hD hS => ?_)
  have hK : va_K D classes [(c1, .int), (c2, .int), (c3, .boolean), (c4, .int), (c5, .int), (c6, .int), (c7, .int)] s := hK
  have hP : va_P D classes [(a, .inr (0, [.int 0, .ref q1, .int 0, .ref q2, .ref q3, .ref q4, .ref q5, .int 0, .int 0, .int 0, .int 0, .ref q6, .null])), (q1, .inl (c1, 6, .inl (fun _ => iI 0))), (q2, .inl (c2, 16, .inl (fun _ => iI 0))), (q3, .inl (c3, 16, .inl (fun _ => iI 0))), (q4, .inl (c4, 16, .inl (fun _ => iI 0))), (q5, .inl (c5, 768, .inl (fun _ => iI 0))), (q6, .inl (c6, 96, .inl (fun _ => iI 0))), (q7, .inl (c7, 16, .inl (fun _ => iI 0)))] H := hP
  have hD : va_D A [(a, .inr (0, [.int 0, .ref q1, .int 0, .ref q2, .ref q3, .ref q4, .ref q5, .int 0, .int 0, .int 0, .int 0, .ref q6, .null])), (q1, .inl (c1, 6, .inl (fun _ => iI 0))), (q2, .inl (c2, 16, .inl (fun _ => iI 0))), (q3, .inl (c3, 16, .inl (fun _ => iI 0))), (q4, .inl (c4, 16, .inl (fun _ => iI 0))), (q5, .inl (c5, 768, .inl (fun _ => iI 0))), (q6, .inl (c6, 96, .inl (fun _ => iI 0))), (q7, .inl (c7, 16, .inl (fun _ => iI 0)))] := hD
  refine W.widen (k := 7) (n := 934) (Nat.le_of_ble_eq_true rfl) (Nat.le_of_ble_eq_true rfl) ?_
  refine va_putF (D := D) (ci := 0) (v := .ref q7) (ty := .array .int) (C := R_T) (T := F_T) (N := 13) hx hb hts i_T fy_T fy_T_ok n_T hown hK hP hD hS 0 rfl rfl 12 (by decide) (hts (.fieldLink R_T 29 "TermIndex" "listLength" "[I") mf_T_len) (fun _ h9 => h9) rfl hin rfl (by decide +kernel) rfl rfl (Nat.le_of_ble_eq_true rfl) d_T_init_58 (fun H locs hP hD hS => ?_)
  have hP : va_P D classes [(a, .inr (0, [.int 0, .ref q1, .int 0, .ref q2, .ref q3, .ref q4, .ref q5, .int 0, .int 0, .int 0, .int 0, .ref q6, .ref q7])), (q1, .inl (c1, 6, .inl (fun _ => iI 0))), (q2, .inl (c2, 16, .inl (fun _ => iI 0))), (q3, .inl (c3, 16, .inl (fun _ => iI 0))), (q4, .inl (c4, 16, .inl (fun _ => iI 0))), (q5, .inl (c5, 768, .inl (fun _ => iI 0))), (q6, .inl (c6, 96, .inl (fun _ => iI 0))), (q7, .inl (c7, 16, .inl (fun _ => iI 0)))] H := hP
  have hD : va_D A [(a, .inr (0, [.int 0, .ref q1, .int 0, .ref q2, .ref q3, .ref q4, .ref q5, .int 0, .int 0, .int 0, .int 0, .ref q6, .ref q7])), (q1, .inl (c1, 6, .inl (fun _ => iI 0))), (q2, .inl (c2, 16, .inl (fun _ => iI 0))), (q3, .inl (c3, 16, .inl (fun _ => iI 0))), (q4, .inl (c4, 16, .inl (fun _ => iI 0))), (q5, .inl (c5, 768, .inl (fun _ => iI 0))), (q6, .inl (c6, 96, .inl (fun _ => iI 0))), (q7, .inl (c7, 16, .inl (fun _ => iI 0)))] := hD
  obtain ⟨gA, hgA⟩ : ∃ g : Nat → Nat, g = (fun j => match j with | 0 => a | 1 => q1 | 2 => q2 | 3 => q3 | 4 => q4 | 5 => q5 | 6 => q6 | _ => q7) := ⟨_, rfl⟩
  obtain ⟨gC, hgC⟩ : ∃ g : Nat → ClassId, g = (fun j => match j with | 1 => c1 | 2 => c2 | 3 => c3 | 4 => c4 | 5 => c5 | 6 => c6 | _ => c7) := ⟨_, rfl⟩
  have hP9 : va_P D classes (T_ws gA gC u0) H := by rw [hgA, hgC]; exact hP
  have hD9 : va_D A (T_ws gA gC u0) := by rw [hgA, hgC]; exact hD
  have hK9 : va_K D classes (T_tys gC) s := by rw [hgC]; exact hK
  exact W.vret hx hb hr (fun t ht hW => ⟨⟨(gA, gC), rfl, congrFun hgA 0, by rw [ht]; exact hP9, va_K.moved hW.alike hK9, hD9⟩, hS.F ht⟩) hS.2.2 d_T_init_61
theorem mo_M : Cond.methodLink R_M 1 objectInit ∈ tw_tbl := tw_mem (List.mem_append_right _ (List.mem_of_getElem? (i := 179) (by decide +kernel))) rfl
def fs0_M : List Value := [.int 0, .null, .null, .null, .int 0]
def rmI_M : Room := { frames := 1, cells := 3, slots := 286, locals := 30 }
set_option maxHeartbeats 4000000 in
set_option maxRecDepth 100000 in
theorem c_M_init (l : Launch) (D : va_G) (a sz : Nat) : Met l y_M_init (Cond.code y_M_init b_M_init 1 none :: tw_tbl) rmI_M (cPre D [(a, .inr (1, [.int 0, .null, .null, .null, .int 0]))] [] sz [.ref a]) (va_Qv (fun z : (Nat → Nat) × (Nat → ClassId) => z.1 0 = a) (fun z t => va_P D classes (M_ws z.1 z.2 v0) t.heap ∧ va_K D classes (M_tys z.2) t ∧ va_D (va_A [(a, .inr (1, [.int 0, .null, .null, .null, .int 0]))] sz) (M_ws z.1 z.2 v0)) (va_A [(a, .inr (1, [.int 0, .null, .null, .null, .int 0]))] sz)) 3 286 (va_A [(a, .inr (1, [.int 0, .null, .null, .null, .int 0]))] sz) := by
  refine Met.ofW (cc := b_M_init) (maxL := 1) (ret := none) (by decide) rfl ?_
  intro p e s m args below meth c s₁ B hml hv
  obtain ⟨rfl, hsz, hP, hK, hD0⟩ := hv
  have hx := B.exec
  have hb := B.bytes
  have hr := B.returns
  have hts0 := atoms_spec (ws := Cond.code y_M_init b_M_init 1 none :: tw_tbl) B.pre
  have hts : ∀ w ∈ tw_tbl, w.before [Value.ref a].toArray s = true := fun w hw => hts0 w (List.mem_cons_of_mem _ hw)
  have hown : s.vm.findClass R_M = some m.cls := findClass_of_methodNamed B.named
  have hlocks := B.notSynchronized
  have hin : meth.name = "<init>" := (name_of_methodNamed B.named B.method).1
  subst hsz
  have hD := hD0.self (sz := s.heap.size)
  generalize hAe : va_A [(a, .inr (1, [.int 0, .null, .null, .null, .int 0]))] s.heap.size = A at hD ⊢
  have hA : ∀ q : Nat, s.heap.size ≤ q → A q := fun q h => by rw [← hAe]; exact Or.inr h
  have hS : va_S A s.heap s.heap [] := va_S.rf
  have hP : va_P D classes [(a, .inr (1, [.int 0, .null, .null, .null, .int 0]))] s.heap := hP
  have hl := lv_entry ([.ref a]) (n := 1) (Nat.le_of_ble_eq_true rfl)
  rw [lg_entry_eq]
  generalize (lg_sl ([.ref a]) ++ List.replicate (1 - (lg_sl ([.ref a])).length) Slot.unset).toArray = ls at hl ⊢
  have hl : lv_has ls 1 [(0, .ref a)] := hl
  refine lv_aload_n hx hb d_M_init_0 rfl (lv_at hl 0 rfl) ?_
  refine W.objInit hx hb hown (hts _ mo_M) (hts _ mo_inst) (hts _ mo_code) rfl (by rw [hml]; exact hl.1) rfl d_M_init_1 (Nat.le_of_ble_eq_true rfl) (Nat.le_of_ble_eq_true rfl) ?_
  refine W.eq (g2 := F0 m 4 ls []) rfl ?_
  refine lv_aload_n hx hb d_M_init_4 rfl (lv_at hl 0 rfl) ?_
  refine lv_sipush (v := iI 240) hx hb d_M_init_5 (by decide) ?_
  refine va_newa (atype := .int) (D := D) (cl := classes) (a0 := (240, .inl (fun _ => iI 0))) (N' := 240) (ty := .int) hx hb (hts _ mo_ai) rfl hK hP hD hS hA (fun _ => rfl) (by decide) (by decide) (by decide) (Nat.le_of_ble_eq_true rfl) (Nat.le_of_ble_eq_true rfl) d_M_init_8 (fun q1 c1 H hK hP hD hS => ?_)
  have hK : va_K D classes [(c1, .int)] s := hK
  have hP : va_P D classes [(a, .inr (1, [.int 0, .null, .null, .null, .int 0])), (q1, .inl (c1, 240, .inl (fun _ => iI 0)))] H := hP
  have hD : va_D A [(a, .inr (1, [.int 0, .null, .null, .null, .int 0])), (q1, .inl (c1, 240, .inl (fun _ => iI 0)))] := hD
  refine W.widen (k := 1) (n := 240) (Nat.le_of_ble_eq_true rfl) (Nat.le_of_ble_eq_true rfl) ?_
  refine va_putF (D := D) (ci := 1) (v := .ref q1) (ty := .array .int) (C := R_M) (T := F_M) (N := 5) hx hb hts i_M fy_M fy_M_ok n_M hown hK hP hD hS 0 rfl rfl 1 (by decide) (hts (.fieldLink R_M 7 "TermIndexModel" "letters" "[I") mf_M_let) (fun _ h9 => h9) rfl hin rfl (by decide +kernel) rfl rfl (Nat.le_of_ble_eq_true rfl) d_M_init_10 (fun H locs hP hD hS => ?_)
  have hP : va_P D classes [(a, .inr (1, [.int 0, .ref q1, .null, .null, .int 0])), (q1, .inl (c1, 240, .inl (fun _ => iI 0)))] H := hP
  have hD : va_D A [(a, .inr (1, [.int 0, .ref q1, .null, .null, .int 0])), (q1, .inl (c1, 240, .inl (fun _ => iI 0)))] := hD
  refine lv_aload_n hx hb d_M_init_13 rfl (lv_at hl 0 rfl) ?_
  refine lv_bipush (v := iI 40) hx hb d_M_init_14 (by decide) ?_
  refine va_newa (atype := .int) (D := D) (cl := classes) (a0 := (40, .inl (fun _ => iI 0))) (N' := 40) (ty := .int) hx hb (hts _ mo_ai) rfl hK hP hD hS hA (fun _ => rfl) (by decide) (by decide) (by decide) (Nat.le_of_ble_eq_true rfl) (Nat.le_of_ble_eq_true rfl) d_M_init_16 (fun q2 c2 H hK hP hD hS => ?_)
  have hK : va_K D classes [(c1, .int), (c2, .int)] s := hK
  have hP : va_P D classes [(a, .inr (1, [.int 0, .ref q1, .null, .null, .int 0])), (q1, .inl (c1, 240, .inl (fun _ => iI 0))), (q2, .inl (c2, 40, .inl (fun _ => iI 0)))] H := hP
  have hD : va_D A [(a, .inr (1, [.int 0, .ref q1, .null, .null, .int 0])), (q1, .inl (c1, 240, .inl (fun _ => iI 0))), (q2, .inl (c2, 40, .inl (fun _ => iI 0)))] := hD
  refine W.widen (k := 2) (n := 280) (Nat.le_of_ble_eq_true rfl) (Nat.le_of_ble_eq_true rfl) ?_
  refine va_putF (D := D) (ci := 1) (v := .ref q2) (ty := .array .int) (C := R_M) (T := F_M) (N := 5) hx hb hts i_M fy_M fy_M_ok n_M hown hK hP hD hS 0 rfl rfl 2 (by decide) (hts (.fieldLink R_M 13 "TermIndexModel" "length" "[I") mf_M_len) (fun _ h9 => h9) rfl hin rfl (by decide +kernel) rfl rfl (Nat.le_of_ble_eq_true rfl) d_M_init_18 (fun H locs hP hD hS => ?_)
  have hP : va_P D classes [(a, .inr (1, [.int 0, .ref q1, .ref q2, .null, .int 0])), (q1, .inl (c1, 240, .inl (fun _ => iI 0))), (q2, .inl (c2, 40, .inl (fun _ => iI 0)))] H := hP
  have hD : va_D A [(a, .inr (1, [.int 0, .ref q1, .ref q2, .null, .int 0])), (q1, .inl (c1, 240, .inl (fun _ => iI 0))), (q2, .inl (c2, 40, .inl (fun _ => iI 0)))] := hD
  refine lv_aload_n hx hb d_M_init_21 rfl (lv_at hl 0 rfl) ?_
  refine lv_bipush (v := iI 6) hx hb d_M_init_22 (by decide) ?_
  refine va_newa (atype := .int) (D := D) (cl := classes) (a0 := (6, .inl (fun _ => iI 0))) (N' := 6) (ty := .int) hx hb (hts _ mo_ai) rfl hK hP hD hS hA (fun _ => rfl) (by decide) (by decide) (by decide) (Nat.le_of_ble_eq_true rfl) (Nat.le_of_ble_eq_true rfl) d_M_init_24 (fun q3 c3 H hK hP hD hS => ?_)
  have hK : va_K D classes [(c1, .int), (c2, .int), (c3, .int)] s := hK
  have hP : va_P D classes [(a, .inr (1, [.int 0, .ref q1, .ref q2, .null, .int 0])), (q1, .inl (c1, 240, .inl (fun _ => iI 0))), (q2, .inl (c2, 40, .inl (fun _ => iI 0))), (q3, .inl (c3, 6, .inl (fun _ => iI 0)))] H := hP
  have hD : va_D A [(a, .inr (1, [.int 0, .ref q1, .ref q2, .null, .int 0])), (q1, .inl (c1, 240, .inl (fun _ => iI 0))), (q2, .inl (c2, 40, .inl (fun _ => iI 0))), (q3, .inl (c3, 6, .inl (fun _ => iI 0)))] := hD
  refine W.widen (k := 3) (n := 286) (Nat.le_of_ble_eq_true rfl) (Nat.le_of_ble_eq_true rfl) ?_
  refine va_putF (D := D) (ci := 1) (v := .ref q3) (ty := .array .int) (C := R_M) (T := F_M) (N := 5) hx hb hts i_M fy_M fy_M_ok n_M hown hK hP hD hS 0 rfl rfl 3 (by decide) (hts (.fieldLink R_M 16 "TermIndexModel" "key" "[I") mf_M_key) (fun _ h9 => h9) rfl hin rfl (by decide +kernel) rfl rfl (Nat.le_of_ble_eq_true rfl) d_M_init_26 (fun H locs hP hD hS => ?_)
  have hP : va_P D classes [(a, .inr (1, [.int 0, .ref q1, .ref q2, .ref q3, .int 0])), (q1, .inl (c1, 240, .inl (fun _ => iI 0))), (q2, .inl (c2, 40, .inl (fun _ => iI 0))), (q3, .inl (c3, 6, .inl (fun _ => iI 0)))] H := hP
  have hD : va_D A [(a, .inr (1, [.int 0, .ref q1, .ref q2, .ref q3, .int 0])), (q1, .inl (c1, 240, .inl (fun _ => iI 0))), (q2, .inl (c2, 40, .inl (fun _ => iI 0))), (q3, .inl (c3, 6, .inl (fun _ => iI 0)))] := hD
  obtain ⟨gA, hgA⟩ : ∃ g : Nat → Nat, g = (fun j => match j with | 0 => a | 1 => q1 | 2 => q2 | _ => q3) := ⟨_, rfl⟩
  obtain ⟨gC, hgC⟩ : ∃ g : Nat → ClassId, g = (fun j => match j with | 1 => c1 | 2 => c2 | _ => c3) := ⟨_, rfl⟩
  have hP9 : va_P D classes (M_ws gA gC v0) H := by rw [hgA, hgC]; exact hP
  have hD9 : va_D A (M_ws gA gC v0) := by rw [hgA, hgC]; exact hD
  have hK9 : va_K D classes (M_tys gC) s := by rw [hgC]; exact hK
  exact W.vret hx hb hr (fun t ht hW => ⟨⟨(gA, gC), rfl, congrFun hgA 0, by rw [ht]; exact hP9, va_K.moved hW.alike hK9, hD9⟩, hS.F ht⟩) hS.2.2 d_M_init_29
end
section
theorem d_L_0 : decode code 0 = .ok (.new 7, 3) := by decide +kernel
theorem d_L_3 : decode code 3 = .ok (.dup, 1) := by decide +kernel
theorem d_L_4 : decode code 4 = .ok (.invokespecial 9, 3) := by decide +kernel
theorem d_L_7 : decode code 7 = .ok (.astore_n 1, 1) := by decide +kernel
theorem d_L_8 : decode code 8 = .ok (.new 10, 3) := by decide +kernel
theorem d_L_11 : decode code 11 = .ok (.dup, 1) := by decide +kernel
theorem d_L_12 : decode code 12 = .ok (.invokespecial 12, 3) := by decide +kernel
theorem d_L_15 : decode code 15 = .ok (.astore_n 2, 1) := by decide +kernel
theorem d_L_16 : decode code 16 = .ok (.iconst 0, 1) := by decide +kernel
theorem d_L_17 : decode code 17 = .ok (.istore_n 3, 1) := by decide +kernel
theorem d_L_18 : decode code 18 = .ok (.iload_n 3, 1) := by decide +kernel
theorem d_L_19 : decode code 19 = .ok (.aload_n 0, 1) := by decide +kernel
theorem d_L_20 : decode code 20 = .ok (.arraylength, 1) := by decide +kernel
theorem d_L_21 : decode code 21 = .ok (.iconst 2, 1) := by decide +kernel
theorem d_L_22 : decode code 22 = .ok (.isub, 1) := by decide +kernel
theorem d_L_23 : decode code 23 = .ok (.if_icmp .gt 263, 3) := by decide +kernel
theorem d_L_26 : decode code 26 = .ok (.aload_n 0, 1) := by decide +kernel
theorem d_L_27 : decode code 27 = .ok (.iload_n 3, 1) := by decide +kernel
theorem d_L_28 : decode code 28 = .ok (.iaload, 1) := by decide +kernel
theorem d_L_29 : decode code 29 = .ok (.bipush 15, 2) := by decide +kernel
theorem d_L_31 : decode code 31 = .ok (.iand, 1) := by decide +kernel
theorem d_L_32 : decode code 32 = .ok (.tableswitch 248 0 11 #[64, 87, 100, 111, 134, 157, 170, 183, 196, 209, 222, 235], 64) := by decide +kernel
theorem d_L_96 : decode code 96 = .ok (.aload_n 1, 1) := by decide +kernel
theorem d_L_97 : decode code 97 = .ok (.aload_n 0, 1) := by decide +kernel
theorem d_L_98 : decode code 98 = .ok (.iload_n 3, 1) := by decide +kernel
theorem d_L_99 : decode code 99 = .ok (.iconst 1, 1) := by decide +kernel
theorem d_L_100 : decode code 100 = .ok (.iadd, 1) := by decide +kernel
theorem d_L_101 : decode code 101 = .ok (.iaload, 1) := by decide +kernel
theorem d_L_102 : decode code 102 = .ok (.invokevirtual 13, 3) := by decide +kernel
theorem d_L_105 : decode code 105 = .ok (.aload_n 2, 1) := by decide +kernel
theorem d_L_106 : decode code 106 = .ok (.aload_n 0, 1) := by decide +kernel
theorem d_L_107 : decode code 107 = .ok (.iload_n 3, 1) := by decide +kernel
theorem d_L_108 : decode code 108 = .ok (.iconst 1, 1) := by decide +kernel
theorem d_L_109 : decode code 109 = .ok (.iadd, 1) := by decide +kernel
theorem d_L_110 : decode code 110 = .ok (.iaload, 1) := by decide +kernel
theorem d_L_111 : decode code 111 = .ok (.invokevirtual 17, 3) := by decide +kernel
theorem d_L_114 : decode code 114 = .ok (.if_icmp .eq 166, 3) := by decide +kernel
theorem d_L_117 : decode code 117 = .ok (.iconst 0, 1) := by decide +kernel
theorem d_L_118 : decode code 118 = .ok (.ireturn, 1) := by decide +kernel
theorem d_L_119 : decode code 119 = .ok (.aload_n 1, 1) := by decide +kernel
theorem d_L_120 : decode code 120 = .ok (.invokevirtual 18, 3) := by decide +kernel
theorem d_L_123 : decode code 123 = .ok (.aload_n 2, 1) := by decide +kernel
theorem d_L_124 : decode code 124 = .ok (.invokevirtual 22, 3) := by decide +kernel
theorem d_L_127 : decode code 127 = .ok (.if_icmp .eq 153, 3) := by decide +kernel
theorem d_L_130 : decode code 130 = .ok (.iconst 0, 1) := by decide +kernel
theorem d_L_131 : decode code 131 = .ok (.ireturn, 1) := by decide +kernel
theorem d_L_132 : decode code 132 = .ok (.aload_n 1, 1) := by decide +kernel
theorem d_L_133 : decode code 133 = .ok (.invokevirtual 23, 3) := by decide +kernel
theorem d_L_136 : decode code 136 = .ok (.aload_n 2, 1) := by decide +kernel
theorem d_L_137 : decode code 137 = .ok (.invokevirtual 26, 3) := by decide +kernel
theorem d_L_140 : decode code 140 = .ok (.goto 140, 3) := by decide +kernel
theorem d_L_143 : decode code 143 = .ok (.aload_n 1, 1) := by decide +kernel
theorem d_L_144 : decode code 144 = .ok (.aload_n 0, 1) := by decide +kernel
theorem d_L_145 : decode code 145 = .ok (.iload_n 3, 1) := by decide +kernel
theorem d_L_146 : decode code 146 = .ok (.iconst 1, 1) := by decide +kernel
theorem d_L_147 : decode code 147 = .ok (.iadd, 1) := by decide +kernel
theorem d_L_148 : decode code 148 = .ok (.iaload, 1) := by decide +kernel
theorem d_L_149 : decode code 149 = .ok (.invokevirtual 27, 3) := by decide +kernel
theorem d_L_152 : decode code 152 = .ok (.aload_n 2, 1) := by decide +kernel
theorem d_L_153 : decode code 153 = .ok (.aload_n 0, 1) := by decide +kernel
theorem d_L_154 : decode code 154 = .ok (.iload_n 3, 1) := by decide +kernel
theorem d_L_155 : decode code 155 = .ok (.iconst 1, 1) := by decide +kernel
theorem d_L_156 : decode code 156 = .ok (.iadd, 1) := by decide +kernel
theorem d_L_157 : decode code 157 = .ok (.iaload, 1) := by decide +kernel
theorem d_L_158 : decode code 158 = .ok (.invokevirtual 30, 3) := by decide +kernel
theorem d_L_161 : decode code 161 = .ok (.if_icmp .eq 119, 3) := by decide +kernel
theorem d_L_164 : decode code 164 = .ok (.iconst 0, 1) := by decide +kernel
theorem d_L_165 : decode code 165 = .ok (.ireturn, 1) := by decide +kernel
theorem d_L_166 : decode code 166 = .ok (.aload_n 1, 1) := by decide +kernel
theorem d_L_167 : decode code 167 = .ok (.aload_n 0, 1) := by decide +kernel
theorem d_L_168 : decode code 168 = .ok (.iload_n 3, 1) := by decide +kernel
theorem d_L_169 : decode code 169 = .ok (.iconst 1, 1) := by decide +kernel
theorem d_L_170 : decode code 170 = .ok (.iadd, 1) := by decide +kernel
theorem d_L_171 : decode code 171 = .ok (.iaload, 1) := by decide +kernel
theorem d_L_172 : decode code 172 = .ok (.invokevirtual 31, 3) := by decide +kernel
theorem d_L_175 : decode code 175 = .ok (.aload_n 2, 1) := by decide +kernel
theorem d_L_176 : decode code 176 = .ok (.aload_n 0, 1) := by decide +kernel
theorem d_L_177 : decode code 177 = .ok (.iload_n 3, 1) := by decide +kernel
theorem d_L_178 : decode code 178 = .ok (.iconst 1, 1) := by decide +kernel
theorem d_L_179 : decode code 179 = .ok (.iadd, 1) := by decide +kernel
theorem d_L_180 : decode code 180 = .ok (.iaload, 1) := by decide +kernel
theorem d_L_181 : decode code 181 = .ok (.invokevirtual 34, 3) := by decide +kernel
theorem d_L_184 : decode code 184 = .ok (.if_icmp .eq 96, 3) := by decide +kernel
theorem d_L_187 : decode code 187 = .ok (.iconst 0, 1) := by decide +kernel
theorem d_L_188 : decode code 188 = .ok (.ireturn, 1) := by decide +kernel
theorem d_L_189 : decode code 189 = .ok (.aload_n 1, 1) := by decide +kernel
theorem d_L_190 : decode code 190 = .ok (.invokevirtual 35, 3) := by decide +kernel
theorem d_L_193 : decode code 193 = .ok (.aload_n 2, 1) := by decide +kernel
theorem d_L_194 : decode code 194 = .ok (.invokevirtual 38, 3) := by decide +kernel
theorem d_L_197 : decode code 197 = .ok (.if_icmp .eq 83, 3) := by decide +kernel
theorem d_L_200 : decode code 200 = .ok (.iconst 0, 1) := by decide +kernel
theorem d_L_201 : decode code 201 = .ok (.ireturn, 1) := by decide +kernel
theorem d_L_202 : decode code 202 = .ok (.aload_n 1, 1) := by decide +kernel
theorem d_L_203 : decode code 203 = .ok (.invokevirtual 39, 3) := by decide +kernel
theorem d_L_206 : decode code 206 = .ok (.aload_n 2, 1) := by decide +kernel
theorem d_L_207 : decode code 207 = .ok (.invokevirtual 42, 3) := by decide +kernel
theorem d_L_210 : decode code 210 = .ok (.if_icmp .eq 70, 3) := by decide +kernel
theorem d_L_213 : decode code 213 = .ok (.iconst 0, 1) := by decide +kernel
theorem d_L_214 : decode code 214 = .ok (.ireturn, 1) := by decide +kernel
theorem d_L_215 : decode code 215 = .ok (.aload_n 1, 1) := by decide +kernel
theorem d_L_216 : decode code 216 = .ok (.invokevirtual 43, 3) := by decide +kernel
theorem d_L_219 : decode code 219 = .ok (.aload_n 2, 1) := by decide +kernel
theorem d_L_220 : decode code 220 = .ok (.invokevirtual 46, 3) := by decide +kernel
theorem d_L_223 : decode code 223 = .ok (.if_icmp .eq 57, 3) := by decide +kernel
theorem d_L_226 : decode code 226 = .ok (.iconst 0, 1) := by decide +kernel
theorem d_L_227 : decode code 227 = .ok (.ireturn, 1) := by decide +kernel
theorem d_L_228 : decode code 228 = .ok (.aload_n 1, 1) := by decide +kernel
theorem d_L_229 : decode code 229 = .ok (.invokevirtual 47, 3) := by decide +kernel
theorem d_L_232 : decode code 232 = .ok (.aload_n 2, 1) := by decide +kernel
theorem d_L_233 : decode code 233 = .ok (.invokevirtual 50, 3) := by decide +kernel
theorem d_L_236 : decode code 236 = .ok (.if_icmp .eq 44, 3) := by decide +kernel
theorem d_L_239 : decode code 239 = .ok (.iconst 0, 1) := by decide +kernel
theorem d_L_240 : decode code 240 = .ok (.ireturn, 1) := by decide +kernel
theorem d_L_241 : decode code 241 = .ok (.aload_n 1, 1) := by decide +kernel
theorem d_L_242 : decode code 242 = .ok (.invokevirtual 51, 3) := by decide +kernel
theorem d_L_245 : decode code 245 = .ok (.aload_n 2, 1) := by decide +kernel
theorem d_L_246 : decode code 246 = .ok (.invokevirtual 55, 3) := by decide +kernel
theorem d_L_249 : decode code 249 = .ok (.if_icmp .eq 31, 3) := by decide +kernel
theorem d_L_252 : decode code 252 = .ok (.iconst 0, 1) := by decide +kernel
theorem d_L_253 : decode code 253 = .ok (.ireturn, 1) := by decide +kernel
theorem d_L_254 : decode code 254 = .ok (.aload_n 1, 1) := by decide +kernel
theorem d_L_255 : decode code 255 = .ok (.invokevirtual 56, 3) := by decide +kernel
theorem d_L_258 : decode code 258 = .ok (.aload_n 2, 1) := by decide +kernel
theorem d_L_259 : decode code 259 = .ok (.invokevirtual 59, 3) := by decide +kernel
theorem d_L_262 : decode code 262 = .ok (.if_icmp .eq 18, 3) := by decide +kernel
theorem d_L_265 : decode code 265 = .ok (.iconst 0, 1) := by decide +kernel
theorem d_L_266 : decode code 266 = .ok (.ireturn, 1) := by decide +kernel
theorem d_L_267 : decode code 267 = .ok (.aload_n 1, 1) := by decide +kernel
theorem d_L_268 : decode code 268 = .ok (.invokevirtual 60, 3) := by decide +kernel
theorem d_L_271 : decode code 271 = .ok (.aload_n 2, 1) := by decide +kernel
theorem d_L_272 : decode code 272 = .ok (.invokevirtual 63, 3) := by decide +kernel
theorem d_L_275 : decode code 275 = .ok (.if_icmp .eq 5, 3) := by decide +kernel
theorem d_L_278 : decode code 278 = .ok (.iconst 0, 1) := by decide +kernel
theorem d_L_279 : decode code 279 = .ok (.ireturn, 1) := by decide +kernel
theorem d_L_280 : decode code 280 = .ok (.iinc 3 2, 3) := by decide +kernel
theorem d_L_283 : decode code 283 = .ok (.goto (-265), 3) := by decide +kernel
theorem d_L_286 : decode code 286 = .ok (.iconst 1, 1) := by decide +kernel
theorem d_L_287 : decode code 287 = .ok (.ireturn, 1) := by decide +kernel
/-- the law's fixed context -/
def lX (p : Program) (s : State) (m : MethodId) (args : Array Value) (c : Code) (D : va_G) (tys : List (ClassId × FieldType)) : Prop := p.tables.exec = Jvm.exec ∧ c.code = code ∧ c.maxLocals = 4 ∧ s.vm.findClass "TermIndexLaw" = some m.cls ∧ (∀ w ∈ tw_tbl, w.before args s = true) ∧ va_K D classes tys s
section LawCalls9
variable {p : Program} {l : Launch} {e : Env} {s : State} {m : MethodId} {args : Array Value} {below : List Frame} {meth : Method} {c : Code} {H : Heap} {locs : List Loc} {Q : State → Prop} {pc : Nat} {ls : Array Slot} {D : va_G} {A : Nat → Prop} {gA gB : Nat → Nat} {gC gD : Nat → ClassId} {u : TS} {v : MS}
theorem l_callTi {post : Int → TS → Prop} {y : MethodName} {bb : ByteArray} {n : Nat} {ret2 : Option FieldType} {d nA idx : Nat} {As rest st0 : List Value} (X : lX p s m args c D (T_tys gC ++ M_tys gD)) (hsz : ls.size = 4) (B : cB D A s H locs (T_ws gA gC u ++ M_ws gB gD v)) (hA : ∀ q : Nat, s.heap.size ≤ q → A q)
    (hM : ∀ sz : Nat, Met l y (Cond.code y bb n ret2 :: tw_tbl) (rmD d) (cPre D (T_ws gA gC u) (T_tys gC) sz (.ref (gA 0) :: As)) (cPoI D (T_ws gA gC) (T_tys gC) post (va_A (T_ws gA gC u) sz)) 0 0 (va_A (T_ws gA gC u) sz))
    (hw : cW "TermIndexLaw" idx R_T y bb n ret2 nA) (hR : d + 1 ≤ room_1.frames ∧ 8 + (n + 11) + 30 * d ≤ room_1.locals) (hn : As.length = nA) (hcat : (rest.map fun v => v.category).sum ≤ 8) (hst : st0 = As.reverse ++ .ref (gA 0) :: rest) (hdg : decode code pc = .ok (.invokevirtual idx, 3))
    (kk : ∀ (r : Int) (u2 : TS) (H1 : Heap) (locs1 : List Loc), post r u2 → cB D A s H1 locs1 (T_ws gA gC u2 ++ M_ws gB gD v) → W p l e room_1 s m args below meth c H1 locs1 12 1238 Q (F0 m (pc + 3) ls (.int (iI r) :: rest))) : W p l e room_1 s m args below meth c H locs 12 1238 Q (F0 m pc ls st0) := by
  obtain ⟨hx, hb, hml, hown, hts, hK⟩ := X
  obtain ⟨hP, hD, hS⟩ := B
  have hPc := hP.sub (ws' := T_ws gA gC u) [0, 1, 2, 3, 4, 5, 6, 7] rfl
  have hDc := hD.sub (ws' := T_ws gA gC u) [0, 1, 2, 3, 4, 5, 6, 7] (by decide) rfl
  have hKc := hK.sub (tys' := T_tys gC) [0, 1, 2, 3, 4, 5, 6] rfl
  have hFc := va_free (wc := T_ws gA gC u) hD hS hA [0, 1, 2, 3, 4, 5, 6, 7] rfl
  refine va_calli (va_runV (As := As) (rest := rest) ⟨hx, hb, hml, hown, hts⟩ (hM H.size) (cwV nA hts (good_wsV hw) rfl rfl rfl hw.2.2.2.2.2 hR) ⟨fun a U g mk q => by obtain ⟨q0, q1, qP, qK, qD⟩ := q; exact ⟨q0, q1, qP, va_K.moved (u := U) (U := U.calling g mk a) (Vm.Alike.refl U.vm) qK, qD⟩, va_recv hKc hPc (ci := 0) (q0 := 0) rfl rfl, fun U hU hW => ⟨rfl, by rw [hU], by rw [hU]; exact hPc, va_K.moved hW.alike hKc, hDc.weaken (fun _ _ _ _ => trivial)⟩⟩ rfl hn hsz hst (lv_room hcat) hdg ⟨Nat.le_of_ble_eq_true rfl, Nat.le_of_ble_eq_true rfl⟩) hS (fun q _ h => hFc q h) hFc (fun r z t H1 locs1 ht hvm hpost hB hz1 hk1 hS1 => ?_)
  obtain ⟨hr3, hp3⟩ := hpost
  obtain ⟨hP1, hK1, hD1⟩ := hB
  rw [ht] at hP1
  subst hr3
  obtain ⟨hP2, hD2⟩ := va_join (wr := M_ws gB gD v) (w1 := T_ws gA gC z.2) hP hD [0, 1, 2, 3, 4, 5, 6, 7] [8, 9, 10, 11] rfl rfl (by decide) (by decide) hk1 hFc hP1 hD1
  exact kk z.1 z.2 H1 locs1 hp3 ⟨hP2.sub (ws' := T_ws gA gC z.2 ++ M_ws gB gD v) [4, 5, 6, 7, 8, 9, 10, 11, 0, 1, 2, 3] rfl, hD2.sub (ws' := T_ws gA gC z.2 ++ M_ws gB gD v) [4, 5, 6, 7, 8, 9, 10, 11, 0, 1, 2, 3] (by decide) rfl, hS1⟩
theorem l_callTv {post : TS → Prop} {y : MethodName} {bb : ByteArray} {n : Nat} {ret2 : Option FieldType} {d nA idx : Nat} {As rest st0 : List Value} (X : lX p s m args c D (T_tys gC ++ M_tys gD)) (hsz : ls.size = 4) (B : cB D A s H locs (T_ws gA gC u ++ M_ws gB gD v)) (hA : ∀ q : Nat, s.heap.size ≤ q → A q)
    (hM : ∀ sz : Nat, Met l y (Cond.code y bb n ret2 :: tw_tbl) (rmD d) (cPre D (T_ws gA gC u) (T_tys gC) sz (.ref (gA 0) :: As)) (cPoV D (T_ws gA gC) (T_tys gC) post (va_A (T_ws gA gC u) sz)) 0 0 (va_A (T_ws gA gC u) sz))
    (hw : cW "TermIndexLaw" idx R_T y bb n ret2 nA) (hR : d + 1 ≤ room_1.frames ∧ 8 + (n + 11) + 30 * d ≤ room_1.locals) (hn : As.length = nA) (hcat : (rest.map fun v => v.category).sum ≤ 8) (hst : st0 = As.reverse ++ .ref (gA 0) :: rest) (hdg : decode code pc = .ok (.invokevirtual idx, 3))
    (kk : ∀ (u2 : TS) (H1 : Heap) (locs1 : List Loc), post u2 → cB D A s H1 locs1 (T_ws gA gC u2 ++ M_ws gB gD v) → W p l e room_1 s m args below meth c H1 locs1 12 1238 Q (F0 m (pc + 3) ls rest)) : W p l e room_1 s m args below meth c H locs 12 1238 Q (F0 m pc ls st0) := by
  obtain ⟨hx, hb, hml, hown, hts, hK⟩ := X
  obtain ⟨hP, hD, hS⟩ := B
  have hPc := hP.sub (ws' := T_ws gA gC u) [0, 1, 2, 3, 4, 5, 6, 7] rfl
  have hDc := hD.sub (ws' := T_ws gA gC u) [0, 1, 2, 3, 4, 5, 6, 7] (by decide) rfl
  have hKc := hK.sub (tys' := T_tys gC) [0, 1, 2, 3, 4, 5, 6] rfl
  have hFc := va_free (wc := T_ws gA gC u) hD hS hA [0, 1, 2, 3, 4, 5, 6, 7] rfl
  refine va_callv (va_runV (As := As) (rest := rest) ⟨hx, hb, hml, hown, hts⟩ (hM H.size) (cwV nA hts (good_wsV hw) rfl rfl rfl hw.2.2.2.2.2 hR) ⟨fun a U g mk q => by obtain ⟨q0, q1, qP, qK, qD⟩ := q; exact ⟨q0, q1, qP, va_K.moved (u := U) (U := U.calling g mk a) (Vm.Alike.refl U.vm) qK, qD⟩, va_recv hKc hPc (ci := 0) (q0 := 0) rfl rfl, fun U hU hW => ⟨rfl, by rw [hU], by rw [hU]; exact hPc, va_K.moved hW.alike hKc, hDc.weaken (fun _ _ _ _ => trivial)⟩⟩ rfl hn hsz hst (lv_room hcat) hdg ⟨Nat.le_of_ble_eq_true rfl, Nat.le_of_ble_eq_true rfl⟩) hS (fun q _ h => hFc q h) hFc (fun z t H1 locs1 ht hvm hpost hB hz1 hk1 hS1 => ?_)
  obtain ⟨hP1, hK1, hD1⟩ := hB
  rw [ht] at hP1
  obtain ⟨hP2, hD2⟩ := va_join (wr := M_ws gB gD v) (w1 := T_ws gA gC z) hP hD [0, 1, 2, 3, 4, 5, 6, 7] [8, 9, 10, 11] rfl rfl (by decide) (by decide) hk1 hFc hP1 hD1
  exact kk z H1 locs1 hpost ⟨hP2.sub (ws' := T_ws gA gC z ++ M_ws gB gD v) [4, 5, 6, 7, 8, 9, 10, 11, 0, 1, 2, 3] rfl, hD2.sub (ws' := T_ws gA gC z ++ M_ws gB gD v) [4, 5, 6, 7, 8, 9, 10, 11, 0, 1, 2, 3] (by decide) rfl, hS1⟩
theorem l_callMi {post : Int → MS → Prop} {y : MethodName} {bb : ByteArray} {n : Nat} {ret2 : Option FieldType} {d nA idx : Nat} {As rest st0 : List Value} (X : lX p s m args c D (T_tys gC ++ M_tys gD)) (hsz : ls.size = 4) (B : cB D A s H locs (T_ws gA gC u ++ M_ws gB gD v)) (hA : ∀ q : Nat, s.heap.size ≤ q → A q)
    (hM : ∀ sz : Nat, Met l y (Cond.code y bb n ret2 :: tw_tbl) (rmD d) (cPre D (M_ws gB gD v) (M_tys gD) sz (.ref (gB 0) :: As)) (cPoI D (M_ws gB gD) (M_tys gD) post (va_A (M_ws gB gD v) sz)) 0 0 (va_A (M_ws gB gD v) sz))
    (hw : cW "TermIndexLaw" idx R_M y bb n ret2 nA) (hR : d + 1 ≤ room_1.frames ∧ 8 + (n + 11) + 30 * d ≤ room_1.locals) (hn : As.length = nA) (hcat : (rest.map fun v => v.category).sum ≤ 8) (hst : st0 = As.reverse ++ .ref (gB 0) :: rest) (hdg : decode code pc = .ok (.invokevirtual idx, 3))
    (kk : ∀ (r : Int) (u2 : MS) (H1 : Heap) (locs1 : List Loc), post r u2 → cB D A s H1 locs1 (T_ws gA gC u ++ M_ws gB gD u2) → W p l e room_1 s m args below meth c H1 locs1 12 1238 Q (F0 m (pc + 3) ls (.int (iI r) :: rest))) : W p l e room_1 s m args below meth c H locs 12 1238 Q (F0 m pc ls st0) := by
  obtain ⟨hx, hb, hml, hown, hts, hK⟩ := X
  obtain ⟨hP, hD, hS⟩ := B
  have hPc := hP.sub (ws' := M_ws gB gD v) [8, 9, 10, 11] rfl
  have hDc := hD.sub (ws' := M_ws gB gD v) [8, 9, 10, 11] (by decide) rfl
  have hKc := hK.sub (tys' := M_tys gD) [7, 8, 9] rfl
  have hFc := va_free (wc := M_ws gB gD v) hD hS hA [8, 9, 10, 11] rfl
  refine va_calli (va_runV (As := As) (rest := rest) ⟨hx, hb, hml, hown, hts⟩ (hM H.size) (cwV nA hts (good_wsV hw) rfl rfl rfl hw.2.2.2.2.2 hR) ⟨fun a U g mk q => by obtain ⟨q0, q1, qP, qK, qD⟩ := q; exact ⟨q0, q1, qP, va_K.moved (u := U) (U := U.calling g mk a) (Vm.Alike.refl U.vm) qK, qD⟩, va_recv hKc hPc (ci := 1) (q0 := 0) rfl rfl, fun U hU hW => ⟨rfl, by rw [hU], by rw [hU]; exact hPc, va_K.moved hW.alike hKc, hDc.weaken (fun _ _ _ _ => trivial)⟩⟩ rfl hn hsz hst (lv_room hcat) hdg ⟨Nat.le_of_ble_eq_true rfl, Nat.le_of_ble_eq_true rfl⟩) hS (fun q _ h => hFc q h) hFc (fun r z t H1 locs1 ht hvm hpost hB hz1 hk1 hS1 => ?_)
  obtain ⟨hr3, hp3⟩ := hpost
  obtain ⟨hP1, hK1, hD1⟩ := hB
  rw [ht] at hP1
  subst hr3
  obtain ⟨hP2, hD2⟩ := va_join (wr := T_ws gA gC u) (w1 := M_ws gB gD z.2) hP hD [8, 9, 10, 11] [0, 1, 2, 3, 4, 5, 6, 7] rfl rfl (by decide) (by decide) hk1 hFc hP1 hD1
  exact kk z.1 z.2 H1 locs1 hp3 ⟨hP2, hD2, hS1⟩
theorem l_callMv {post : MS → Prop} {y : MethodName} {bb : ByteArray} {n : Nat} {ret2 : Option FieldType} {d nA idx : Nat} {As rest st0 : List Value} (X : lX p s m args c D (T_tys gC ++ M_tys gD)) (hsz : ls.size = 4) (B : cB D A s H locs (T_ws gA gC u ++ M_ws gB gD v)) (hA : ∀ q : Nat, s.heap.size ≤ q → A q)
    (hM : ∀ sz : Nat, Met l y (Cond.code y bb n ret2 :: tw_tbl) (rmD d) (cPre D (M_ws gB gD v) (M_tys gD) sz (.ref (gB 0) :: As)) (cPoV D (M_ws gB gD) (M_tys gD) post (va_A (M_ws gB gD v) sz)) 0 0 (va_A (M_ws gB gD v) sz))
    (hw : cW "TermIndexLaw" idx R_M y bb n ret2 nA) (hR : d + 1 ≤ room_1.frames ∧ 8 + (n + 11) + 30 * d ≤ room_1.locals) (hn : As.length = nA) (hcat : (rest.map fun v => v.category).sum ≤ 8) (hst : st0 = As.reverse ++ .ref (gB 0) :: rest) (hdg : decode code pc = .ok (.invokevirtual idx, 3))
    (kk : ∀ (u2 : MS) (H1 : Heap) (locs1 : List Loc), post u2 → cB D A s H1 locs1 (T_ws gA gC u ++ M_ws gB gD u2) → W p l e room_1 s m args below meth c H1 locs1 12 1238 Q (F0 m (pc + 3) ls rest)) : W p l e room_1 s m args below meth c H locs 12 1238 Q (F0 m pc ls st0) := by
  obtain ⟨hx, hb, hml, hown, hts, hK⟩ := X
  obtain ⟨hP, hD, hS⟩ := B
  have hPc := hP.sub (ws' := M_ws gB gD v) [8, 9, 10, 11] rfl
  have hDc := hD.sub (ws' := M_ws gB gD v) [8, 9, 10, 11] (by decide) rfl
  have hKc := hK.sub (tys' := M_tys gD) [7, 8, 9] rfl
  have hFc := va_free (wc := M_ws gB gD v) hD hS hA [8, 9, 10, 11] rfl
  refine va_callv (va_runV (As := As) (rest := rest) ⟨hx, hb, hml, hown, hts⟩ (hM H.size) (cwV nA hts (good_wsV hw) rfl rfl rfl hw.2.2.2.2.2 hR) ⟨fun a U g mk q => by obtain ⟨q0, q1, qP, qK, qD⟩ := q; exact ⟨q0, q1, qP, va_K.moved (u := U) (U := U.calling g mk a) (Vm.Alike.refl U.vm) qK, qD⟩, va_recv hKc hPc (ci := 1) (q0 := 0) rfl rfl, fun U hU hW => ⟨rfl, by rw [hU], by rw [hU]; exact hPc, va_K.moved hW.alike hKc, hDc.weaken (fun _ _ _ _ => trivial)⟩⟩ rfl hn hsz hst (lv_room hcat) hdg ⟨Nat.le_of_ble_eq_true rfl, Nat.le_of_ble_eq_true rfl⟩) hS (fun q _ h => hFc q h) hFc (fun z t H1 locs1 ht hvm hpost hB hz1 hk1 hS1 => ?_)
  obtain ⟨hP1, hK1, hD1⟩ := hB
  rw [ht] at hP1
  obtain ⟨hP2, hD2⟩ := va_join (wr := T_ws gA gC u) (w1 := M_ws gB gD z) hP hD [8, 9, 10, 11] [0, 1, 2, 3, 4, 5, 6, 7] rfl rfl (by decide) (by decide) hk1 hFc hP1 hD1
  exact kk z H1 locs1 hpost ⟨hP2, hD2, hS1⟩
end LawCalls9
theorem iI_nat (n : Nat) : Int32.ofNat n = iI (n : Int) := by
  show Int32.ofNat n = Int32.ofInt (n : Int)
  rw [Int32.ofInt_eq_ofNat]
end
section
/-! THE CLAIM OUT OF ONE WALK OF THE LAW'S BODY. Your part is whole_start (and what it stands on); all else here is the same for every law, but numbers. -/
def R_law : String := "TermIndexLaw"
def lw_P (b : Addr) (xs : List Int32) (args : Array Value) (s : State) : Prop := args = #[.ref b] ∧ s.IntsAt b xs ∧ xs.length ≤ 1024 ∧ (Jvm.Cond.and given_1 narrow_1).before args s = true
def lw_Q (_ : Array Value) (s : State) (o : Outcome) (t : State) : Prop := o = .returned (some (.int 1)) ∧ Framed s o t [] 12 1238
def lw_Z (below : List Frame) (a : Array Value) (s : State) : State → Prop := fun t => ∃ o, t.status = .running ∧ Ended t below o ∧ lw_Q a s o t
/-- the law's own end, with 1 on the stack, nothing written that was there before, its room as the claim has it -/
theorem lw_ret {p : Program} {l : Launch} {e : Env} {s : State} {m : MethodId} {below : List Frame} {meth : Method} {c : Code} {b : Nat} (hx : p.tables.exec = Jvm.exec) (hb : c.code = code) (hr : meth.sig.returnType = ret) (hlocks : meth.locks = false) {pc : Nat} {H : Heap} {ls : Array Slot} (hdg : decode code pc = .ok (.ireturn, 1)) : W p l e room_1 s m #[Value.ref b] below meth c H [] 12 1238 (lw_Z below #[Value.ref b] s) (F0 m pc ls [.int 1]) := by
  intro T hT X
  obtain ⟨fs, hret, hrun, hended, hW, hframe⟩ := X.leave (v := some (.int 1)) (hlocks := hlocks) (fun h => by rw [hr] at h; cases h)
  have hmeth' : T.vm.method? m = some meth := X.method'
  refine ⟨T.setFrames fs, ?_, .returned (some (.int 1)), hrun, hended, rfl, ⟨_, rfl⟩, hW, hframe⟩
  jvm_step X.here [X.here.top, hx, hb, hdg, hmeth', hr, ret, narrow_b1]
  (try refine ⟨rfl, ?_⟩); (try refine ⟨rfl, ?_⟩)
  first | (intro acts; rw [hret _ acts rfl rfl rfl]) | rw [hret _ _ rfl rfl rfl]
  exact Steps.refl _
/-- what holds at the law's entry: the machine, the code, the tables' words (any of lw_tbl by 'hts w (by decide +kernel)'), the script of L ints xs at the cell b, what the Statement gives of the start (any of its parts by flat_of_before) -/
def lw_At (p : Program) (s : State) (m : MethodId) (meth : Method) (c : Code) (b L : Nat) (xs : Nat → Int32) : Prop :=
  p.tables.exec = Jvm.exec ∧ c.code = code ∧ meth.sig.returnType = ret ∧ c.maxLocals = 4 ∧ s.vm.findClass R_law = some m.cls ∧ (∀ w ∈ lw_tbl, w.before #[Value.ref b] s = true) ∧ va_X b L xs s s.heap ∧ b < s.heap.size ∧ meth.locks = false ∧ (Jvm.Cond.and given_1 narrow_1).before #[Value.ref b] s = true
set_option maxHeartbeats 8000000 in
set_option maxRecDepth 100000 in
theorem law_loop {p : Program} {l : Launch} {e : Env} {s : State} {m : MethodId} {below : List Frame} {meth : Method} {c : Code} {D : va_G} {gA gB : Nat → Nat} {gC gD : Nat → ClassId} {b L : Nat} {xs : Nat → Int32} (hL : L ≤ 1024) (C0 : lw_At p s m meth c b L xs) (hK : va_K D classes (T_tys gC ++ M_tys gD) s) :
    ∀ (n i : Nat) (x : Int) (u : TS) (v : MS) (H : Heap) (locs : List Loc) (ls : Array Slot), x = i → i ≤ L → L < i + n → INV u v → cB D (fun q : Nat => s.heap.size ≤ q) s H locs (T_ws gA gC u ++ M_ws gB gD v) → lv_has ls 4 [(0, .ref b), (1, .ref (gA 0)), (2, .ref (gB 0)), (3, .int (iI x))] → W p l e room_1 s m #[Value.ref b] below meth c H locs 12 1238 (lw_Z below #[Value.ref b] s) (F0 m 18 ls []) := by
  obtain ⟨hx, hb, hr, hml, hown, hts, hX, hbl, hlocks, hgv⟩ := C0
  have hA : ∀ q : Nat, s.heap.size ≤ q → (fun q : Nat => s.heap.size ≤ q) q := fun _ h => h
  have hbA : ¬ (fun q : Nat => s.heap.size ≤ q) b := Nat.not_le.mpr hbl
  have X : lX p s m #[Value.ref b] c D (T_tys gC ++ M_tys gD) := ⟨hx, hb, hml, hown, fun w hw => hts w (tw_sub w hw), hK⟩
  intro n
  induction n with
  | zero => intro i x u v H locs ls _ _ _ _ _ _; omega
  | succ n ih =>
    intro i x u v H locs ls hxi hi hn hI B hl
    have hS := B.2.2
    refine lv_iload_n hx hb d_L_18 rfl (lv_at hl 3 rfl) ?_
    refine lv_aload_n hx hb d_L_19 rfl (lv_at hl 0 rfl) ?_
    refine va_slen hx hb hX hbl hbA hS d_L_20 ?_
    rw [iI_nat]
    refine lv_iconst (v := iI 2) hx hb d_L_21 rfl ?_
    refine lv_isub hx hb d_L_22 ?_
    rw [iI_sub]
    have rg1 : rg ((L : Int) - 2) := ⟨by omega, by omega⟩
    have rg2 : rg x := ⟨by omega, by omega⟩
    refine lv_icmp_gt (tgt := 286) hx hb d_L_23 (by decide) (fun c9 => ?_) (fun c9 => ?_)
    · refine lv_iconst (v := 1) hx hb d_L_286 (by decide) ?_
      refine va_forget (fun q hq => hS.2.2 q hq) ?_
      exact lw_ret hx hb hr hlocks d_L_287
    · rw [iI_lt rg1 rg2] at c9
      have hi2 : i + 2 ≤ L := by omega
      have hin0 : vp_in (iI x) L := iI_in (by omega) (by omega) (by omega)
      have hin1 : vp_in (iI (x + 1)) L := iI_in (by omega) (by omega) (by omega)
      obtain ⟨y, hy, hyr⟩ : ∃ y : Int, xs (iI (x + 1)).toNatClampNeg = iI y ∧ rg y := ⟨_, (iI_self _).symm, iI_rg _⟩
      have next : ∀ (u2 : TS) (v2 : MS) (H : Heap) (locs : List Loc) (ls : Array Slot), INV u2 v2 → cB D (fun q : Nat => s.heap.size ≤ q) s H locs (T_ws gA gC u2 ++ M_ws gB gD v2) → lv_has ls 4 [(0, .ref b), (1, .ref (gA 0)), (2, .ref (gB 0)), (3, .int (iI x))] → W p l e room_1 s m #[Value.ref b] below meth c H locs 12 1238 (lw_Z below #[Value.ref b] s) (F0 m 280 ls []) := by
        intro u2 v2 H locs ls hI2 B2 hl2
        refine lv_iinc (v := iI (x + 2)) (lv' := [(3, .int (iI (x + 2))), (0, .ref b), (1, .ref (gA 0)), (2, .ref (gB 0))]) hx hb d_L_280 hl2 (k := 3) rfl (iI_inc _ _) (by decide) rfl (fun ls hl => ?_)
        refine lv_goto (tgt := 18) hx hb d_L_283 (by decide) ?_
        exact ih (i + 2) (x + 2) u2 v2 H locs ls (by omega) (by omega) (by omega) hI2 B2 (lv_sub hl [1, 2, 3, 0] rfl)
      refine lv_aload_n hx hb d_L_26 rfl (lv_at hl 0 rfl) ?_
      refine lv_iload_n hx hb d_L_27 rfl (lv_at hl 3 rfl) ?_
      refine va_sld hx hb hX hbl hbA hS hin0 d_L_28 ?_
      refine lv_bipush (v := 15) hx hb d_L_29 (by decide) ?_
      refine lv_iand hx hb d_L_31 ?_
      obtain ⟨j, hj, ej⟩ := pk_andE (xs (iI x).toNatClampNeg) (m := 15) 4 (by decide)
      rw [ej]
      have hj : j < 16 := hj
      rcases (show j = 0 ∨ j = 1 ∨ j = 2 ∨ j = 3 ∨ j = 4 ∨ j = 5 ∨ j = 6 ∨ j = 7 ∨ j = 8 ∨ j = 9 ∨ j = 10 ∨ j = 11 ∨ j = 12 ∨ j = 13 ∨ j = 14 ∨ j = 15 by omega) with rfl | rfl | rfl | rfl | rfl | rfl | rfl | rfl | rfl | rfl | rfl | rfl | rfl | rfl | rfl | rfl
      · refine lv_tableIn (tgt := 96) (off := 64) hx hb d_L_32 (by decide) (by decide) (by decide) (by decide) ?_
        have h := P_type hI hyr
        refine lv_aload_n hx hb d_L_96 rfl (lv_at hl 1 rfl) ?_
        refine lv_aload_n hx hb d_L_97 rfl (lv_at hl 0 rfl) ?_
        refine lv_iload_n hx hb d_L_98 rfl (lv_at hl 3 rfl) ?_
        refine lv_iconst (v := iI 1) hx hb d_L_99 rfl ?_
        refine lv_iadd hx hb d_L_100 ?_
        rw [iI_add]
        refine va_sld hx hb hX hbl hbA B.2.2 hin1 d_L_101 ?_
        rw [hy]
        refine l_callTi (As := [.int (iI y)]) (rest := []) X hl.1 B hA (fun sz => c_T_type l D gA gC _ _ _ h sz) cw_L_T_type ⟨Nat.le_of_ble_eq_true rfl, Nat.le_of_ble_eq_true rfl⟩ rfl (Nat.le_of_ble_eq_true rfl) rfl d_L_102 (fun r1 u2 H locs h B => ?_)
        refine lv_aload_n hx hb d_L_105 rfl (lv_at hl 2 rfl) ?_
        refine lv_aload_n hx hb d_L_106 rfl (lv_at hl 0 rfl) ?_
        refine lv_iload_n hx hb d_L_107 rfl (lv_at hl 3 rfl) ?_
        refine lv_iconst (v := iI 1) hx hb d_L_108 rfl ?_
        refine lv_iadd hx hb d_L_109 ?_
        rw [iI_add]
        refine va_sld hx hb hX hbl hbA B.2.2 hin1 d_L_110 ?_
        rw [hy]
        refine l_callMi (As := [.int (iI y)]) (rest := [.int (iI r1)]) X hl.1 B hA (fun sz => c_M_type l D gB gD _ _ _ h sz) cw_L_M_type ⟨Nat.le_of_ble_eq_true rfl, Nat.le_of_ble_eq_true rfl⟩ rfl (Nat.le_of_ble_eq_true rfl) rfl d_L_111 (fun r2 v2 H locs h B => ?_)
        refine lv_icmp_eq (tgt := 280) hx hb d_L_114 (by decide) (fun _ => ?_) (fun c8 => ?_)
        · exact next u2 v2 H locs ls h.2 B hl
        · exact absurd (by rw [h.1]) c8
      · refine lv_tableIn (tgt := 119) (off := 87) hx hb d_L_32 (by decide) (by decide) (by decide) (by decide) ?_
        have h := P_back hI
        refine lv_aload_n hx hb d_L_119 rfl (lv_at hl 1 rfl) ?_
        refine l_callTi (As := []) (rest := []) X hl.1 B hA (fun sz => c_T_back l D gA gC _ _ h sz) cw_L_T_back ⟨Nat.le_of_ble_eq_true rfl, Nat.le_of_ble_eq_true rfl⟩ rfl (Nat.le_of_ble_eq_true rfl) rfl d_L_120 (fun r1 u2 H locs h B => ?_)
        refine lv_aload_n hx hb d_L_123 rfl (lv_at hl 2 rfl) ?_
        refine l_callMi (As := []) (rest := [.int (iI r1)]) X hl.1 B hA (fun sz => c_M_back l D gB gD _ _ h sz) cw_L_M_back ⟨Nat.le_of_ble_eq_true rfl, Nat.le_of_ble_eq_true rfl⟩ rfl (Nat.le_of_ble_eq_true rfl) rfl d_L_124 (fun r2 v2 H locs h B => ?_)
        refine lv_icmp_eq (tgt := 280) hx hb d_L_127 (by decide) (fun _ => ?_) (fun c8 => ?_)
        · exact next u2 v2 H locs ls h.2 B hl
        · exact absurd (by rw [h.1]) c8
      · refine lv_tableIn (tgt := 132) (off := 100) hx hb d_L_32 (by decide) (by decide) (by decide) (by decide) ?_
        have h := P_erase hI
        refine lv_aload_n hx hb d_L_132 rfl (lv_at hl 1 rfl) ?_
        refine l_callTv (As := []) (rest := []) X hl.1 B hA (fun sz => c_T_erase l D gA gC _ _ h sz) cw_L_T_erase ⟨Nat.le_of_ble_eq_true rfl, Nat.le_of_ble_eq_true rfl⟩ rfl (Nat.le_of_ble_eq_true rfl) rfl d_L_133 (fun u2 H locs h B => ?_)
        refine lv_aload_n hx hb d_L_136 rfl (lv_at hl 2 rfl) ?_
        refine l_callMv (As := []) (rest := []) X hl.1 B hA (fun sz => c_M_erase l D gB gD _ _ h sz) cw_L_M_erase ⟨Nat.le_of_ble_eq_true rfl, Nat.le_of_ble_eq_true rfl⟩ rfl (Nat.le_of_ble_eq_true rfl) rfl d_L_137 (fun v2 H locs h B => ?_)
        refine lv_goto (tgt := 280) hx hb d_L_140 (by decide) ?_
        exact next u2 v2 H locs ls h B hl
      · refine lv_tableIn (tgt := 143) (off := 111) hx hb d_L_32 (by decide) (by decide) (by decide) (by decide) ?_
        have h := P_load hI hyr
        refine lv_aload_n hx hb d_L_143 rfl (lv_at hl 1 rfl) ?_
        refine lv_aload_n hx hb d_L_144 rfl (lv_at hl 0 rfl) ?_
        refine lv_iload_n hx hb d_L_145 rfl (lv_at hl 3 rfl) ?_
        refine lv_iconst (v := iI 1) hx hb d_L_146 rfl ?_
        refine lv_iadd hx hb d_L_147 ?_
        rw [iI_add]
        refine va_sld hx hb hX hbl hbA B.2.2 hin1 d_L_148 ?_
        rw [hy]
        refine l_callTi (As := [.int (iI y)]) (rest := []) X hl.1 B hA (fun sz => c_T_load l D gA gC _ _ _ h sz) cw_L_T_load ⟨Nat.le_of_ble_eq_true rfl, Nat.le_of_ble_eq_true rfl⟩ rfl (Nat.le_of_ble_eq_true rfl) rfl d_L_149 (fun r1 u2 H locs h B => ?_)
        refine lv_aload_n hx hb d_L_152 rfl (lv_at hl 2 rfl) ?_
        refine lv_aload_n hx hb d_L_153 rfl (lv_at hl 0 rfl) ?_
        refine lv_iload_n hx hb d_L_154 rfl (lv_at hl 3 rfl) ?_
        refine lv_iconst (v := iI 1) hx hb d_L_155 rfl ?_
        refine lv_iadd hx hb d_L_156 ?_
        rw [iI_add]
        refine va_sld hx hb hX hbl hbA B.2.2 hin1 d_L_157 ?_
        rw [hy]
        refine l_callMi (As := [.int (iI y)]) (rest := [.int (iI r1)]) X hl.1 B hA (fun sz => c_M_load l D gB gD _ _ _ h sz) cw_L_M_load ⟨Nat.le_of_ble_eq_true rfl, Nat.le_of_ble_eq_true rfl⟩ rfl (Nat.le_of_ble_eq_true rfl) rfl d_L_158 (fun r2 v2 H locs h B => ?_)
        refine lv_icmp_eq (tgt := 280) hx hb d_L_161 (by decide) (fun _ => ?_) (fun c8 => ?_)
        · exact next u2 v2 H locs ls h.2 B hl
        · exact absurd (by rw [h.1]) c8
      · refine lv_tableIn (tgt := 166) (off := 134) hx hb d_L_32 (by decide) (by decide) (by decide) (by decide) ?_
        have h := P_letter hI hyr
        refine lv_aload_n hx hb d_L_166 rfl (lv_at hl 1 rfl) ?_
        refine lv_aload_n hx hb d_L_167 rfl (lv_at hl 0 rfl) ?_
        refine lv_iload_n hx hb d_L_168 rfl (lv_at hl 3 rfl) ?_
        refine lv_iconst (v := iI 1) hx hb d_L_169 rfl ?_
        refine lv_iadd hx hb d_L_170 ?_
        rw [iI_add]
        refine va_sld hx hb hX hbl hbA B.2.2 hin1 d_L_171 ?_
        rw [hy]
        refine l_callTi (As := [.int (iI y)]) (rest := []) X hl.1 B hA (fun sz => c_T_letter l D gA gC _ _ _ h sz) cw_L_T_letter ⟨Nat.le_of_ble_eq_true rfl, Nat.le_of_ble_eq_true rfl⟩ rfl (Nat.le_of_ble_eq_true rfl) rfl d_L_172 (fun r1 u2 H locs h B => ?_)
        refine lv_aload_n hx hb d_L_175 rfl (lv_at hl 2 rfl) ?_
        refine lv_aload_n hx hb d_L_176 rfl (lv_at hl 0 rfl) ?_
        refine lv_iload_n hx hb d_L_177 rfl (lv_at hl 3 rfl) ?_
        refine lv_iconst (v := iI 1) hx hb d_L_178 rfl ?_
        refine lv_iadd hx hb d_L_179 ?_
        rw [iI_add]
        refine va_sld hx hb hX hbl hbA B.2.2 hin1 d_L_180 ?_
        rw [hy]
        refine l_callMi (As := [.int (iI y)]) (rest := [.int (iI r1)]) X hl.1 B hA (fun sz => c_M_letter l D gB gD _ _ _ h sz) cw_L_M_letter ⟨Nat.le_of_ble_eq_true rfl, Nat.le_of_ble_eq_true rfl⟩ rfl (Nat.le_of_ble_eq_true rfl) rfl d_L_181 (fun r2 v2 H locs h B => ?_)
        refine lv_icmp_eq (tgt := 280) hx hb d_L_184 (by decide) (fun _ => ?_) (fun c8 => ?_)
        · exact next u2 v2 H locs ls h.2 B hl
        · exact absurd (by rw [h.1]) c8
      · refine lv_tableIn (tgt := 189) (off := 157) hx hb d_L_32 (by decide) (by decide) (by decide) (by decide) ?_
        have h := P_insert hI
        refine lv_aload_n hx hb d_L_189 rfl (lv_at hl 1 rfl) ?_
        refine l_callTi (As := []) (rest := []) X hl.1 B hA (fun sz => c_T_insert l D gA gC _ _ h sz) cw_L_T_insert ⟨Nat.le_of_ble_eq_true rfl, Nat.le_of_ble_eq_true rfl⟩ rfl (Nat.le_of_ble_eq_true rfl) rfl d_L_190 (fun r1 u2 H locs h B => ?_)
        refine lv_aload_n hx hb d_L_193 rfl (lv_at hl 2 rfl) ?_
        refine l_callMi (As := []) (rest := [.int (iI r1)]) X hl.1 B hA (fun sz => c_M_insert l D gB gD _ _ h sz) cw_L_M_insert ⟨Nat.le_of_ble_eq_true rfl, Nat.le_of_ble_eq_true rfl⟩ rfl (Nat.le_of_ble_eq_true rfl) rfl d_L_194 (fun r2 v2 H locs h B => ?_)
        refine lv_icmp_eq (tgt := 280) hx hb d_L_197 (by decide) (fun _ => ?_) (fun c8 => ?_)
        · exact next u2 v2 H locs ls h.2 B hl
        · exact absurd (by rw [h.1]) c8
      · refine lv_tableIn (tgt := 202) (off := 170) hx hb d_L_32 (by decide) (by decide) (by decide) (by decide) ?_
        have h := P_delete hI
        refine lv_aload_n hx hb d_L_202 rfl (lv_at hl 1 rfl) ?_
        refine l_callTi (As := []) (rest := []) X hl.1 B hA (fun sz => c_T_delete l D gA gC _ _ h sz) cw_L_T_delete ⟨Nat.le_of_ble_eq_true rfl, Nat.le_of_ble_eq_true rfl⟩ rfl (Nat.le_of_ble_eq_true rfl) rfl d_L_203 (fun r1 u2 H locs h B => ?_)
        refine lv_aload_n hx hb d_L_206 rfl (lv_at hl 2 rfl) ?_
        refine l_callMi (As := []) (rest := [.int (iI r1)]) X hl.1 B hA (fun sz => c_M_delete l D gB gD _ _ h sz) cw_L_M_delete ⟨Nat.le_of_ble_eq_true rfl, Nat.le_of_ble_eq_true rfl⟩ rfl (Nat.le_of_ble_eq_true rfl) rfl d_L_207 (fun r2 v2 H locs h B => ?_)
        refine lv_icmp_eq (tgt := 280) hx hb d_L_210 (by decide) (fun _ => ?_) (fun c8 => ?_)
        · exact next u2 v2 H locs ls h.2 B hl
        · exact absurd (by rw [h.1]) c8
      · refine lv_tableIn (tgt := 215) (off := 183) hx hb d_L_32 (by decide) (by decide) (by decide) (by decide) ?_
        have h := P_size hI
        refine lv_aload_n hx hb d_L_215 rfl (lv_at hl 1 rfl) ?_
        refine l_callTi (As := []) (rest := []) X hl.1 B hA (fun sz => c_T_size l D gA gC _ _ h sz) cw_L_T_size ⟨Nat.le_of_ble_eq_true rfl, Nat.le_of_ble_eq_true rfl⟩ rfl (Nat.le_of_ble_eq_true rfl) rfl d_L_216 (fun r1 u2 H locs h B => ?_)
        refine lv_aload_n hx hb d_L_219 rfl (lv_at hl 2 rfl) ?_
        refine l_callMi (As := []) (rest := [.int (iI r1)]) X hl.1 B hA (fun sz => c_M_size l D gB gD _ _ h sz) cw_L_M_size ⟨Nat.le_of_ble_eq_true rfl, Nat.le_of_ble_eq_true rfl⟩ rfl (Nat.le_of_ble_eq_true rfl) rfl d_L_220 (fun r2 v2 H locs h B => ?_)
        refine lv_icmp_eq (tgt := 280) hx hb d_L_223 (by decide) (fun _ => ?_) (fun c8 => ?_)
        · exact next u2 v2 H locs ls h.2 B hl
        · exact absurd (by rw [h.1]) c8
      · refine lv_tableIn (tgt := 228) (off := 196) hx hb d_L_32 (by decide) (by decide) (by decide) (by decide) ?_
        have h := P_before hI
        refine lv_aload_n hx hb d_L_228 rfl (lv_at hl 1 rfl) ?_
        refine l_callTi (As := []) (rest := []) X hl.1 B hA (fun sz => c_T_before l D gA gC _ _ h sz) cw_L_T_before ⟨Nat.le_of_ble_eq_true rfl, Nat.le_of_ble_eq_true rfl⟩ rfl (Nat.le_of_ble_eq_true rfl) rfl d_L_229 (fun r1 u2 H locs h B => ?_)
        refine lv_aload_n hx hb d_L_232 rfl (lv_at hl 2 rfl) ?_
        refine l_callMi (As := []) (rest := [.int (iI r1)]) X hl.1 B hA (fun sz => c_M_before l D gB gD _ _ h sz) cw_L_M_before ⟨Nat.le_of_ble_eq_true rfl, Nat.le_of_ble_eq_true rfl⟩ rfl (Nat.le_of_ble_eq_true rfl) rfl d_L_233 (fun r2 v2 H locs h B => ?_)
        refine lv_icmp_eq (tgt := 280) hx hb d_L_236 (by decide) (fun _ => ?_) (fun c8 => ?_)
        · exact next u2 v2 H locs ls h.2 B hl
        · exact absurd (by rw [h.1]) c8
      · refine lv_tableIn (tgt := 241) (off := 209) hx hb d_L_32 (by decide) (by decide) (by decide) (by decide) ?_
        have h := P_held hI
        refine lv_aload_n hx hb d_L_241 rfl (lv_at hl 1 rfl) ?_
        refine l_callTi (As := []) (rest := []) X hl.1 B hA (fun sz => c_T_held l D gA gC _ _ h sz) cw_L_T_held ⟨Nat.le_of_ble_eq_true rfl, Nat.le_of_ble_eq_true rfl⟩ rfl (Nat.le_of_ble_eq_true rfl) rfl d_L_242 (fun r1 u2 H locs h B => ?_)
        refine lv_aload_n hx hb d_L_245 rfl (lv_at hl 2 rfl) ?_
        refine l_callMi (As := []) (rest := [.int (iI r1)]) X hl.1 B hA (fun sz => c_M_held l D gB gD _ _ h sz) cw_L_M_held ⟨Nat.le_of_ble_eq_true rfl, Nat.le_of_ble_eq_true rfl⟩ rfl (Nat.le_of_ble_eq_true rfl) rfl d_L_246 (fun r2 v2 H locs h B => ?_)
        refine lv_icmp_eq (tgt := 280) hx hb d_L_249 (by decide) (fun _ => ?_) (fun c8 => ?_)
        · exact next u2 v2 H locs ls h.2 B hl
        · exact absurd (by rw [h.1]) c8
      · refine lv_tableIn (tgt := 254) (off := 222) hx hb d_L_32 (by decide) (by decide) (by decide) (by decide) ?_
        have h := P_beginning hI
        refine lv_aload_n hx hb d_L_254 rfl (lv_at hl 1 rfl) ?_
        refine l_callTi (As := []) (rest := []) X hl.1 B hA (fun sz => c_T_beginning l D gA gC _ _ h sz) cw_L_T_beginning ⟨Nat.le_of_ble_eq_true rfl, Nat.le_of_ble_eq_true rfl⟩ rfl (Nat.le_of_ble_eq_true rfl) rfl d_L_255 (fun r1 u2 H locs h B => ?_)
        refine lv_aload_n hx hb d_L_258 rfl (lv_at hl 2 rfl) ?_
        refine l_callMi (As := []) (rest := [.int (iI r1)]) X hl.1 B hA (fun sz => c_M_beginning l D gB gD _ _ h sz) cw_L_M_beginning ⟨Nat.le_of_ble_eq_true rfl, Nat.le_of_ble_eq_true rfl⟩ rfl (Nat.le_of_ble_eq_true rfl) rfl d_L_259 (fun r2 v2 H locs h B => ?_)
        refine lv_icmp_eq (tgt := 280) hx hb d_L_262 (by decide) (fun _ => ?_) (fun c8 => ?_)
        · exact next u2 v2 H locs ls h.2 B hl
        · exact absurd (by rw [h.1]) c8
      · refine lv_tableIn (tgt := 267) (off := 235) hx hb d_L_32 (by decide) (by decide) (by decide) (by decide) ?_
        have h := P_common hI
        refine lv_aload_n hx hb d_L_267 rfl (lv_at hl 1 rfl) ?_
        refine l_callTi (As := []) (rest := []) X hl.1 B hA (fun sz => c_T_common l D gA gC _ _ h sz) cw_L_T_common ⟨Nat.le_of_ble_eq_true rfl, Nat.le_of_ble_eq_true rfl⟩ rfl (Nat.le_of_ble_eq_true rfl) rfl d_L_268 (fun r1 u2 H locs h B => ?_)
        refine lv_aload_n hx hb d_L_271 rfl (lv_at hl 2 rfl) ?_
        refine l_callMi (As := []) (rest := [.int (iI r1)]) X hl.1 B hA (fun sz => c_M_common l D gB gD _ _ h sz) cw_L_M_common ⟨Nat.le_of_ble_eq_true rfl, Nat.le_of_ble_eq_true rfl⟩ rfl (Nat.le_of_ble_eq_true rfl) rfl d_L_272 (fun r2 v2 H locs h B => ?_)
        refine lv_icmp_eq (tgt := 280) hx hb d_L_275 (by decide) (fun _ => ?_) (fun c8 => ?_)
        · exact next u2 v2 H locs ls h.2 B hl
        · exact absurd (by rw [h.1]) c8
      · refine lv_tableOut (tgt := 280) hx hb d_L_32 (by decide) (by decide) ?_
        exact next u v H locs ls hI B hl
      · refine lv_tableOut (tgt := 280) hx hb d_L_32 (by decide) (by decide) ?_
        exact next u v H locs ls hI B hl
      · refine lv_tableOut (tgt := 280) hx hb d_L_32 (by decide) (by decide) ?_
        exact next u v H locs ls hI B hl
      · refine lv_tableOut (tgt := 280) hx hb d_L_32 (by decide) (by decide) ?_
        exact next u v H locs ls hI B hl
theorem ml_cT : Cond.classLink "TermIndexLaw" 7 R_T ∈ tw_tbl := tw_mem (List.mem_append_right _ (List.mem_of_getElem? (i := 3) (by decide +kernel))) rfl
theorem ml_cM : Cond.classLink "TermIndexLaw" 10 R_M ∈ tw_tbl := tw_mem (List.mem_append_right _ (List.mem_of_getElem? (i := 174) (by decide +kernel))) rfl
theorem ml_iT : Cond.instantiable R_T 13 ∈ tw_tbl := tw_mem (List.mem_append_right _ (List.mem_of_getElem? (i := 4) (by decide +kernel))) rfl
theorem ml_iM : Cond.instantiable R_M 5 ∈ tw_tbl := tw_mem (List.mem_append_right _ (List.mem_of_getElem? (i := 175) (by decide +kernel))) rfl
theorem ml_nT : Cond.initialized R_T ∈ tw_tbl := tw_mem (List.mem_append_right _ (List.mem_of_getElem? (i := 1) (by decide +kernel))) rfl
theorem ml_nM : Cond.initialized R_M ∈ tw_tbl := tw_mem (List.mem_append_right _ (List.mem_of_getElem? (i := 2) (by decide +kernel))) rfl
theorem ml_lT : Cond.methodLink "TermIndexLaw" 9 y_T_init ∈ tw_tbl := tw_mem (List.mem_append_right _ (List.mem_of_getElem? (i := 5) (by decide +kernel))) rfl
theorem ml_lM : Cond.methodLink "TermIndexLaw" 12 y_M_init ∈ tw_tbl := tw_mem (List.mem_append_right _ (List.mem_of_getElem? (i := 176) (by decide +kernel))) rfl
theorem ml_mT : Cond.instanceMethod y_T_init ∈ tw_tbl := tw_mem (List.mem_append_right _ (List.mem_of_getElem? (i := 6) (by decide +kernel))) rfl
theorem ml_mM : Cond.instanceMethod y_M_init ∈ tw_tbl := tw_mem (List.mem_append_right _ (List.mem_of_getElem? (i := 177) (by decide +kernel))) rfl
theorem ml_kT : Cond.code y_T_init b_T_init 1 none ∈ tw_tbl := tw_mem (List.mem_append_right _ (List.mem_of_getElem? (i := 7) (by decide +kernel))) rfl
theorem ml_kM : Cond.code y_M_init b_M_init 1 none ∈ tw_tbl := tw_mem (List.mem_append_right _ (List.mem_of_getElem? (i := 178) (by decide +kernel))) rfl
set_option maxHeartbeats 4000000 in
set_option maxRecDepth 100000 in
/-- THE LAW, from its entry -/
theorem whole_start {p : Program} {e : Env} {s : State} {m : MethodId} {below : List Frame} {meth : Method} {c : Code} (l : Launch) {b L : Nat} {xs : Nat → Int32} (hL : L ≤ 1024) (C0 : lw_At p s m meth c b L xs) : W p l e room_1 s m #[Value.ref b] below meth c s.heap [] 0 0 (lw_Z below #[Value.ref b] s) (entryFrame m ([Value.ref b] : List Value).toArray 4) := by
  obtain ⟨hx, hb, hr, hml, hown, hts0, hX, hbl, hlocks, hgv⟩ := id C0
  have hts : ∀ w ∈ tw_tbl, w.before #[Value.ref b] s = true := fun w hw => hts0 w (tw_sub w hw)
  have hown : s.vm.findClass "TermIndexLaw" = some m.cls := hown
  have hA : ∀ q : Nat, s.heap.size ≤ q → (fun q : Nat => s.heap.size ≤ q) q := fun _ h => h
  obtain ⟨c0, iS0, hKn0⟩ := u_known (C := R_T) (T := F_T) (N := 13) (n := 13) hts i_T (hts _ ml_iT)
  obtain ⟨c1, iS1, hKn1⟩ := u_known (C := R_M) (T := F_M) (N := 5) (n := 5) hts i_M (hts _ ml_iM)
  obtain ⟨D, hKc⟩ : ∃ D : va_G, ∀ (k : Nat) (q : vw_C), classes[k]? = some q → u_Kn s q.1 q.2.1 q.2.2 (D.1 k) (D.2 k) := by
    refine ⟨(fun k => if k = 0 then c0 else c1, fun k => if k = 0 then iS0 else iS1), ?_⟩
    intro k q hq
    match k, hq with
    | 0, hq => cases hq; exact hKn0
    | 1, hq => cases hq; exact hKn1
    | k + 2, hq => simp [classes] at hq
  have hS : va_S (fun q : Nat => s.heap.size ≤ q) s.heap s.heap [] := va_S.rf
  have hK : va_K D classes [] s := ⟨hKc, fun k q h => by simp at h⟩
  have hP : va_P D classes [] s.heap := fun k q h => by simp at h
  have hD : va_D (fun q : Nat => s.heap.size ≤ q) [] := ⟨fun i j p q h => by simp at h, fun k q h => by simp at h⟩
  have hl := lv_entry ([.ref b]) (n := 4) (Nat.le_of_ble_eq_true rfl)
  rw [lg_entry_eq]
  generalize (lg_sl ([.ref b]) ++ List.replicate (4 - (lg_sl ([.ref b])).length) Slot.unset).toArray = ls at hl ⊢
  have hl : lv_has ls 4 [(0, .ref b)] := hl
  refine va_new (D := D) (cl := classes) (ci := 0) (fs := [.int 0, .null, .int 0, .null, .null, .null, .null, .int 0, .int 0, .int 0, .int 0, .null, .null]) (C := R_T) (T := F_T) (N := 13) hx hb hts i_T fy_T fy_T_ok hown (hts _ ml_cT) (hts _ ml_iT) (hts _ ml_nT) hK hP hD hS hA rfl (fun j hj => by rcases (show j = 0 ∨ j = 1 ∨ j = 2 ∨ j = 3 ∨ j = 4 ∨ j = 5 ∨ j = 6 ∨ j = 7 ∨ j = 8 ∨ j = 9 ∨ j = 10 ∨ j = 11 ∨ j = 12 by omega) with rfl | rfl | rfl | rfl | rfl | rfl | rfl | rfl | rfl | rfl | rfl | rfl | rfl <;> rfl) (Nat.le_of_ble_eq_true rfl) (Nat.le_of_ble_eq_true rfl) d_L_0 (fun qT H hP hD hS => ?_)
  have hP : va_P D classes ([(qT, .inr (0, [.int 0, .null, .int 0, .null, .null, .null, .null, .int 0, .int 0, .int 0, .int 0, .null, .null]))]) H := hP
  have hD : va_D (fun q : Nat => s.heap.size ≤ q) ([(qT, .inr (0, [.int 0, .null, .int 0, .null, .null, .null, .null, .int 0, .int 0, .int 0, .int 0, .null, .null]))]) := hD
  refine W.widen (k := 1) (n := 13) (Nat.le_of_ble_eq_true rfl) (Nat.le_of_ble_eq_true rfl) ?_
  refine lv_dup hx hb d_L_3 rfl ?_
  have hPc := hP.sub (ws' := [(qT, .inr (0, [.int 0, .null, .int 0, .null, .null, .null, .null, .int 0, .int 0, .int 0, .int 0, .null, .null]))]) [0] rfl
  have hDc := hD.sub (ws' := [(qT, .inr (0, [.int 0, .null, .int 0, .null, .null, .null, .null, .int 0, .int 0, .int 0, .int 0, .null, .null]))]) [0] (by decide) rfl
  have hKc := hK.sub (tys' := []) [] rfl
  have hFc := va_free (wc := [(qT, .inr (0, [.int 0, .null, .int 0, .null, .null, .null, .null, .int 0, .int 0, .int 0, .int 0, .null, .null]))]) hD hS hA [0] rfl
  refine va_callv (va_runI (As := []) (rest := [.ref qT]) ⟨hx, hb, hml, hown, hts⟩ (c_T_init l D qT H.size) (cwI 0 hts (good_cons ml_kT) rfl rfl rfl (hts _ ml_nT) (hts _ ml_lT) (hts _ ml_mT) rfl (by decide +kernel) ⟨Nat.le_of_ble_eq_true rfl, Nat.le_of_ble_eq_true rfl⟩) ⟨fun a U g mk q => by obtain ⟨q0, q1, qP, qK, qD⟩ := q; exact ⟨q0, q1, qP, va_K.moved (u := U) (U := U.calling g mk a) (Vm.Alike.refl U.vm) qK, qD⟩, fun U hU hW => ⟨rfl, by rw [hU], by rw [hU]; exact hPc, va_K.moved hW.alike hKc, hDc.weaken (fun _ _ _ _ => trivial)⟩⟩ rfl rfl hl.1 rfl (lv_room (Nat.le_of_ble_eq_true rfl)) d_L_4 ⟨Nat.le_of_ble_eq_true rfl, Nat.le_of_ble_eq_true rfl⟩) hS (fun q _ h => hFc q h) hFc (fun z t H1 locs ht hvm hw hB hz1 hk1 hS => ?_)
  obtain ⟨gA, gC⟩ := z
  obtain ⟨hP1, hK1, hD1⟩ := hB
  rw [ht] at hP1
  have hK1 := va_K.moved hvm.symm hK1
  dsimp only at hw hP1 hK1 hD1
  obtain ⟨hP2, hD2⟩ := va_join (wr := []) (w1 := T_ws gA gC u0) hP hD [0] [] rfl rfl (by decide) (by decide) hk1 hFc hP1 hD1
  have hK := (hK.sub (tys' := []) [] rfl).app hK1
  subst hw
  have hP := hP2
  have hD := hD2
  have hP : va_P D classes (T_ws gA gC u0) H1 := hP
  have hD : va_D (fun q : Nat => s.heap.size ≤ q) (T_ws gA gC u0) := hD
  have hK : va_K D classes (T_tys gC) s := hK
  refine W.widen (k := 8) (n := 947) (Nat.le_of_ble_eq_true rfl) (Nat.le_of_ble_eq_true rfl) ?_
  refine lv_astore_n (lv' := [(1, .ref (gA 0)), (0, .ref b)]) hx hb d_L_7 rfl hl (by decide) rfl (fun ls hl => ?_)
  refine va_new (D := D) (cl := classes) (ci := 1) (fs := [.int 0, .null, .null, .null, .int 0]) (C := R_M) (T := F_M) (N := 5) hx hb hts i_M fy_M fy_M_ok hown (hts _ ml_cM) (hts _ ml_iM) (hts _ ml_nM) hK hP hD hS hA rfl (fun j hj => by rcases (show j = 0 ∨ j = 1 ∨ j = 2 ∨ j = 3 ∨ j = 4 by omega) with rfl | rfl | rfl | rfl | rfl <;> rfl) (Nat.le_of_ble_eq_true rfl) (Nat.le_of_ble_eq_true rfl) d_L_8 (fun qM H hP hD hS => ?_)
  have hP : va_P D classes (T_ws gA gC u0 ++ [(qM, .inr (1, [.int 0, .null, .null, .null, .int 0]))]) H := hP
  have hD : va_D (fun q : Nat => s.heap.size ≤ q) (T_ws gA gC u0 ++ [(qM, .inr (1, [.int 0, .null, .null, .null, .int 0]))]) := hD
  refine W.widen (k := 9) (n := 952) (Nat.le_of_ble_eq_true rfl) (Nat.le_of_ble_eq_true rfl) ?_
  refine lv_dup hx hb d_L_11 rfl ?_
  have hPc := hP.sub (ws' := [(qM, .inr (1, [.int 0, .null, .null, .null, .int 0]))]) [8] rfl
  have hDc := hD.sub (ws' := [(qM, .inr (1, [.int 0, .null, .null, .null, .int 0]))]) [8] (by decide) rfl
  have hKc := hK.sub (tys' := []) [] rfl
  have hFc := va_free (wc := [(qM, .inr (1, [.int 0, .null, .null, .null, .int 0]))]) hD hS hA [8] rfl
  refine va_callv (va_runI (As := []) (rest := [.ref qM]) ⟨hx, hb, hml, hown, hts⟩ (c_M_init l D qM H.size) (cwI 0 hts (good_cons ml_kM) rfl rfl rfl (hts _ ml_nM) (hts _ ml_lM) (hts _ ml_mM) rfl (by decide +kernel) ⟨Nat.le_of_ble_eq_true rfl, Nat.le_of_ble_eq_true rfl⟩) ⟨fun a U g mk q => by obtain ⟨q0, q1, qP, qK, qD⟩ := q; exact ⟨q0, q1, qP, va_K.moved (u := U) (U := U.calling g mk a) (Vm.Alike.refl U.vm) qK, qD⟩, fun U hU hW => ⟨rfl, by rw [hU], by rw [hU]; exact hPc, va_K.moved hW.alike hKc, hDc.weaken (fun _ _ _ _ => trivial)⟩⟩ rfl rfl hl.1 rfl (lv_room (Nat.le_of_ble_eq_true rfl)) d_L_12 ⟨Nat.le_of_ble_eq_true rfl, Nat.le_of_ble_eq_true rfl⟩) hS (fun q _ h => hFc q h) hFc (fun z t H1 locs ht hvm hw hB hz1 hk1 hS => ?_)
  obtain ⟨gB, gD⟩ := z
  obtain ⟨hP1, hK1, hD1⟩ := hB
  rw [ht] at hP1
  have hK1 := va_K.moved hvm.symm hK1
  dsimp only at hw hP1 hK1 hD1
  obtain ⟨hP2, hD2⟩ := va_join (wr := T_ws gA gC u0) (w1 := M_ws gB gD v0) hP hD [8] [0, 1, 2, 3, 4, 5, 6, 7] rfl rfl (by decide) (by decide) hk1 hFc hP1 hD1
  have hK := (hK.sub (tys' := T_tys gC) [0, 1, 2, 3, 4, 5, 6] rfl).app hK1
  subst hw
  have hP := hP2
  have hD := hD2
  refine W.widen (k := 12) (n := 1238) (Nat.le_of_ble_eq_true rfl) (Nat.le_of_ble_eq_true rfl) ?_
  refine lv_astore_n (lv' := [(2, .ref (gB 0)), (1, .ref (gA 0)), (0, .ref b)]) hx hb d_L_15 rfl hl (by decide) rfl (fun ls hl => ?_)
  refine lv_iconst (v := iI 0) hx hb d_L_16 rfl ?_
  refine lv_istore_n (lv' := [(3, .int (iI 0)), (2, .ref (gB 0)), (1, .ref (gA 0)), (0, .ref b)]) hx hb d_L_17 rfl hl (by decide) rfl (fun ls hl => ?_)
  exact law_loop hL C0 hK (L + 1) 0 0 u0 v0 _ _ ls rfl (Nat.zero_le L) (by omega) INV_0 ⟨hP, hD, hS⟩ (lv_sub hl [3, 2, 1, 0] rfl)
end
section
-- ===== YOUR PART ENDS =====
set_option maxHeartbeats 4000000 in
theorem lw_walk (l : Launch) (b : Addr) (xs : List Int32) : MetFree l x (headSpec (Jvm.Cond.code x code maxLocals ret :: tables_1) room_1) (lw_P b xs) (fun _ _ _ _ _ => True) lw_Q := by
  refine MetFree.of_bodyS (code := code) (maxLocals := maxLocals) (ret := ret) (by decide) ?_ ?_
  · intro args s m h hn
    obtain ⟨meth, c, h1, h2, h3, h4, h5, h6, -, -⟩ := Cond.code_spec hn (atoms_spec (ws := Jvm.Cond.code x code maxLocals ret :: tables_1) h _ List.mem_cons_self)
    exact ⟨meth, c, h1, h2, h3, h4, h5, h6⟩
  · intro p e s m args below meth c s₁ B hml0 hP _
    obtain ⟨rfl, hx, hbd, hgv⟩ := hP
    obtain ⟨scr, harrAt, hlist, hof, hsmall⟩ := hx
    obtain ⟨hcb, hkn, -, -⟩ := State.arrayAt?_spec harrAt
    have hown : s.vm.findClass R_law = some m.cls := findClass_of_methodNamed B.named
    have hts0 : ∀ c ∈ (Jvm.Cond.code x code maxLocals ret :: tables_1), c.before #[Value.ref b] s = true := atoms_spec (ws := Jvm.Cond.code x code maxLocals ret :: tables_1) B.pre
    have hts : ∀ w ∈ lw_tbl, w.before #[Value.ref b] s = true := k2_hts_sels lw_privs (fun w hw => hts0 w (List.mem_cons_of_mem _ hw)) lw_privs_ok
    have hml : c.maxLocals = 4 := B.maxLocals_eq (hts0 _ List.mem_cons_self)
    have X₀ : Stand p l e room_1 s m #[Value.ref b] below meth c s₁ [] 0 0 := Stand.of_body B
    have hh0 : s₁.heap = s.heap := by rw [B.state]; rfl
    have hsz : scr.slots.size = xs.length := by rw [← Array.length_toList, hlist, List.length_map]
    have hval : ∀ j : Nat, j < xs.length → scr.slots[j]? = some (.int (xs.getD j 0)) := fun j hj => by
      rw [← Array.getElem?_toList, hlist]
      simp [hj]
    have hbl : b < s.heap.size := (Array.getElem?_eq_some_iff.mp hcb).1
    have hX : va_X b xs.length (fun j => xs.getD j 0) s s.heap := ⟨scr, hcb, hof, hkn, hsz, hval⟩
    have K : W p l e room_1 s m #[Value.ref b] below meth c s₁.heap [] 0 0 (lw_Z below #[Value.ref b] s) (entryFrame m ([Value.ref b] : List Value).toArray 4) := by
      rw [hh0]
      exact whole_start l hbd ⟨B.exec, B.bytes, B.returns, hml, hown, hts, hX, hbl, B.notSynchronized, hgv⟩
    obtain ⟨t, a1, o, b1, b2, b3⟩ := K s₁ rfl X₀
    exact ⟨t, o, a1, b1, b2, b3⟩
theorem lw_pre_spec {args : Array Value} {s : State} (h : (Jvm.Cond.and given_1 narrow_1).before args s = true) (hr : rest_1_c.before args s = true) : ∃ (b : Addr) (xs : List Int32), lw_P b xs args s := by
  have hs := flat_of_before _ h
  have hq := flat_of_before _ hr
  have hc : (Cond.count 1).before args s = true := hs _ (by decide +kernel)
  have harr : (Cond.arrayOf (.arg 0) .int).before args s = true := hs _ (by decide +kernel)
  have hle : (Cond.le (.length (.arg 0)) (.int 1024)).before args s = true := hs _ (by decide +kernel)
  have hlen : (Cond.isInt (.length (.arg 0))).before args s = true := hq _ (by decide +kernel)
  have hall : (Cond.all (.arg 0) (.isInt (.elem (.arg 0) (.index 0)))).before args s = true := hq _ (by decide +kernel)
  obtain ⟨b, xs, hb, hx⟩ := State.ints_of_pre rfl harr hlen hall
  have hsm : xs.length < 2 ^ 31 := hx.choose_spec.2.2.2
  have hev : (Term.length (.arg 0)).eval args s none [] s = some (.int xs.length.toInt32) := hx.length_eval hb
  have hv := Cond.le_ints hev (show (Term.int 1024).eval args s none [] s = some (.int 1024) from rfl)
  have hd : xs.length.toInt32 ≤ 1024 := by
    simpa [Cond.before, Cond.holds, hv] using hle
  have hN : xs.length ≤ 1024 := (Int32.ofNat_le_ofNat hsm (by decide)).mp (show Int32.ofNat xs.length ≤ Int32.ofNat 1024 from hd)
  exact ⟨b, xs, Cond.one_arg hc (show args[0]? = some (.ref b) from hb), hx, hN, h⟩
theorem lw_comes (l : Launch) : Comes l x (Jvm.Cond.code x code maxLocals ret :: tables_1) room_1 (fun tb e args s => Calls_1 tb e args s ∧ rest_1 tb e args s ∧ Pre_1 tb e args s)
    (fun _ _ args s o t => lw_Q args s o t) := by
  intro p e ha hc hk s m args below hf hfit hheap happ hpre
  obtain ⟨b, xs, hP⟩ := lw_pre_spec hpre.2.2 hpre.2.1
  obtain ⟨k, o, h1, h2, h3, hQ⟩ := lw_walk l b xs p e ha hc hk s m args below hf ((Spec.applies_iff_loose hf).mp happ).1 hP trivial
  exact ⟨k, o, h1, h2, h3, hQ⟩
theorem lw_frame {s t : State} {o : Outcome} {args : Array Value} (h : Framed s o t [] 12 1238) :
    Framed s o t (fieldLocs frame_1_writes args s ++ arrayLocs frame_1_arrays args s ++ staticLocs frame_1_statics s) 12 1238 := h
theorem lw_limb (L : Cond) (hL : ∀ (args : Array Value) (s t : State), L.after args s (.returned (some (.int 1))) t = true) :
    ArmFor flags0 classFile x code maxLocals ret World_1 tables_1 room_1 Calls_1 rest_1 Pre_1
      (fun tb e a s o t => postC L tb e a s o t ∧ Framed s o t (fieldLocs frame_1_writes a s ++ arrayLocs frame_1_arrays a s ++ staticLocs frame_1_statics s) 12 1238) := by
  intro l _ _ _ p e ha hc hk s m args below hf hfit hheap happ hpre
  obtain ⟨k, o, h1, h2, h3, rfl, hF⟩ := lw_comes l p e ha hc hk s m args below hf hfit hheap happ hpre
  exact ⟨k, _, h1, h2, h3, hL args s _, lw_frame hF⟩
theorem i_vc : Claimed_1_1 ∧ Claimed_1_2 := ⟨lw_limb limb_1_1 (fun args s t => by simp [limb_1_1, Cond.after, Cond.holds, Cond.value]), lw_limb limb_1_2 (fun args s t => Cond.after_iff.mpr (by
  first | (rw [show limb_1_2 = Cond.eq .result (.int 1) from rfl, Cond.eq_ints (x := 1) (y := 1) rfl rfl]; simp; done) | (simp [limb_1_2, Cond.value, Term.eval]; done)))⟩
end
