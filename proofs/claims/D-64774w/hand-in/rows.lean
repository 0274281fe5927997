section
-- ===== PART A: goes FIRST, ahead of the names: the tables' words, and 'selects' of the private methods out of them =====
/-- a private method of a class that the tables say can be made, by its rows of tables_1 -/
def lw_okq (q : MethodName × Nat) : Prop := (q.1.cls ≠ "java/lang/invoke/MethodHandle" ∧ q.1.cls ≠ "java/lang/invoke/VarHandle") ∧ Cond.instantiable q.1.cls q.2 ∈ tables_1 ∧ Cond.privateMethod q.1 ∈ tables_1 ∧ Cond.instanceMethod q.1 ∈ tables_1
theorem lw_p0 : lw_okq (⟨"SliceChecks", "place", "(I)I"⟩, 5) := ⟨⟨by decide +kernel, by decide +kernel⟩, List.mem_of_getElem? (i := 8) (by decide +kernel), List.mem_of_getElem? (i := 138) (by decide +kernel), List.mem_of_getElem? (i := 139) (by decide +kernel)⟩
theorem lw_p1 : lw_okq (⟨"SliceChecks", "byBits", "(II)J"⟩, 5) := ⟨⟨by decide +kernel, by decide +kernel⟩, List.mem_of_getElem? (i := 8) (by decide +kernel), List.mem_of_getElem? (i := 146) (by decide +kernel), List.mem_of_getElem? (i := 147) (by decide +kernel)⟩
theorem lw_p2 : lw_okq (⟨"SliceChecks", "byBytes", "(II)J"⟩, 5) := ⟨⟨by decide +kernel, by decide +kernel⟩, List.mem_of_getElem? (i := 8) (by decide +kernel), List.mem_of_getElem? (i := 160) (by decide +kernel), List.mem_of_getElem? (i := 161) (by decide +kernel)⟩
theorem lw_p3 : lw_okq (⟨"SliceChecks", "bySlices", "(II)J"⟩, 5) := ⟨⟨by decide +kernel, by decide +kernel⟩, List.mem_of_getElem? (i := 8) (by decide +kernel), List.mem_of_getElem? (i := 165) (by decide +kernel), List.mem_of_getElem? (i := 166) (by decide +kernel)⟩
theorem lw_p4 : lw_okq (⟨"SliceChecks", "eightAt", "(I)J"⟩, 5) := ⟨⟨by decide +kernel, by decide +kernel⟩, List.mem_of_getElem? (i := 8) (by decide +kernel), List.mem_of_getElem? (i := 169) (by decide +kernel), List.mem_of_getElem? (i := 170) (by decide +kernel)⟩
theorem lw_p5 : lw_okq (⟨"SliceChecks", "byDividing", "()J"⟩, 5) := ⟨⟨by decide +kernel, by decide +kernel⟩, List.mem_of_getElem? (i := 8) (by decide +kernel), List.mem_of_getElem? (i := 177) (by decide +kernel), List.mem_of_getElem? (i := 178) (by decide +kernel)⟩
theorem lw_p6 : lw_okq (⟨"SliceChecks", "layBits", "()V"⟩, 5) := ⟨⟨by decide +kernel, by decide +kernel⟩, List.mem_of_getElem? (i := 8) (by decide +kernel), List.mem_of_getElem? (i := 181) (by decide +kernel), List.mem_of_getElem? (i := 182) (by decide +kernel)⟩
theorem lw_p7 : lw_okq (⟨"SliceChecksModel", "cut", "(J)J"⟩, 8) := ⟨⟨by decide +kernel, by decide +kernel⟩, List.mem_of_getElem? (i := 240) (by decide +kernel), List.mem_of_getElem? (i := 278) (by decide +kernel), List.mem_of_getElem? (i := 279) (by decide +kernel)⟩
theorem lw_p8 : lw_okq (⟨"SliceChecksModel", "over", "(II)J"⟩, 8) := ⟨⟨by decide +kernel, by decide +kernel⟩, List.mem_of_getElem? (i := 240) (by decide +kernel), List.mem_of_getElem? (i := 301) (by decide +kernel), List.mem_of_getElem? (i := 302) (by decide +kernel)⟩
theorem lw_p9 : lw_okq (⟨"SliceChecksModel", "oneByte", "(JI)J"⟩, 8) := ⟨⟨by decide +kernel, by decide +kernel⟩, List.mem_of_getElem? (i := 240) (by decide +kernel), List.mem_of_getElem? (i := 305) (by decide +kernel), List.mem_of_getElem? (i := 306) (by decide +kernel)⟩
theorem lw_p10 : lw_okq (⟨"SliceChecksModel", "bit", "(JI)J"⟩, 8) := ⟨⟨by decide +kernel, by decide +kernel⟩, List.mem_of_getElem? (i := 240) (by decide +kernel), List.mem_of_getElem? (i := 309) (by decide +kernel), List.mem_of_getElem? (i := 310) (by decide +kernel)⟩
theorem lw_p11 : lw_okq (⟨"SliceChecksModel", "told", "(J)J"⟩, 8) := ⟨⟨by decide +kernel, by decide +kernel⟩, List.mem_of_getElem? (i := 240) (by decide +kernel), List.mem_of_getElem? (i := 313) (by decide +kernel), List.mem_of_getElem? (i := 314) (by decide +kernel)⟩
theorem lw_p12 : lw_okq (⟨"SliceChecksModel", "turned", "(J)J"⟩, 8) := ⟨⟨by decide +kernel, by decide +kernel⟩, List.mem_of_getElem? (i := 240) (by decide +kernel), List.mem_of_getElem? (i := 317) (by decide +kernel), List.mem_of_getElem? (i := 318) (by decide +kernel)⟩
theorem lw_p13 : lw_okq (⟨"SliceChecksModel", "register", "(J)J"⟩, 8) := ⟨⟨by decide +kernel, by decide +kernel⟩, List.mem_of_getElem? (i := 240) (by decide +kernel), List.mem_of_getElem? (i := 329) (by decide +kernel), List.mem_of_getElem? (i := 330) (by decide +kernel)⟩
theorem lw_p14 : lw_okq (⟨"SliceChecksModel", "behind", "(JJ)J"⟩, 8) := ⟨⟨by decide +kernel, by decide +kernel⟩, List.mem_of_getElem? (i := 240) (by decide +kernel), List.mem_of_getElem? (i := 334) (by decide +kernel), List.mem_of_getElem? (i := 335) (by decide +kernel)⟩
theorem lw_p15 : lw_okq (⟨"SliceChecksModel", "times", "(JJ)J"⟩, 8) := ⟨⟨by decide +kernel, by decide +kernel⟩, List.mem_of_getElem? (i := 240) (by decide +kernel), List.mem_of_getElem? (i := 339) (by decide +kernel), List.mem_of_getElem? (i := 340) (by decide +kernel)⟩
def lw_privs_1 : List (MethodName × Nat) := [(⟨"SliceChecks", "place", "(I)I"⟩, 5), (⟨"SliceChecks", "byBits", "(II)J"⟩, 5), (⟨"SliceChecks", "byBytes", "(II)J"⟩, 5), (⟨"SliceChecks", "bySlices", "(II)J"⟩, 5), (⟨"SliceChecks", "eightAt", "(I)J"⟩, 5), (⟨"SliceChecks", "byDividing", "()J"⟩, 5), (⟨"SliceChecks", "layBits", "()V"⟩, 5), (⟨"SliceChecksModel", "cut", "(J)J"⟩, 8), (⟨"SliceChecksModel", "over", "(II)J"⟩, 8), (⟨"SliceChecksModel", "oneByte", "(JI)J"⟩, 8), (⟨"SliceChecksModel", "bit", "(JI)J"⟩, 8), (⟨"SliceChecksModel", "told", "(J)J"⟩, 8), (⟨"SliceChecksModel", "turned", "(J)J"⟩, 8), (⟨"SliceChecksModel", "register", "(J)J"⟩, 8), (⟨"SliceChecksModel", "behind", "(JJ)J"⟩, 8), (⟨"SliceChecksModel", "times", "(JJ)J"⟩, 8)]
theorem lw_r1 : ∀ q ∈ lw_privs_1, lw_okq q := List.forall_mem_cons.mpr ⟨lw_p0, List.forall_mem_cons.mpr ⟨lw_p1, List.forall_mem_cons.mpr ⟨lw_p2, List.forall_mem_cons.mpr ⟨lw_p3, List.forall_mem_cons.mpr ⟨lw_p4, List.forall_mem_cons.mpr ⟨lw_p5, List.forall_mem_cons.mpr ⟨lw_p6, List.forall_mem_cons.mpr ⟨lw_p7, List.forall_mem_cons.mpr ⟨lw_p8, List.forall_mem_cons.mpr ⟨lw_p9, List.forall_mem_cons.mpr ⟨lw_p10, List.forall_mem_cons.mpr ⟨lw_p11, List.forall_mem_cons.mpr ⟨lw_p12, List.forall_mem_cons.mpr ⟨lw_p13, List.forall_mem_cons.mpr ⟨lw_p14, List.forall_mem_cons.mpr ⟨lw_p15, fun _ h => absurd h List.not_mem_nil⟩⟩⟩⟩⟩⟩⟩⟩⟩⟩⟩⟩⟩⟩⟩⟩
def lw_privs : List (MethodName × Nat) := lw_privs_1
def lw_tbl : List Cond := k2_sels lw_privs ++ tables_1
theorem lw_privs_ok : ∀ q ∈ lw_privs, lw_okq q := lw_r1
-- ===== names, printed by gen/names.py =====
def R_law : String := "SliceChecksLaw"
def R_K : String := "SliceChecks$Kind"
def F_K : u_T := fun k => match k with
  | 0 => ("SliceChecks$Kind", "width", "I", true)
  | 1 => ("SliceChecks$Kind", "mask", "J", true)
  | 2 => ("SliceChecks$Kind", "polynomial", "J", true)
  | 3 => ("SliceChecks$Kind", "first", "J", true)
  | 4 => ("SliceChecks$Kind", "last", "J", true)
  | 5 => ("SliceChecks$Kind", "in", "Z", true)
  | 6 => ("SliceChecks$Kind", "out", "Z", true)
  | _ => ("SliceChecks$Kind", "tables", "[J", true)
def t_K : Nat → FieldType := fun k => match k with
  | 0 => .int
  | 1 => .long
  | 2 => .long
  | 3 => .long
  | 4 => .long
  | 5 => .boolean
  | 6 => .boolean
  | _ => .array .long
abbrev w_K : List Cond := u_ws R_K F_K 8
def R_P : String := "SliceChecks$Powers"
def F_P : u_T := fun k => match k with
  | 0 => ("SliceChecks$Powers", "now", "[J", true)
  | _ => ("SliceChecks$Powers", "square", "[J", true)
def t_P : Nat → FieldType := fun k => match k with
  | 0 => .array .long
  | _ => .array .long
abbrev w_P : List Cond := u_ws R_P F_P 2
def R_X : String := "SliceChecks"
def F_X : u_T := fun k => match k with
  | 0 => ("SliceChecks", "kind", "LSliceChecks$Kind;", false)
  | 1 => ("SliceChecks", "powers", "LSliceChecks$Powers;", true)
  | 2 => ("SliceChecks", "bytes", "[B", true)
  | 3 => ("SliceChecks", "row", "[B", true)
  | _ => ("SliceChecks", "size", "I", false)
def t_X : Nat → FieldType := fun k => match k with
  | 0 => .object "SliceChecks$Kind"
  | 1 => .object "SliceChecks$Powers"
  | 2 => .array .byte
  | 3 => .array .byte
  | _ => .int
abbrev w_X : List Cond := u_ws R_X F_X 5
def R_M : String := "SliceChecksModel"
def F_M : u_T := fun k => match k with
  | 0 => ("SliceChecksModel", "width", "I", false)
  | 1 => ("SliceChecksModel", "polynomial", "J", false)
  | 2 => ("SliceChecksModel", "first", "J", false)
  | 3 => ("SliceChecksModel", "last", "J", false)
  | 4 => ("SliceChecksModel", "in", "Z", false)
  | 5 => ("SliceChecksModel", "out", "Z", false)
  | 6 => ("SliceChecksModel", "bytes", "[I", true)
  | _ => ("SliceChecksModel", "count", "I", false)
def t_M : Nat → FieldType := fun k => match k with
  | 0 => .int
  | 1 => .long
  | 2 => .long
  | 3 => .long
  | 4 => .boolean
  | 5 => .boolean
  | 6 => .array .int
  | _ => .int
abbrev w_M : List Cond := u_ws R_M F_M 8
def R_L : String := "java/lang/Long"
def R_S : String := "java/lang/System"
abbrev classes : List vw_C := [(R_K, F_K, 8), (R_P, F_P, 2), (R_X, F_X, 5), (R_M, F_M, 8)]
abbrev b_X_init : ByteArray := prog_1_method_2_code
def y_X_init : MethodName := ⟨R_X, "<init>", "()V"⟩
abbrev b_K_init : ByteArray := prog_2_method_1_code
def y_K_init : MethodName := ⟨R_K, "<init>", "(IJJZZJ)V"⟩
abbrev b_K_shift : ByteArray := prog_2_method_5_code
def y_K_shift : MethodName := ⟨R_K, "shift", "(JII)J"⟩
abbrev b_K_stand : ByteArray := prog_2_method_3_code
def y_K_stand : MethodName := ⟨R_K, "stand", "(J)J"⟩
abbrev b_K_turned : ByteArray := prog_2_method_2_code
def y_K_turned : MethodName := ⟨R_K, "turned", "(J)J"⟩
abbrev b_L_reverse : ByteArray := prog_6_method_53_code
def y_L_reverse : MethodName := ⟨R_L, "reverse", "(J)J"⟩
abbrev b_L_reverseBytes : ByteArray := prog_6_method_58_code
def y_L_reverseBytes : MethodName := ⟨R_L, "reverseBytes", "(J)J"⟩
abbrev b_K_next : ByteArray := prog_2_method_6_code
def y_K_next : MethodName := ⟨R_K, "next", "(JI)J"⟩
abbrev b_P_init : ByteArray := prog_3_method_1_code
def y_P_init : MethodName := ⟨R_P, "<init>", "()V"⟩
abbrev b_X_kind : ByteArray := prog_1_method_3_code
def y_X_kind : MethodName := ⟨R_X, "kind", "(IJJZZJ)Z"⟩
abbrev b_X_within : ByteArray := prog_1_method_1_code
def y_X_within : MethodName := ⟨R_X, "within", "(III)Z"⟩
abbrev b_X_feed : ByteArray := prog_1_method_4_code
def y_X_feed : MethodName := ⟨R_X, "feed", "(II)Z"⟩
abbrev b_X_clear : ByteArray := prog_1_method_5_code
def y_X_clear : MethodName := ⟨R_X, "clear", "()V"⟩
abbrev b_X_flip : ByteArray := prog_1_method_7_code
def y_X_flip : MethodName := ⟨R_X, "flip", "(I)Z"⟩
abbrev b_X_place : ByteArray := prog_1_method_6_code
def y_X_place : MethodName := ⟨R_X, "place", "(I)I"⟩
abbrev b_X_check : ByteArray := prog_1_method_14_code
def y_X_check : MethodName := ⟨R_X, "check", "(I)J"⟩
abbrev b_X_byBits : ByteArray := prog_1_method_8_code
def y_X_byBits : MethodName := ⟨R_X, "byBits", "(II)J"⟩
abbrev b_K_finish : ByteArray := prog_2_method_8_code
def y_K_finish : MethodName := ⟨R_K, "finish", "(J)J"⟩
abbrev b_K_lie : ByteArray := prog_2_method_4_code
def y_K_lie : MethodName := ⟨R_K, "lie", "(J)J"⟩
abbrev b_X_byBytes : ByteArray := prog_1_method_9_code
def y_X_byBytes : MethodName := ⟨R_X, "byBytes", "(II)J"⟩
abbrev b_X_bySlices : ByteArray := prog_1_method_11_code
def y_X_bySlices : MethodName := ⟨R_X, "bySlices", "(II)J"⟩
abbrev b_X_eightAt : ByteArray := prog_1_method_10_code
def y_X_eightAt : MethodName := ⟨R_X, "eightAt", "(I)J"⟩
abbrev b_K_slice : ByteArray := prog_2_method_7_code
def y_K_slice : MethodName := ⟨R_K, "slice", "(JJ)J"⟩
abbrev b_X_byDividing : ByteArray := prog_1_method_13_code
def y_X_byDividing : MethodName := ⟨R_X, "byDividing", "()J"⟩
abbrev b_X_layBits : ByteArray := prog_1_method_12_code
def y_X_layBits : MethodName := ⟨R_X, "layBits", "()V"⟩
abbrev b_X_part : ByteArray := prog_1_method_15_code
def y_X_part : MethodName := ⟨R_X, "part", "(II)J"⟩
abbrev b_X_joined : ByteArray := prog_1_method_16_code
def y_X_joined : MethodName := ⟨R_X, "joined", "(JJI)J"⟩
abbrev b_K_begin : ByteArray := prog_2_method_9_code
def y_K_begin : MethodName := ⟨R_K, "begin", "(J)J"⟩
abbrev b_P_go : ByteArray := prog_3_method_3_code
def y_P_go : MethodName := ⟨R_P, "go", "(LSliceChecks$Kind;JJ)J"⟩
abbrev b_P_times : ByteArray := prog_3_method_2_code
def y_P_times : MethodName := ⟨R_P, "times", "([JJ)J"⟩
abbrev b_X_entry : ByteArray := prog_1_method_17_code
def y_X_entry : MethodName := ⟨R_X, "entry", "(II)J"⟩
abbrev b_X_zeros : ByteArray := prog_1_method_18_code
def y_X_zeros : MethodName := ⟨R_X, "zeros", "(JI)J"⟩
abbrev b_X_round : ByteArray := prog_1_method_19_code
def y_X_round : MethodName := ⟨R_X, "round", "()I"⟩
abbrev b_X_holds : ByteArray := prog_1_method_20_code
def y_X_holds : MethodName := ⟨R_X, "holds", "()Z"⟩
abbrev b_X_count : ByteArray := prog_1_method_21_code
def y_X_count : MethodName := ⟨R_X, "count", "(I)I"⟩
abbrev b_X_told : ByteArray := prog_1_method_22_code
def y_X_told : MethodName := ⟨R_X, "told", "(I)J"⟩
abbrev b_M_init : ByteArray := prog_5_method_1_code
def y_M_init : MethodName := ⟨R_M, "<init>", "()V"⟩
abbrev b_M_kind : ByteArray := prog_5_method_4_code
def y_M_kind : MethodName := ⟨R_M, "kind", "(IJJZZJ)Z"⟩
abbrev b_M_cut : ByteArray := prog_5_method_3_code
def y_M_cut : MethodName := ⟨R_M, "cut", "(J)J"⟩
abbrev b_M_low : ByteArray := prog_5_method_2_code
def y_M_low : MethodName := ⟨R_M, "low", "(JI)J"⟩
abbrev b_M_feed : ByteArray := prog_5_method_5_code
def y_M_feed : MethodName := ⟨R_M, "feed", "(II)Z"⟩
abbrev b_M_clear : ByteArray := prog_5_method_6_code
def y_M_clear : MethodName := ⟨R_M, "clear", "()V"⟩
abbrev b_M_flip : ByteArray := prog_5_method_7_code
def y_M_flip : MethodName := ⟨R_M, "flip", "(I)Z"⟩
abbrev b_M_check : ByteArray := prog_5_method_14_code
def y_M_check : MethodName := ⟨R_M, "check", "(I)J"⟩
abbrev b_M_over : ByteArray := prog_5_method_13_code
def y_M_over : MethodName := ⟨R_M, "over", "(II)J"⟩
abbrev b_M_oneByte : ByteArray := prog_5_method_9_code
def y_M_oneByte : MethodName := ⟨R_M, "oneByte", "(JI)J"⟩
abbrev b_M_bit : ByteArray := prog_5_method_8_code
def y_M_bit : MethodName := ⟨R_M, "bit", "(JI)J"⟩
abbrev b_M_told : ByteArray := prog_5_method_11_code
def y_M_told : MethodName := ⟨R_M, "told", "(J)J"⟩
abbrev b_M_turned : ByteArray := prog_5_method_10_code
def y_M_turned : MethodName := ⟨R_M, "turned", "(J)J"⟩
abbrev b_M_part : ByteArray := prog_5_method_15_code
def y_M_part : MethodName := ⟨R_M, "part", "(II)J"⟩
abbrev b_M_joined : ByteArray := prog_5_method_18_code
def y_M_joined : MethodName := ⟨R_M, "joined", "(JJI)J"⟩
abbrev b_M_register : ByteArray := prog_5_method_12_code
def y_M_register : MethodName := ⟨R_M, "register", "(J)J"⟩
abbrev b_M_behind : ByteArray := prog_5_method_17_code
def y_M_behind : MethodName := ⟨R_M, "behind", "(JJ)J"⟩
abbrev b_M_times : ByteArray := prog_5_method_16_code
def y_M_times : MethodName := ⟨R_M, "times", "(JJ)J"⟩
abbrev b_M_entry : ByteArray := prog_5_method_19_code
def y_M_entry : MethodName := ⟨R_M, "entry", "(II)J"⟩
abbrev b_M_zeros : ByteArray := prog_5_method_20_code
def y_M_zeros : MethodName := ⟨R_M, "zeros", "(JI)J"⟩
abbrev b_M_round : ByteArray := prog_5_method_21_code
def y_M_round : MethodName := ⟨R_M, "round", "()I"⟩
abbrev b_M_holds : ByteArray := prog_5_method_22_code
def y_M_holds : MethodName := ⟨R_M, "holds", "()Z"⟩
abbrev b_M_count : ByteArray := prog_5_method_23_code
def y_M_count : MethodName := ⟨R_M, "count", "(I)I"⟩
abbrev b_M_toldI : ByteArray := prog_5_method_24_code
def y_M_toldI : MethodName := ⟨R_M, "told", "(I)J"⟩
/-- the words of nest mates: they do not ride among a method's words -/
def isNest : Cond → Bool
  | .fieldLinkNest .. => true
  | .methodLinkNest .. => true
  | _ => false
def g_tbl : List Cond := lw_tbl.filter goodWord
def n_tbl : List Cond := lw_tbl.filter isNest
theorem n_K : ∀ a, a < 8 → ∀ b, b < 8 → a ≠ b → (F_K a).2.1 ≠ (F_K b).2.1 := by decide +kernel
theorem t_K_ok : ∀ k, k < 8 → parseFieldDescriptor (F_K k).2.2.1 = some (t_K k) := by decide +kernel
theorem i_K : ∀ w ∈ w_K, w ∈ g_tbl := by decide +kernel
theorem n_P : ∀ a, a < 2 → ∀ b, b < 2 → a ≠ b → (F_P a).2.1 ≠ (F_P b).2.1 := by decide +kernel
theorem t_P_ok : ∀ k, k < 2 → parseFieldDescriptor (F_P k).2.2.1 = some (t_P k) := by decide +kernel
theorem i_P : ∀ w ∈ w_P, w ∈ g_tbl := by decide +kernel
theorem n_X : ∀ a, a < 5 → ∀ b, b < 5 → a ≠ b → (F_X a).2.1 ≠ (F_X b).2.1 := by decide +kernel
theorem t_X_ok : ∀ k, k < 5 → parseFieldDescriptor (F_X k).2.2.1 = some (t_X k) := by decide +kernel
theorem i_X : ∀ w ∈ w_X, w ∈ g_tbl := by decide +kernel
theorem n_M : ∀ a, a < 8 → ∀ b, b < 8 → a ≠ b → (F_M a).2.1 ≠ (F_M b).2.1 := by decide +kernel
theorem t_M_ok : ∀ k, k < 8 → parseFieldDescriptor (F_M k).2.2.1 = some (t_M k) := by decide +kernel
theorem i_M : ∀ w ∈ w_M, w ∈ g_tbl := by decide +kernel
theorem in_law : Cond.initialized R_law ∈ g_tbl := List.mem_filter.mpr ⟨List.mem_of_getElem? (i := 16) rfl, rfl⟩
theorem in_X : Cond.initialized R_X ∈ g_tbl := List.mem_filter.mpr ⟨List.mem_of_getElem? (i := 17) rfl, rfl⟩
theorem in_K : Cond.initialized R_K ∈ g_tbl := List.mem_filter.mpr ⟨List.mem_of_getElem? (i := 18) rfl, rfl⟩
theorem in_L : Cond.initialized R_L ∈ g_tbl := List.mem_filter.mpr ⟨List.mem_of_getElem? (i := 19) rfl, rfl⟩
theorem in_P : Cond.initialized R_P ∈ g_tbl := List.mem_filter.mpr ⟨List.mem_of_getElem? (i := 20) rfl, rfl⟩
theorem in_M : Cond.initialized R_M ∈ g_tbl := List.mem_filter.mpr ⟨List.mem_of_getElem? (i := 21) rfl, rfl⟩
theorem in_S : Cond.initialized R_S ∈ g_tbl := List.mem_filter.mpr ⟨List.mem_of_getElem? (i := 22) rfl, rfl⟩
theorem cl_law_7 : Cond.classLink R_law 7 R_X ∈ g_tbl := List.mem_filter.mpr ⟨List.mem_of_getElem? (i := 23) rfl, rfl⟩
theorem st_X : Cond.instantiable R_X 5 ∈ g_tbl := List.mem_filter.mpr ⟨List.mem_of_getElem? (i := 24) rfl, rfl⟩
theorem ml_law_9 : Cond.methodLink R_law 9 y_X_init ∈ g_tbl := List.mem_filter.mpr ⟨List.mem_of_getElem? (i := 25) rfl, rfl⟩
theorem im_X_init : Cond.instanceMethod y_X_init ∈ g_tbl := List.mem_filter.mpr ⟨List.mem_of_getElem? (i := 26) rfl, rfl⟩
theorem cd_X_init : Cond.code y_X_init b_X_init 1 none ∈ g_tbl := List.mem_filter.mpr ⟨List.mem_of_getElem? (i := 27) rfl, rfl⟩
theorem ml_X_1 : Cond.methodLink R_X 1 objectInit ∈ g_tbl := List.mem_filter.mpr ⟨List.mem_of_getElem? (i := 28) rfl, rfl⟩
theorem im_O_init : Cond.instanceMethod objectInit ∈ g_tbl := List.mem_filter.mpr ⟨List.mem_of_getElem? (i := 29) rfl, rfl⟩
theorem cd_O_init : Cond.code objectInit ⟨#[0xb1]⟩ 1 none ∈ g_tbl := List.mem_filter.mpr ⟨List.mem_of_getElem? (i := 30) rfl, rfl⟩
theorem cl_X_7 : Cond.classLink R_X 7 R_K ∈ g_tbl := List.mem_filter.mpr ⟨List.mem_of_getElem? (i := 31) rfl, rfl⟩
theorem st_K : Cond.instantiable R_K 8 ∈ g_tbl := List.mem_filter.mpr ⟨List.mem_of_getElem? (i := 32) rfl, rfl⟩
theorem cj_X_9 : Cond.constantLong R_X 9 (79764919) ∈ g_tbl := List.mem_filter.mpr ⟨List.mem_of_getElem? (i := 33) rfl, rfl⟩
theorem cj_X_11 : Cond.constantLong R_X 11 (-1) ∈ g_tbl := List.mem_filter.mpr ⟨List.mem_of_getElem? (i := 34) rfl, rfl⟩
theorem ml_X_13 : Cond.methodLink R_X 13 y_K_init ∈ g_tbl := List.mem_filter.mpr ⟨List.mem_of_getElem? (i := 35) rfl, rfl⟩
theorem im_K_init : Cond.instanceMethod y_K_init ∈ g_tbl := List.mem_filter.mpr ⟨List.mem_of_getElem? (i := 36) rfl, rfl⟩
theorem cd_K_init : Cond.code y_K_init b_K_init 12 none ∈ g_tbl := List.mem_filter.mpr ⟨List.mem_of_getElem? (i := 37) rfl, rfl⟩
theorem ml_K_3 : Cond.methodLink R_K 3 objectInit ∈ g_tbl := List.mem_filter.mpr ⟨List.mem_of_getElem? (i := 38) rfl, rfl⟩
theorem cj_K_19 : Cond.constantLong R_K 19 (-1) ∈ g_tbl := List.mem_filter.mpr ⟨List.mem_of_getElem? (i := 39) rfl, rfl⟩
theorem ml_K_41 : Cond.methodLink R_K 41 y_K_shift ∈ g_tbl := List.mem_filter.mpr ⟨List.mem_of_getElem? (i := 40) rfl, rfl⟩
theorem im_K_shift : Cond.instanceMethod y_K_shift ∈ g_tbl := List.mem_filter.mpr ⟨List.mem_of_getElem? (i := 41) rfl, rfl⟩
theorem se_K_shift : Cond.selects R_K y_K_shift y_K_shift ∈ g_tbl := List.mem_filter.mpr ⟨List.mem_of_getElem? (i := 42) rfl, rfl⟩
theorem cd_K_shift : Cond.code y_K_shift b_K_shift 11 (some .long) ∈ g_tbl := List.mem_filter.mpr ⟨List.mem_of_getElem? (i := 43) rfl, rfl⟩
theorem ml_K_58 : Cond.methodLink R_K 58 y_K_stand ∈ g_tbl := List.mem_filter.mpr ⟨List.mem_of_getElem? (i := 44) rfl, rfl⟩
theorem im_K_stand : Cond.instanceMethod y_K_stand ∈ g_tbl := List.mem_filter.mpr ⟨List.mem_of_getElem? (i := 45) rfl, rfl⟩
theorem se_K_stand : Cond.selects R_K y_K_stand y_K_stand ∈ g_tbl := List.mem_filter.mpr ⟨List.mem_of_getElem? (i := 46) rfl, rfl⟩
theorem cd_K_stand : Cond.code y_K_stand b_K_stand 3 (some .long) ∈ g_tbl := List.mem_filter.mpr ⟨List.mem_of_getElem? (i := 47) rfl, rfl⟩
theorem ml_K_55 : Cond.methodLink R_K 55 y_K_turned ∈ g_tbl := List.mem_filter.mpr ⟨List.mem_of_getElem? (i := 48) rfl, rfl⟩
theorem im_K_turned : Cond.instanceMethod y_K_turned ∈ g_tbl := List.mem_filter.mpr ⟨List.mem_of_getElem? (i := 49) rfl, rfl⟩
theorem se_K_turned : Cond.selects R_K y_K_turned y_K_turned ∈ g_tbl := List.mem_filter.mpr ⟨List.mem_of_getElem? (i := 50) rfl, rfl⟩
theorem cd_K_turned : Cond.code y_K_turned b_K_turned 3 (some .long) ∈ g_tbl := List.mem_filter.mpr ⟨List.mem_of_getElem? (i := 51) rfl, rfl⟩
theorem ml_K_49 : Cond.methodLink R_K 49 y_L_reverse ∈ g_tbl := List.mem_filter.mpr ⟨List.mem_of_getElem? (i := 52) rfl, rfl⟩
theorem sm_L_reverse : Cond.static y_L_reverse ∈ g_tbl := List.mem_filter.mpr ⟨List.mem_of_getElem? (i := 53) rfl, rfl⟩
theorem cd_L_reverse : Cond.code y_L_reverse b_L_reverse 2 (some .long) ∈ g_tbl := List.mem_filter.mpr ⟨List.mem_of_getElem? (i := 54) rfl, rfl⟩
theorem cj_L_314 : Cond.constantLong R_L 314 (6148914691236517205) ∈ g_tbl := List.mem_filter.mpr ⟨List.mem_of_getElem? (i := 55) rfl, rfl⟩
theorem cj_L_316 : Cond.constantLong R_L 316 (3689348814741910323) ∈ g_tbl := List.mem_filter.mpr ⟨List.mem_of_getElem? (i := 56) rfl, rfl⟩
theorem cj_L_318 : Cond.constantLong R_L 318 (1085102592571150095) ∈ g_tbl := List.mem_filter.mpr ⟨List.mem_of_getElem? (i := 57) rfl, rfl⟩
theorem ml_L_320 : Cond.methodLink R_L 320 y_L_reverseBytes ∈ g_tbl := List.mem_filter.mpr ⟨List.mem_of_getElem? (i := 58) rfl, rfl⟩
theorem sm_L_reverseBytes : Cond.static y_L_reverseBytes ∈ g_tbl := List.mem_filter.mpr ⟨List.mem_of_getElem? (i := 59) rfl, rfl⟩
theorem cd_L_reverseBytes : Cond.code y_L_reverseBytes b_L_reverseBytes 2 (some .long) ∈ g_tbl := List.mem_filter.mpr ⟨List.mem_of_getElem? (i := 60) rfl, rfl⟩
theorem cj_L_327 : Cond.constantLong R_L 327 (71777214294589695) ∈ g_tbl := List.mem_filter.mpr ⟨List.mem_of_getElem? (i := 61) rfl, rfl⟩
theorem cj_L_329 : Cond.constantLong R_L 329 (4294901760) ∈ g_tbl := List.mem_filter.mpr ⟨List.mem_of_getElem? (i := 62) rfl, rfl⟩
theorem ml_K_45 : Cond.methodLink R_K 45 y_K_next ∈ g_tbl := List.mem_filter.mpr ⟨List.mem_of_getElem? (i := 63) rfl, rfl⟩
theorem im_K_next : Cond.instanceMethod y_K_next ∈ g_tbl := List.mem_filter.mpr ⟨List.mem_of_getElem? (i := 64) rfl, rfl⟩
theorem se_K_next : Cond.selects R_K y_K_next y_K_next ∈ g_tbl := List.mem_filter.mpr ⟨List.mem_of_getElem? (i := 65) rfl, rfl⟩
theorem cd_K_next : Cond.code y_K_next b_K_next 4 (some .long) ∈ g_tbl := List.mem_filter.mpr ⟨List.mem_of_getElem? (i := 66) rfl, rfl⟩
theorem cj_K_61 : Cond.constantLong R_K 61 (255) ∈ g_tbl := List.mem_filter.mpr ⟨List.mem_of_getElem? (i := 67) rfl, rfl⟩
theorem fl_K_15 : Cond.fieldLink R_K 15 "SliceChecks$Kind" "width" "I" ∈ g_tbl := List.mem_filter.mpr ⟨List.mem_of_getElem? (i := 68) rfl, rfl⟩
theorem fln_P_18 : Cond.fieldLinkNest R_P 18 "SliceChecks$Kind" "width" "I" "SliceChecks" ∈ n_tbl := List.mem_filter.mpr ⟨List.mem_of_getElem? (i := 69) rfl, rfl⟩
theorem fln_X_80 : Cond.fieldLinkNest R_X 80 "SliceChecks$Kind" "width" "I" "SliceChecks" ∈ n_tbl := List.mem_filter.mpr ⟨List.mem_of_getElem? (i := 70) rfl, rfl⟩
theorem fl_K_21 : Cond.fieldLink R_K 21 "SliceChecks$Kind" "mask" "J" ∈ g_tbl := List.mem_filter.mpr ⟨List.mem_of_getElem? (i := 71) rfl, rfl⟩
theorem fln_P_35 : Cond.fieldLinkNest R_P 35 "SliceChecks$Kind" "mask" "J" "SliceChecks" ∈ n_tbl := List.mem_filter.mpr ⟨List.mem_of_getElem? (i := 72) rfl, rfl⟩
theorem fl_K_25 : Cond.fieldLink R_K 25 "SliceChecks$Kind" "polynomial" "J" ∈ g_tbl := List.mem_filter.mpr ⟨List.mem_of_getElem? (i := 73) rfl, rfl⟩
theorem fln_X_86 : Cond.fieldLinkNest R_X 86 "SliceChecks$Kind" "polynomial" "J" "SliceChecks" ∈ n_tbl := List.mem_filter.mpr ⟨List.mem_of_getElem? (i := 74) rfl, rfl⟩
theorem fl_K_28 : Cond.fieldLink R_K 28 "SliceChecks$Kind" "first" "J" ∈ g_tbl := List.mem_filter.mpr ⟨List.mem_of_getElem? (i := 75) rfl, rfl⟩
theorem fln_X_53 : Cond.fieldLinkNest R_X 53 "SliceChecks$Kind" "first" "J" "SliceChecks" ∈ n_tbl := List.mem_filter.mpr ⟨List.mem_of_getElem? (i := 76) rfl, rfl⟩
theorem fl_K_31 : Cond.fieldLink R_K 31 "SliceChecks$Kind" "last" "J" ∈ g_tbl := List.mem_filter.mpr ⟨List.mem_of_getElem? (i := 77) rfl, rfl⟩
theorem fln_X_133 : Cond.fieldLinkNest R_X 133 "SliceChecks$Kind" "last" "J" "SliceChecks" ∈ n_tbl := List.mem_filter.mpr ⟨List.mem_of_getElem? (i := 78) rfl, rfl⟩
theorem fl_K_34 : Cond.fieldLink R_K 34 "SliceChecks$Kind" "in" "Z" ∈ g_tbl := List.mem_filter.mpr ⟨List.mem_of_getElem? (i := 79) rfl, rfl⟩
theorem fln_X_45 : Cond.fieldLinkNest R_X 45 "SliceChecks$Kind" "in" "Z" "SliceChecks" ∈ n_tbl := List.mem_filter.mpr ⟨List.mem_of_getElem? (i := 80) rfl, rfl⟩
theorem fl_K_38 : Cond.fieldLink R_K 38 "SliceChecks$Kind" "out" "Z" ∈ g_tbl := List.mem_filter.mpr ⟨List.mem_of_getElem? (i := 81) rfl, rfl⟩
theorem fln_X_130 : Cond.fieldLinkNest R_X 130 "SliceChecks$Kind" "out" "Z" "SliceChecks" ∈ n_tbl := List.mem_filter.mpr ⟨List.mem_of_getElem? (i := 82) rfl, rfl⟩
theorem fl_K_9 : Cond.fieldLink R_K 9 "SliceChecks$Kind" "tables" "[J" ∈ g_tbl := List.mem_filter.mpr ⟨List.mem_of_getElem? (i := 83) rfl, rfl⟩
theorem fln_X_115 : Cond.fieldLinkNest R_X 115 "SliceChecks$Kind" "tables" "[J" "SliceChecks" ∈ n_tbl := List.mem_filter.mpr ⟨List.mem_of_getElem? (i := 84) rfl, rfl⟩
theorem ac_long : Cond.arrayClass .long ∈ g_tbl := List.mem_filter.mpr ⟨List.mem_of_getElem? (i := 102) rfl, rfl⟩
theorem cl_X_22 : Cond.classLink R_X 22 R_P ∈ g_tbl := List.mem_filter.mpr ⟨List.mem_of_getElem? (i := 103) rfl, rfl⟩
theorem st_P : Cond.instantiable R_P 2 ∈ g_tbl := List.mem_filter.mpr ⟨List.mem_of_getElem? (i := 104) rfl, rfl⟩
theorem mln_X_24 : Cond.methodLinkNest R_X 24 y_P_init "SliceChecks" ∈ n_tbl := List.mem_filter.mpr ⟨List.mem_of_getElem? (i := 105) rfl, rfl⟩
theorem im_P_init : Cond.instanceMethod y_P_init ∈ g_tbl := List.mem_filter.mpr ⟨List.mem_of_getElem? (i := 106) rfl, rfl⟩
theorem cd_P_init : Cond.code y_P_init b_P_init 1 none ∈ g_tbl := List.mem_filter.mpr ⟨List.mem_of_getElem? (i := 107) rfl, rfl⟩
theorem ml_P_3 : Cond.methodLink R_P 3 objectInit ∈ g_tbl := List.mem_filter.mpr ⟨List.mem_of_getElem? (i := 108) rfl, rfl⟩
theorem fl_P_9 : Cond.fieldLink R_P 9 "SliceChecks$Powers" "now" "[J" ∈ g_tbl := List.mem_filter.mpr ⟨List.mem_of_getElem? (i := 109) rfl, rfl⟩
theorem fl_P_15 : Cond.fieldLink R_P 15 "SliceChecks$Powers" "square" "[J" ∈ g_tbl := List.mem_filter.mpr ⟨List.mem_of_getElem? (i := 110) rfl, rfl⟩
theorem ci_X_33 : Cond.constant R_X 33 (40064) ∈ g_tbl := List.mem_filter.mpr ⟨List.mem_of_getElem? (i := 116) rfl, rfl⟩
theorem fl_X_16 : Cond.fieldLink R_X 16 "SliceChecks" "kind" "LSliceChecks$Kind;" ∈ g_tbl := List.mem_filter.mpr ⟨List.mem_of_getElem? (i := 117) rfl, rfl⟩
theorem fl_X_25 : Cond.fieldLink R_X 25 "SliceChecks" "powers" "LSliceChecks$Powers;" ∈ g_tbl := List.mem_filter.mpr ⟨List.mem_of_getElem? (i := 118) rfl, rfl⟩
theorem fl_X_29 : Cond.fieldLink R_X 29 "SliceChecks" "bytes" "[B" ∈ g_tbl := List.mem_filter.mpr ⟨List.mem_of_getElem? (i := 119) rfl, rfl⟩
theorem fl_X_34 : Cond.fieldLink R_X 34 "SliceChecks" "row" "[B" ∈ g_tbl := List.mem_filter.mpr ⟨List.mem_of_getElem? (i := 120) rfl, rfl⟩
theorem fl_X_41 : Cond.fieldLink R_X 41 "SliceChecks" "size" "I" ∈ g_tbl := List.mem_filter.mpr ⟨List.mem_of_getElem? (i := 121) rfl, rfl⟩
theorem ac_byte : Cond.arrayClass .byte ∈ g_tbl := List.mem_filter.mpr ⟨List.mem_of_getElem? (i := 133) rfl, rfl⟩
theorem ml_law_15 : Cond.methodLink R_law 15 y_X_kind ∈ g_tbl := List.mem_filter.mpr ⟨List.mem_of_getElem? (i := 134) rfl, rfl⟩
theorem im_X_kind : Cond.instanceMethod y_X_kind ∈ g_tbl := List.mem_filter.mpr ⟨List.mem_of_getElem? (i := 135) rfl, rfl⟩
theorem se_X_kind : Cond.selects R_X y_X_kind y_X_kind ∈ g_tbl := List.mem_filter.mpr ⟨List.mem_of_getElem? (i := 136) rfl, rfl⟩
theorem cd_X_kind : Cond.code y_X_kind b_X_kind 10 (some .boolean) ∈ g_tbl := List.mem_filter.mpr ⟨List.mem_of_getElem? (i := 137) rfl, rfl⟩
theorem ml_X_37 : Cond.methodLink R_X 37 y_X_within ∈ g_tbl := List.mem_filter.mpr ⟨List.mem_of_getElem? (i := 138) rfl, rfl⟩
theorem sm_X_within : Cond.static y_X_within ∈ g_tbl := List.mem_filter.mpr ⟨List.mem_of_getElem? (i := 139) rfl, rfl⟩
theorem cd_X_within : Cond.code y_X_within b_X_within 3 (some .boolean) ∈ g_tbl := List.mem_filter.mpr ⟨List.mem_of_getElem? (i := 140) rfl, rfl⟩
theorem ml_law_20 : Cond.methodLink R_law 20 y_X_feed ∈ g_tbl := List.mem_filter.mpr ⟨List.mem_of_getElem? (i := 141) rfl, rfl⟩
theorem im_X_feed : Cond.instanceMethod y_X_feed ∈ g_tbl := List.mem_filter.mpr ⟨List.mem_of_getElem? (i := 142) rfl, rfl⟩
theorem se_X_feed : Cond.selects R_X y_X_feed y_X_feed ∈ g_tbl := List.mem_filter.mpr ⟨List.mem_of_getElem? (i := 143) rfl, rfl⟩
theorem cd_X_feed : Cond.code y_X_feed b_X_feed 4 (some .boolean) ∈ g_tbl := List.mem_filter.mpr ⟨List.mem_of_getElem? (i := 144) rfl, rfl⟩
theorem ml_law_25 : Cond.methodLink R_law 25 y_X_clear ∈ g_tbl := List.mem_filter.mpr ⟨List.mem_of_getElem? (i := 145) rfl, rfl⟩
theorem im_X_clear : Cond.instanceMethod y_X_clear ∈ g_tbl := List.mem_filter.mpr ⟨List.mem_of_getElem? (i := 146) rfl, rfl⟩
theorem se_X_clear : Cond.selects R_X y_X_clear y_X_clear ∈ g_tbl := List.mem_filter.mpr ⟨List.mem_of_getElem? (i := 147) rfl, rfl⟩
theorem cd_X_clear : Cond.code y_X_clear b_X_clear 1 none ∈ g_tbl := List.mem_filter.mpr ⟨List.mem_of_getElem? (i := 148) rfl, rfl⟩
theorem ml_law_29 : Cond.methodLink R_law 29 y_X_flip ∈ g_tbl := List.mem_filter.mpr ⟨List.mem_of_getElem? (i := 149) rfl, rfl⟩
theorem im_X_flip : Cond.instanceMethod y_X_flip ∈ g_tbl := List.mem_filter.mpr ⟨List.mem_of_getElem? (i := 150) rfl, rfl⟩
theorem se_X_flip : Cond.selects R_X y_X_flip y_X_flip ∈ g_tbl := List.mem_filter.mpr ⟨List.mem_of_getElem? (i := 151) rfl, rfl⟩
theorem cd_X_flip : Cond.code y_X_flip b_X_flip 2 (some .boolean) ∈ g_tbl := List.mem_filter.mpr ⟨List.mem_of_getElem? (i := 152) rfl, rfl⟩
theorem ml_X_49 : Cond.methodLink R_X 49 y_X_place ∈ g_tbl := List.mem_filter.mpr ⟨List.mem_of_getElem? (i := 153) rfl, rfl⟩
theorem im_X_place : Cond.instanceMethod y_X_place ∈ g_tbl := List.mem_filter.mpr ⟨List.mem_of_getElem? (i := 155) rfl, rfl⟩
theorem cd_X_place : Cond.code y_X_place b_X_place 2 (some .int) ∈ g_tbl := List.mem_filter.mpr ⟨List.mem_of_getElem? (i := 156) rfl, rfl⟩
theorem ml_law_34 : Cond.methodLink R_law 34 y_X_check ∈ g_tbl := List.mem_filter.mpr ⟨List.mem_of_getElem? (i := 157) rfl, rfl⟩
theorem im_X_check : Cond.instanceMethod y_X_check ∈ g_tbl := List.mem_filter.mpr ⟨List.mem_of_getElem? (i := 158) rfl, rfl⟩
theorem se_X_check : Cond.selects R_X y_X_check y_X_check ∈ g_tbl := List.mem_filter.mpr ⟨List.mem_of_getElem? (i := 159) rfl, rfl⟩
theorem cd_X_check : Cond.code y_X_check b_X_check 2 (some .long) ∈ g_tbl := List.mem_filter.mpr ⟨List.mem_of_getElem? (i := 160) rfl, rfl⟩
theorem ml_X_89 : Cond.methodLink R_X 89 y_X_byBits ∈ g_tbl := List.mem_filter.mpr ⟨List.mem_of_getElem? (i := 161) rfl, rfl⟩
theorem im_X_byBits : Cond.instanceMethod y_X_byBits ∈ g_tbl := List.mem_filter.mpr ⟨List.mem_of_getElem? (i := 163) rfl, rfl⟩
theorem cd_X_byBits : Cond.code y_X_byBits b_X_byBits 6 (some .long) ∈ g_tbl := List.mem_filter.mpr ⟨List.mem_of_getElem? (i := 164) rfl, rfl⟩
theorem ml_X_57 : Cond.methodLink R_X 57 y_K_stand ∈ g_tbl := List.mem_filter.mpr ⟨List.mem_of_getElem? (i := 165) rfl, rfl⟩
theorem ml_X_61 : Cond.methodLink R_X 61 y_K_shift ∈ g_tbl := List.mem_filter.mpr ⟨List.mem_of_getElem? (i := 166) rfl, rfl⟩
theorem ml_X_65 : Cond.methodLink R_X 65 y_K_finish ∈ g_tbl := List.mem_filter.mpr ⟨List.mem_of_getElem? (i := 167) rfl, rfl⟩
theorem im_K_finish : Cond.instanceMethod y_K_finish ∈ g_tbl := List.mem_filter.mpr ⟨List.mem_of_getElem? (i := 168) rfl, rfl⟩
theorem se_K_finish : Cond.selects R_K y_K_finish y_K_finish ∈ g_tbl := List.mem_filter.mpr ⟨List.mem_of_getElem? (i := 169) rfl, rfl⟩
theorem cd_K_finish : Cond.code y_K_finish b_K_finish 5 (some .long) ∈ g_tbl := List.mem_filter.mpr ⟨List.mem_of_getElem? (i := 170) rfl, rfl⟩
theorem ml_K_63 : Cond.methodLink R_K 63 y_K_lie ∈ g_tbl := List.mem_filter.mpr ⟨List.mem_of_getElem? (i := 171) rfl, rfl⟩
theorem im_K_lie : Cond.instanceMethod y_K_lie ∈ g_tbl := List.mem_filter.mpr ⟨List.mem_of_getElem? (i := 172) rfl, rfl⟩
theorem se_K_lie : Cond.selects R_K y_K_lie y_K_lie ∈ g_tbl := List.mem_filter.mpr ⟨List.mem_of_getElem? (i := 173) rfl, rfl⟩
theorem cd_K_lie : Cond.code y_K_lie b_K_lie 3 (some .long) ∈ g_tbl := List.mem_filter.mpr ⟨List.mem_of_getElem? (i := 174) rfl, rfl⟩
theorem ml_X_93 : Cond.methodLink R_X 93 y_X_byBytes ∈ g_tbl := List.mem_filter.mpr ⟨List.mem_of_getElem? (i := 175) rfl, rfl⟩
theorem im_X_byBytes : Cond.instanceMethod y_X_byBytes ∈ g_tbl := List.mem_filter.mpr ⟨List.mem_of_getElem? (i := 177) rfl, rfl⟩
theorem cd_X_byBytes : Cond.code y_X_byBytes b_X_byBytes 6 (some .long) ∈ g_tbl := List.mem_filter.mpr ⟨List.mem_of_getElem? (i := 178) rfl, rfl⟩
theorem ml_X_68 : Cond.methodLink R_X 68 y_K_next ∈ g_tbl := List.mem_filter.mpr ⟨List.mem_of_getElem? (i := 179) rfl, rfl⟩
theorem ml_X_96 : Cond.methodLink R_X 96 y_X_bySlices ∈ g_tbl := List.mem_filter.mpr ⟨List.mem_of_getElem? (i := 180) rfl, rfl⟩
theorem im_X_bySlices : Cond.instanceMethod y_X_bySlices ∈ g_tbl := List.mem_filter.mpr ⟨List.mem_of_getElem? (i := 182) rfl, rfl⟩
theorem cd_X_bySlices : Cond.code y_X_bySlices b_X_bySlices 6 (some .long) ∈ g_tbl := List.mem_filter.mpr ⟨List.mem_of_getElem? (i := 183) rfl, rfl⟩
theorem ml_X_72 : Cond.methodLink R_X 72 y_X_eightAt ∈ g_tbl := List.mem_filter.mpr ⟨List.mem_of_getElem? (i := 184) rfl, rfl⟩
theorem im_X_eightAt : Cond.instanceMethod y_X_eightAt ∈ g_tbl := List.mem_filter.mpr ⟨List.mem_of_getElem? (i := 186) rfl, rfl⟩
theorem cd_X_eightAt : Cond.code y_X_eightAt b_X_eightAt 6 (some .long) ∈ g_tbl := List.mem_filter.mpr ⟨List.mem_of_getElem? (i := 187) rfl, rfl⟩
theorem ml_X_76 : Cond.methodLink R_X 76 y_K_slice ∈ g_tbl := List.mem_filter.mpr ⟨List.mem_of_getElem? (i := 188) rfl, rfl⟩
theorem im_K_slice : Cond.instanceMethod y_K_slice ∈ g_tbl := List.mem_filter.mpr ⟨List.mem_of_getElem? (i := 189) rfl, rfl⟩
theorem se_K_slice : Cond.selects R_K y_K_slice y_K_slice ∈ g_tbl := List.mem_filter.mpr ⟨List.mem_of_getElem? (i := 190) rfl, rfl⟩
theorem cd_K_slice : Cond.code y_K_slice b_K_slice 11 (some .long) ∈ g_tbl := List.mem_filter.mpr ⟨List.mem_of_getElem? (i := 191) rfl, rfl⟩
theorem ml_X_99 : Cond.methodLink R_X 99 y_X_byDividing ∈ g_tbl := List.mem_filter.mpr ⟨List.mem_of_getElem? (i := 192) rfl, rfl⟩
theorem im_X_byDividing : Cond.instanceMethod y_X_byDividing ∈ g_tbl := List.mem_filter.mpr ⟨List.mem_of_getElem? (i := 194) rfl, rfl⟩
theorem cd_X_byDividing : Cond.code y_X_byDividing b_X_byDividing 6 (some .long) ∈ g_tbl := List.mem_filter.mpr ⟨List.mem_of_getElem? (i := 195) rfl, rfl⟩
theorem ml_X_83 : Cond.methodLink R_X 83 y_X_layBits ∈ g_tbl := List.mem_filter.mpr ⟨List.mem_of_getElem? (i := 196) rfl, rfl⟩
theorem im_X_layBits : Cond.instanceMethod y_X_layBits ∈ g_tbl := List.mem_filter.mpr ⟨List.mem_of_getElem? (i := 198) rfl, rfl⟩
theorem cd_X_layBits : Cond.code y_X_layBits b_X_layBits 2 none ∈ g_tbl := List.mem_filter.mpr ⟨List.mem_of_getElem? (i := 199) rfl, rfl⟩
theorem ml_law_39 : Cond.methodLink R_law 39 y_X_part ∈ g_tbl := List.mem_filter.mpr ⟨List.mem_of_getElem? (i := 200) rfl, rfl⟩
theorem im_X_part : Cond.instanceMethod y_X_part ∈ g_tbl := List.mem_filter.mpr ⟨List.mem_of_getElem? (i := 201) rfl, rfl⟩
theorem se_X_part : Cond.selects R_X y_X_part y_X_part ∈ g_tbl := List.mem_filter.mpr ⟨List.mem_of_getElem? (i := 202) rfl, rfl⟩
theorem cd_X_part : Cond.code y_X_part b_X_part 3 (some .long) ∈ g_tbl := List.mem_filter.mpr ⟨List.mem_of_getElem? (i := 203) rfl, rfl⟩
theorem ml_law_44 : Cond.methodLink R_law 44 y_X_joined ∈ g_tbl := List.mem_filter.mpr ⟨List.mem_of_getElem? (i := 204) rfl, rfl⟩
theorem im_X_joined : Cond.instanceMethod y_X_joined ∈ g_tbl := List.mem_filter.mpr ⟨List.mem_of_getElem? (i := 205) rfl, rfl⟩
theorem se_X_joined : Cond.selects R_X y_X_joined y_X_joined ∈ g_tbl := List.mem_filter.mpr ⟨List.mem_of_getElem? (i := 206) rfl, rfl⟩
theorem cd_X_joined : Cond.code y_X_joined b_X_joined 10 (some .long) ∈ g_tbl := List.mem_filter.mpr ⟨List.mem_of_getElem? (i := 207) rfl, rfl⟩
theorem ml_X_103 : Cond.methodLink R_X 103 y_K_begin ∈ g_tbl := List.mem_filter.mpr ⟨List.mem_of_getElem? (i := 208) rfl, rfl⟩
theorem im_K_begin : Cond.instanceMethod y_K_begin ∈ g_tbl := List.mem_filter.mpr ⟨List.mem_of_getElem? (i := 209) rfl, rfl⟩
theorem se_K_begin : Cond.selects R_K y_K_begin y_K_begin ∈ g_tbl := List.mem_filter.mpr ⟨List.mem_of_getElem? (i := 210) rfl, rfl⟩
theorem cd_K_begin : Cond.code y_K_begin b_K_begin 5 (some .long) ∈ g_tbl := List.mem_filter.mpr ⟨List.mem_of_getElem? (i := 211) rfl, rfl⟩
theorem ml_X_106 : Cond.methodLink R_X 106 y_K_lie ∈ g_tbl := List.mem_filter.mpr ⟨List.mem_of_getElem? (i := 212) rfl, rfl⟩
theorem cj_X_109 : Cond.constantLong R_X 109 (8) ∈ g_tbl := List.mem_filter.mpr ⟨List.mem_of_getElem? (i := 213) rfl, rfl⟩
theorem ml_X_111 : Cond.methodLink R_X 111 y_P_go ∈ g_tbl := List.mem_filter.mpr ⟨List.mem_of_getElem? (i := 214) rfl, rfl⟩
theorem im_P_go : Cond.instanceMethod y_P_go ∈ g_tbl := List.mem_filter.mpr ⟨List.mem_of_getElem? (i := 215) rfl, rfl⟩
theorem se_P_go : Cond.selects R_P y_P_go y_P_go ∈ g_tbl := List.mem_filter.mpr ⟨List.mem_of_getElem? (i := 216) rfl, rfl⟩
theorem cd_P_go : Cond.code y_P_go b_P_go 11 (some .long) ∈ g_tbl := List.mem_filter.mpr ⟨List.mem_of_getElem? (i := 217) rfl, rfl⟩
theorem ml_P_24 : Cond.methodLink R_P 24 y_K_stand ∈ g_tbl := List.mem_filter.mpr ⟨List.mem_of_getElem? (i := 218) rfl, rfl⟩
theorem ml_P_28 : Cond.methodLink R_P 28 y_K_shift ∈ g_tbl := List.mem_filter.mpr ⟨List.mem_of_getElem? (i := 219) rfl, rfl⟩
theorem ml_P_32 : Cond.methodLink R_P 32 y_K_lie ∈ g_tbl := List.mem_filter.mpr ⟨List.mem_of_getElem? (i := 220) rfl, rfl⟩
theorem ml_P_39 : Cond.methodLink R_P 39 y_P_times ∈ g_tbl := List.mem_filter.mpr ⟨List.mem_of_getElem? (i := 221) rfl, rfl⟩
theorem sm_P_times : Cond.static y_P_times ∈ g_tbl := List.mem_filter.mpr ⟨List.mem_of_getElem? (i := 222) rfl, rfl⟩
theorem cd_P_times : Cond.code y_P_times b_P_times 6 (some .long) ∈ g_tbl := List.mem_filter.mpr ⟨List.mem_of_getElem? (i := 223) rfl, rfl⟩
theorem ml_P_43 : Cond.methodLink R_P 43 arraycopyName ∈ g_tbl := List.mem_filter.mpr ⟨List.mem_of_getElem? (i := 224) rfl, rfl⟩
theorem sm_S_arraycopy : Cond.static arraycopyName ∈ g_tbl := List.mem_filter.mpr ⟨List.mem_of_getElem? (i := 225) rfl, rfl⟩
theorem nm_S_arraycopy : Cond.native arraycopyName ∈ g_tbl := List.mem_filter.mpr ⟨List.mem_of_getElem? (i := 226) rfl, rfl⟩
theorem ml_law_49 : Cond.methodLink R_law 49 y_X_entry ∈ g_tbl := List.mem_filter.mpr ⟨List.mem_of_getElem? (i := 227) rfl, rfl⟩
theorem im_X_entry : Cond.instanceMethod y_X_entry ∈ g_tbl := List.mem_filter.mpr ⟨List.mem_of_getElem? (i := 228) rfl, rfl⟩
theorem se_X_entry : Cond.selects R_X y_X_entry y_X_entry ∈ g_tbl := List.mem_filter.mpr ⟨List.mem_of_getElem? (i := 229) rfl, rfl⟩
theorem cd_X_entry : Cond.code y_X_entry b_X_entry 3 (some .long) ∈ g_tbl := List.mem_filter.mpr ⟨List.mem_of_getElem? (i := 230) rfl, rfl⟩
theorem ml_law_53 : Cond.methodLink R_law 53 y_X_zeros ∈ g_tbl := List.mem_filter.mpr ⟨List.mem_of_getElem? (i := 231) rfl, rfl⟩
theorem im_X_zeros : Cond.instanceMethod y_X_zeros ∈ g_tbl := List.mem_filter.mpr ⟨List.mem_of_getElem? (i := 232) rfl, rfl⟩
theorem se_X_zeros : Cond.selects R_X y_X_zeros y_X_zeros ∈ g_tbl := List.mem_filter.mpr ⟨List.mem_of_getElem? (i := 233) rfl, rfl⟩
theorem cd_X_zeros : Cond.code y_X_zeros b_X_zeros 4 (some .long) ∈ g_tbl := List.mem_filter.mpr ⟨List.mem_of_getElem? (i := 234) rfl, rfl⟩
theorem ci_X_119 : Cond.constant R_X 119 (1000000) ∈ g_tbl := List.mem_filter.mpr ⟨List.mem_of_getElem? (i := 235) rfl, rfl⟩
theorem ml_law_58 : Cond.methodLink R_law 58 y_X_round ∈ g_tbl := List.mem_filter.mpr ⟨List.mem_of_getElem? (i := 236) rfl, rfl⟩
theorem im_X_round : Cond.instanceMethod y_X_round ∈ g_tbl := List.mem_filter.mpr ⟨List.mem_of_getElem? (i := 237) rfl, rfl⟩
theorem se_X_round : Cond.selects R_X y_X_round y_X_round ∈ g_tbl := List.mem_filter.mpr ⟨List.mem_of_getElem? (i := 238) rfl, rfl⟩
theorem cd_X_round : Cond.code y_X_round b_X_round 6 (some .int) ∈ g_tbl := List.mem_filter.mpr ⟨List.mem_of_getElem? (i := 239) rfl, rfl⟩
theorem ml_law_63 : Cond.methodLink R_law 63 y_X_holds ∈ g_tbl := List.mem_filter.mpr ⟨List.mem_of_getElem? (i := 240) rfl, rfl⟩
theorem im_X_holds : Cond.instanceMethod y_X_holds ∈ g_tbl := List.mem_filter.mpr ⟨List.mem_of_getElem? (i := 241) rfl, rfl⟩
theorem se_X_holds : Cond.selects R_X y_X_holds y_X_holds ∈ g_tbl := List.mem_filter.mpr ⟨List.mem_of_getElem? (i := 242) rfl, rfl⟩
theorem cd_X_holds : Cond.code y_X_holds b_X_holds 5 (some .boolean) ∈ g_tbl := List.mem_filter.mpr ⟨List.mem_of_getElem? (i := 243) rfl, rfl⟩
theorem ml_X_120 : Cond.methodLink R_X 120 y_X_check ∈ g_tbl := List.mem_filter.mpr ⟨List.mem_of_getElem? (i := 244) rfl, rfl⟩
theorem ml_X_123 : Cond.methodLink R_X 123 y_X_part ∈ g_tbl := List.mem_filter.mpr ⟨List.mem_of_getElem? (i := 245) rfl, rfl⟩
theorem ml_X_126 : Cond.methodLink R_X 126 y_X_joined ∈ g_tbl := List.mem_filter.mpr ⟨List.mem_of_getElem? (i := 246) rfl, rfl⟩
theorem ml_law_68 : Cond.methodLink R_law 68 y_X_count ∈ g_tbl := List.mem_filter.mpr ⟨List.mem_of_getElem? (i := 247) rfl, rfl⟩
theorem im_X_count : Cond.instanceMethod y_X_count ∈ g_tbl := List.mem_filter.mpr ⟨List.mem_of_getElem? (i := 248) rfl, rfl⟩
theorem se_X_count : Cond.selects R_X y_X_count y_X_count ∈ g_tbl := List.mem_filter.mpr ⟨List.mem_of_getElem? (i := 249) rfl, rfl⟩
theorem cd_X_count : Cond.code y_X_count b_X_count 2 (some .int) ∈ g_tbl := List.mem_filter.mpr ⟨List.mem_of_getElem? (i := 250) rfl, rfl⟩
theorem ml_law_73 : Cond.methodLink R_law 73 y_X_told ∈ g_tbl := List.mem_filter.mpr ⟨List.mem_of_getElem? (i := 251) rfl, rfl⟩
theorem im_X_told : Cond.instanceMethod y_X_told ∈ g_tbl := List.mem_filter.mpr ⟨List.mem_of_getElem? (i := 252) rfl, rfl⟩
theorem se_X_told : Cond.selects R_X y_X_told y_X_told ∈ g_tbl := List.mem_filter.mpr ⟨List.mem_of_getElem? (i := 253) rfl, rfl⟩
theorem cd_X_told : Cond.code y_X_told b_X_told 2 (some .long) ∈ g_tbl := List.mem_filter.mpr ⟨List.mem_of_getElem? (i := 254) rfl, rfl⟩
theorem cl_law_10 : Cond.classLink R_law 10 R_M ∈ g_tbl := List.mem_filter.mpr ⟨List.mem_of_getElem? (i := 255) rfl, rfl⟩
theorem st_M : Cond.instantiable R_M 8 ∈ g_tbl := List.mem_filter.mpr ⟨List.mem_of_getElem? (i := 256) rfl, rfl⟩
theorem ml_law_12 : Cond.methodLink R_law 12 y_M_init ∈ g_tbl := List.mem_filter.mpr ⟨List.mem_of_getElem? (i := 257) rfl, rfl⟩
theorem im_M_init : Cond.instanceMethod y_M_init ∈ g_tbl := List.mem_filter.mpr ⟨List.mem_of_getElem? (i := 258) rfl, rfl⟩
theorem cd_M_init : Cond.code y_M_init b_M_init 1 none ∈ g_tbl := List.mem_filter.mpr ⟨List.mem_of_getElem? (i := 259) rfl, rfl⟩
theorem ml_M_1 : Cond.methodLink R_M 1 objectInit ∈ g_tbl := List.mem_filter.mpr ⟨List.mem_of_getElem? (i := 260) rfl, rfl⟩
theorem cj_M_13 : Cond.constantLong R_M 13 (79764919) ∈ g_tbl := List.mem_filter.mpr ⟨List.mem_of_getElem? (i := 261) rfl, rfl⟩
theorem cj_M_19 : Cond.constantLong R_M 19 (4294967295) ∈ g_tbl := List.mem_filter.mpr ⟨List.mem_of_getElem? (i := 262) rfl, rfl⟩
theorem fl_M_7 : Cond.fieldLink R_M 7 "SliceChecksModel" "width" "I" ∈ g_tbl := List.mem_filter.mpr ⟨List.mem_of_getElem? (i := 263) rfl, rfl⟩
theorem fl_M_15 : Cond.fieldLink R_M 15 "SliceChecksModel" "polynomial" "J" ∈ g_tbl := List.mem_filter.mpr ⟨List.mem_of_getElem? (i := 264) rfl, rfl⟩
theorem fl_M_21 : Cond.fieldLink R_M 21 "SliceChecksModel" "first" "J" ∈ g_tbl := List.mem_filter.mpr ⟨List.mem_of_getElem? (i := 265) rfl, rfl⟩
theorem fl_M_24 : Cond.fieldLink R_M 24 "SliceChecksModel" "last" "J" ∈ g_tbl := List.mem_filter.mpr ⟨List.mem_of_getElem? (i := 266) rfl, rfl⟩
theorem fl_M_27 : Cond.fieldLink R_M 27 "SliceChecksModel" "in" "Z" ∈ g_tbl := List.mem_filter.mpr ⟨List.mem_of_getElem? (i := 267) rfl, rfl⟩
theorem fl_M_31 : Cond.fieldLink R_M 31 "SliceChecksModel" "out" "Z" ∈ g_tbl := List.mem_filter.mpr ⟨List.mem_of_getElem? (i := 268) rfl, rfl⟩
theorem fl_M_34 : Cond.fieldLink R_M 34 "SliceChecksModel" "bytes" "[I" ∈ g_tbl := List.mem_filter.mpr ⟨List.mem_of_getElem? (i := 269) rfl, rfl⟩
theorem fl_M_46 : Cond.fieldLink R_M 46 "SliceChecksModel" "count" "I" ∈ g_tbl := List.mem_filter.mpr ⟨List.mem_of_getElem? (i := 270) rfl, rfl⟩
theorem ac_int : Cond.arrayClass .int ∈ g_tbl := List.mem_filter.mpr ⟨List.mem_of_getElem? (i := 288) rfl, rfl⟩
theorem ml_law_19 : Cond.methodLink R_law 19 y_M_kind ∈ g_tbl := List.mem_filter.mpr ⟨List.mem_of_getElem? (i := 289) rfl, rfl⟩
theorem im_M_kind : Cond.instanceMethod y_M_kind ∈ g_tbl := List.mem_filter.mpr ⟨List.mem_of_getElem? (i := 290) rfl, rfl⟩
theorem se_M_kind : Cond.selects R_M y_M_kind y_M_kind ∈ g_tbl := List.mem_filter.mpr ⟨List.mem_of_getElem? (i := 291) rfl, rfl⟩
theorem cd_M_kind : Cond.code y_M_kind b_M_kind 10 (some .boolean) ∈ g_tbl := List.mem_filter.mpr ⟨List.mem_of_getElem? (i := 292) rfl, rfl⟩
theorem ml_M_42 : Cond.methodLink R_M 42 y_M_cut ∈ g_tbl := List.mem_filter.mpr ⟨List.mem_of_getElem? (i := 293) rfl, rfl⟩
theorem im_M_cut : Cond.instanceMethod y_M_cut ∈ g_tbl := List.mem_filter.mpr ⟨List.mem_of_getElem? (i := 295) rfl, rfl⟩
theorem cd_M_cut : Cond.code y_M_cut b_M_cut 3 (some .long) ∈ g_tbl := List.mem_filter.mpr ⟨List.mem_of_getElem? (i := 296) rfl, rfl⟩
theorem ml_M_38 : Cond.methodLink R_M 38 y_M_low ∈ g_tbl := List.mem_filter.mpr ⟨List.mem_of_getElem? (i := 297) rfl, rfl⟩
theorem sm_M_low : Cond.static y_M_low ∈ g_tbl := List.mem_filter.mpr ⟨List.mem_of_getElem? (i := 298) rfl, rfl⟩
theorem cd_M_low : Cond.code y_M_low b_M_low 3 (some .long) ∈ g_tbl := List.mem_filter.mpr ⟨List.mem_of_getElem? (i := 299) rfl, rfl⟩
theorem ml_law_24 : Cond.methodLink R_law 24 y_M_feed ∈ g_tbl := List.mem_filter.mpr ⟨List.mem_of_getElem? (i := 300) rfl, rfl⟩
theorem im_M_feed : Cond.instanceMethod y_M_feed ∈ g_tbl := List.mem_filter.mpr ⟨List.mem_of_getElem? (i := 301) rfl, rfl⟩
theorem se_M_feed : Cond.selects R_M y_M_feed y_M_feed ∈ g_tbl := List.mem_filter.mpr ⟨List.mem_of_getElem? (i := 302) rfl, rfl⟩
theorem cd_M_feed : Cond.code y_M_feed b_M_feed 4 (some .boolean) ∈ g_tbl := List.mem_filter.mpr ⟨List.mem_of_getElem? (i := 303) rfl, rfl⟩
theorem ml_law_28 : Cond.methodLink R_law 28 y_M_clear ∈ g_tbl := List.mem_filter.mpr ⟨List.mem_of_getElem? (i := 304) rfl, rfl⟩
theorem im_M_clear : Cond.instanceMethod y_M_clear ∈ g_tbl := List.mem_filter.mpr ⟨List.mem_of_getElem? (i := 305) rfl, rfl⟩
theorem se_M_clear : Cond.selects R_M y_M_clear y_M_clear ∈ g_tbl := List.mem_filter.mpr ⟨List.mem_of_getElem? (i := 306) rfl, rfl⟩
theorem cd_M_clear : Cond.code y_M_clear b_M_clear 1 none ∈ g_tbl := List.mem_filter.mpr ⟨List.mem_of_getElem? (i := 307) rfl, rfl⟩
theorem ml_law_33 : Cond.methodLink R_law 33 y_M_flip ∈ g_tbl := List.mem_filter.mpr ⟨List.mem_of_getElem? (i := 308) rfl, rfl⟩
theorem im_M_flip : Cond.instanceMethod y_M_flip ∈ g_tbl := List.mem_filter.mpr ⟨List.mem_of_getElem? (i := 309) rfl, rfl⟩
theorem se_M_flip : Cond.selects R_M y_M_flip y_M_flip ∈ g_tbl := List.mem_filter.mpr ⟨List.mem_of_getElem? (i := 310) rfl, rfl⟩
theorem cd_M_flip : Cond.code y_M_flip b_M_flip 2 (some .boolean) ∈ g_tbl := List.mem_filter.mpr ⟨List.mem_of_getElem? (i := 311) rfl, rfl⟩
theorem ml_law_38 : Cond.methodLink R_law 38 y_M_check ∈ g_tbl := List.mem_filter.mpr ⟨List.mem_of_getElem? (i := 312) rfl, rfl⟩
theorem im_M_check : Cond.instanceMethod y_M_check ∈ g_tbl := List.mem_filter.mpr ⟨List.mem_of_getElem? (i := 313) rfl, rfl⟩
theorem se_M_check : Cond.selects R_M y_M_check y_M_check ∈ g_tbl := List.mem_filter.mpr ⟨List.mem_of_getElem? (i := 314) rfl, rfl⟩
theorem cd_M_check : Cond.code y_M_check b_M_check 2 (some .long) ∈ g_tbl := List.mem_filter.mpr ⟨List.mem_of_getElem? (i := 315) rfl, rfl⟩
theorem ml_M_61 : Cond.methodLink R_M 61 y_M_over ∈ g_tbl := List.mem_filter.mpr ⟨List.mem_of_getElem? (i := 316) rfl, rfl⟩
theorem im_M_over : Cond.instanceMethod y_M_over ∈ g_tbl := List.mem_filter.mpr ⟨List.mem_of_getElem? (i := 318) rfl, rfl⟩
theorem cd_M_over : Cond.code y_M_over b_M_over 6 (some .long) ∈ g_tbl := List.mem_filter.mpr ⟨List.mem_of_getElem? (i := 319) rfl, rfl⟩
theorem ml_M_55 : Cond.methodLink R_M 55 y_M_oneByte ∈ g_tbl := List.mem_filter.mpr ⟨List.mem_of_getElem? (i := 320) rfl, rfl⟩
theorem im_M_oneByte : Cond.instanceMethod y_M_oneByte ∈ g_tbl := List.mem_filter.mpr ⟨List.mem_of_getElem? (i := 322) rfl, rfl⟩
theorem cd_M_oneByte : Cond.code y_M_oneByte b_M_oneByte 7 (some .long) ∈ g_tbl := List.mem_filter.mpr ⟨List.mem_of_getElem? (i := 323) rfl, rfl⟩
theorem ml_M_49 : Cond.methodLink R_M 49 y_M_bit ∈ g_tbl := List.mem_filter.mpr ⟨List.mem_of_getElem? (i := 324) rfl, rfl⟩
theorem im_M_bit : Cond.instanceMethod y_M_bit ∈ g_tbl := List.mem_filter.mpr ⟨List.mem_of_getElem? (i := 326) rfl, rfl⟩
theorem cd_M_bit : Cond.code y_M_bit b_M_bit 7 (some .long) ∈ g_tbl := List.mem_filter.mpr ⟨List.mem_of_getElem? (i := 327) rfl, rfl⟩
theorem ml_M_58 : Cond.methodLink R_M 58 y_M_told ∈ g_tbl := List.mem_filter.mpr ⟨List.mem_of_getElem? (i := 328) rfl, rfl⟩
theorem im_M_told : Cond.instanceMethod y_M_told ∈ g_tbl := List.mem_filter.mpr ⟨List.mem_of_getElem? (i := 330) rfl, rfl⟩
theorem cd_M_told : Cond.code y_M_told b_M_told 3 (some .long) ∈ g_tbl := List.mem_filter.mpr ⟨List.mem_of_getElem? (i := 331) rfl, rfl⟩
theorem ml_M_52 : Cond.methodLink R_M 52 y_M_turned ∈ g_tbl := List.mem_filter.mpr ⟨List.mem_of_getElem? (i := 332) rfl, rfl⟩
theorem im_M_turned : Cond.instanceMethod y_M_turned ∈ g_tbl := List.mem_filter.mpr ⟨List.mem_of_getElem? (i := 334) rfl, rfl⟩
theorem cd_M_turned : Cond.code y_M_turned b_M_turned 6 (some .long) ∈ g_tbl := List.mem_filter.mpr ⟨List.mem_of_getElem? (i := 335) rfl, rfl⟩
theorem ml_law_43 : Cond.methodLink R_law 43 y_M_part ∈ g_tbl := List.mem_filter.mpr ⟨List.mem_of_getElem? (i := 336) rfl, rfl⟩
theorem im_M_part : Cond.instanceMethod y_M_part ∈ g_tbl := List.mem_filter.mpr ⟨List.mem_of_getElem? (i := 337) rfl, rfl⟩
theorem se_M_part : Cond.selects R_M y_M_part y_M_part ∈ g_tbl := List.mem_filter.mpr ⟨List.mem_of_getElem? (i := 338) rfl, rfl⟩
theorem cd_M_part : Cond.code y_M_part b_M_part 3 (some .long) ∈ g_tbl := List.mem_filter.mpr ⟨List.mem_of_getElem? (i := 339) rfl, rfl⟩
theorem ml_law_48 : Cond.methodLink R_law 48 y_M_joined ∈ g_tbl := List.mem_filter.mpr ⟨List.mem_of_getElem? (i := 340) rfl, rfl⟩
theorem im_M_joined : Cond.instanceMethod y_M_joined ∈ g_tbl := List.mem_filter.mpr ⟨List.mem_of_getElem? (i := 341) rfl, rfl⟩
theorem se_M_joined : Cond.selects R_M y_M_joined y_M_joined ∈ g_tbl := List.mem_filter.mpr ⟨List.mem_of_getElem? (i := 342) rfl, rfl⟩
theorem cd_M_joined : Cond.code y_M_joined b_M_joined 6 (some .long) ∈ g_tbl := List.mem_filter.mpr ⟨List.mem_of_getElem? (i := 343) rfl, rfl⟩
theorem ml_M_71 : Cond.methodLink R_M 71 y_M_register ∈ g_tbl := List.mem_filter.mpr ⟨List.mem_of_getElem? (i := 344) rfl, rfl⟩
theorem im_M_register : Cond.instanceMethod y_M_register ∈ g_tbl := List.mem_filter.mpr ⟨List.mem_of_getElem? (i := 346) rfl, rfl⟩
theorem cd_M_register : Cond.code y_M_register b_M_register 5 (some .long) ∈ g_tbl := List.mem_filter.mpr ⟨List.mem_of_getElem? (i := 347) rfl, rfl⟩
theorem cj_M_74 : Cond.constantLong R_M 74 (8) ∈ g_tbl := List.mem_filter.mpr ⟨List.mem_of_getElem? (i := 348) rfl, rfl⟩
theorem ml_M_76 : Cond.methodLink R_M 76 y_M_behind ∈ g_tbl := List.mem_filter.mpr ⟨List.mem_of_getElem? (i := 349) rfl, rfl⟩
theorem im_M_behind : Cond.instanceMethod y_M_behind ∈ g_tbl := List.mem_filter.mpr ⟨List.mem_of_getElem? (i := 351) rfl, rfl⟩
theorem cd_M_behind : Cond.code y_M_behind b_M_behind 11 (some .long) ∈ g_tbl := List.mem_filter.mpr ⟨List.mem_of_getElem? (i := 352) rfl, rfl⟩
theorem cj_M_65 : Cond.constantLong R_M 65 (2) ∈ g_tbl := List.mem_filter.mpr ⟨List.mem_of_getElem? (i := 353) rfl, rfl⟩
theorem ml_M_67 : Cond.methodLink R_M 67 y_M_times ∈ g_tbl := List.mem_filter.mpr ⟨List.mem_of_getElem? (i := 354) rfl, rfl⟩
theorem im_M_times : Cond.instanceMethod y_M_times ∈ g_tbl := List.mem_filter.mpr ⟨List.mem_of_getElem? (i := 356) rfl, rfl⟩
theorem cd_M_times : Cond.code y_M_times b_M_times 8 (some .long) ∈ g_tbl := List.mem_filter.mpr ⟨List.mem_of_getElem? (i := 357) rfl, rfl⟩
theorem ml_law_52 : Cond.methodLink R_law 52 y_M_entry ∈ g_tbl := List.mem_filter.mpr ⟨List.mem_of_getElem? (i := 358) rfl, rfl⟩
theorem im_M_entry : Cond.instanceMethod y_M_entry ∈ g_tbl := List.mem_filter.mpr ⟨List.mem_of_getElem? (i := 359) rfl, rfl⟩
theorem se_M_entry : Cond.selects R_M y_M_entry y_M_entry ∈ g_tbl := List.mem_filter.mpr ⟨List.mem_of_getElem? (i := 360) rfl, rfl⟩
theorem cd_M_entry : Cond.code y_M_entry b_M_entry 3 (some .long) ∈ g_tbl := List.mem_filter.mpr ⟨List.mem_of_getElem? (i := 361) rfl, rfl⟩
theorem ml_law_57 : Cond.methodLink R_law 57 y_M_zeros ∈ g_tbl := List.mem_filter.mpr ⟨List.mem_of_getElem? (i := 362) rfl, rfl⟩
theorem im_M_zeros : Cond.instanceMethod y_M_zeros ∈ g_tbl := List.mem_filter.mpr ⟨List.mem_of_getElem? (i := 363) rfl, rfl⟩
theorem se_M_zeros : Cond.selects R_M y_M_zeros y_M_zeros ∈ g_tbl := List.mem_filter.mpr ⟨List.mem_of_getElem? (i := 364) rfl, rfl⟩
theorem cd_M_zeros : Cond.code y_M_zeros b_M_zeros 4 (some .long) ∈ g_tbl := List.mem_filter.mpr ⟨List.mem_of_getElem? (i := 365) rfl, rfl⟩
theorem ci_M_79 : Cond.constant R_M 79 (1000000) ∈ g_tbl := List.mem_filter.mpr ⟨List.mem_of_getElem? (i := 366) rfl, rfl⟩
theorem ml_law_62 : Cond.methodLink R_law 62 y_M_round ∈ g_tbl := List.mem_filter.mpr ⟨List.mem_of_getElem? (i := 367) rfl, rfl⟩
theorem im_M_round : Cond.instanceMethod y_M_round ∈ g_tbl := List.mem_filter.mpr ⟨List.mem_of_getElem? (i := 368) rfl, rfl⟩
theorem se_M_round : Cond.selects R_M y_M_round y_M_round ∈ g_tbl := List.mem_filter.mpr ⟨List.mem_of_getElem? (i := 369) rfl, rfl⟩
theorem cd_M_round : Cond.code y_M_round b_M_round 4 (some .int) ∈ g_tbl := List.mem_filter.mpr ⟨List.mem_of_getElem? (i := 370) rfl, rfl⟩
theorem ml_law_67 : Cond.methodLink R_law 67 y_M_holds ∈ g_tbl := List.mem_filter.mpr ⟨List.mem_of_getElem? (i := 371) rfl, rfl⟩
theorem im_M_holds : Cond.instanceMethod y_M_holds ∈ g_tbl := List.mem_filter.mpr ⟨List.mem_of_getElem? (i := 372) rfl, rfl⟩
theorem se_M_holds : Cond.selects R_M y_M_holds y_M_holds ∈ g_tbl := List.mem_filter.mpr ⟨List.mem_of_getElem? (i := 373) rfl, rfl⟩
theorem cd_M_holds : Cond.code y_M_holds b_M_holds 1 (some .boolean) ∈ g_tbl := List.mem_filter.mpr ⟨List.mem_of_getElem? (i := 374) rfl, rfl⟩
theorem ml_law_72 : Cond.methodLink R_law 72 y_M_count ∈ g_tbl := List.mem_filter.mpr ⟨List.mem_of_getElem? (i := 375) rfl, rfl⟩
theorem im_M_count : Cond.instanceMethod y_M_count ∈ g_tbl := List.mem_filter.mpr ⟨List.mem_of_getElem? (i := 376) rfl, rfl⟩
theorem se_M_count : Cond.selects R_M y_M_count y_M_count ∈ g_tbl := List.mem_filter.mpr ⟨List.mem_of_getElem? (i := 377) rfl, rfl⟩
theorem cd_M_count : Cond.code y_M_count b_M_count 2 (some .int) ∈ g_tbl := List.mem_filter.mpr ⟨List.mem_of_getElem? (i := 378) rfl, rfl⟩
theorem ml_law_76 : Cond.methodLink R_law 76 y_M_toldI ∈ g_tbl := List.mem_filter.mpr ⟨List.mem_of_getElem? (i := 379) rfl, rfl⟩
theorem im_M_toldI : Cond.instanceMethod y_M_toldI ∈ g_tbl := List.mem_filter.mpr ⟨List.mem_of_getElem? (i := 380) rfl, rfl⟩
theorem se_M_toldI : Cond.selects R_M y_M_toldI y_M_toldI ∈ g_tbl := List.mem_filter.mpr ⟨List.mem_of_getElem? (i := 381) rfl, rfl⟩
theorem cd_M_toldI : Cond.code y_M_toldI b_M_toldI 2 (some .long) ∈ g_tbl := List.mem_filter.mpr ⟨List.mem_of_getElem? (i := 382) rfl, rfl⟩
theorem cj_law_13 : Cond.constantLong R_law 13 (4294967295) ∈ g_tbl := List.mem_filter.mpr ⟨List.mem_of_getElem? (i := 383) rfl, rfl⟩
theorem se_X_place : Cond.selects R_X y_X_place y_X_place ∈ g_tbl := List.mem_filter.mpr ⟨List.mem_of_getElem? (i := 0) rfl, rfl⟩
theorem se_X_byBits : Cond.selects R_X y_X_byBits y_X_byBits ∈ g_tbl := List.mem_filter.mpr ⟨List.mem_of_getElem? (i := 1) rfl, rfl⟩
theorem se_X_byBytes : Cond.selects R_X y_X_byBytes y_X_byBytes ∈ g_tbl := List.mem_filter.mpr ⟨List.mem_of_getElem? (i := 2) rfl, rfl⟩
theorem se_X_bySlices : Cond.selects R_X y_X_bySlices y_X_bySlices ∈ g_tbl := List.mem_filter.mpr ⟨List.mem_of_getElem? (i := 3) rfl, rfl⟩
theorem se_X_eightAt : Cond.selects R_X y_X_eightAt y_X_eightAt ∈ g_tbl := List.mem_filter.mpr ⟨List.mem_of_getElem? (i := 4) rfl, rfl⟩
theorem se_X_byDividing : Cond.selects R_X y_X_byDividing y_X_byDividing ∈ g_tbl := List.mem_filter.mpr ⟨List.mem_of_getElem? (i := 5) rfl, rfl⟩
theorem se_X_layBits : Cond.selects R_X y_X_layBits y_X_layBits ∈ g_tbl := List.mem_filter.mpr ⟨List.mem_of_getElem? (i := 6) rfl, rfl⟩
theorem se_M_cut : Cond.selects R_M y_M_cut y_M_cut ∈ g_tbl := List.mem_filter.mpr ⟨List.mem_of_getElem? (i := 7) rfl, rfl⟩
theorem se_M_over : Cond.selects R_M y_M_over y_M_over ∈ g_tbl := List.mem_filter.mpr ⟨List.mem_of_getElem? (i := 8) rfl, rfl⟩
theorem se_M_oneByte : Cond.selects R_M y_M_oneByte y_M_oneByte ∈ g_tbl := List.mem_filter.mpr ⟨List.mem_of_getElem? (i := 9) rfl, rfl⟩
theorem se_M_bit : Cond.selects R_M y_M_bit y_M_bit ∈ g_tbl := List.mem_filter.mpr ⟨List.mem_of_getElem? (i := 10) rfl, rfl⟩
theorem se_M_told : Cond.selects R_M y_M_told y_M_told ∈ g_tbl := List.mem_filter.mpr ⟨List.mem_of_getElem? (i := 11) rfl, rfl⟩
theorem se_M_turned : Cond.selects R_M y_M_turned y_M_turned ∈ g_tbl := List.mem_filter.mpr ⟨List.mem_of_getElem? (i := 12) rfl, rfl⟩
theorem se_M_register : Cond.selects R_M y_M_register y_M_register ∈ g_tbl := List.mem_filter.mpr ⟨List.mem_of_getElem? (i := 13) rfl, rfl⟩
theorem se_M_behind : Cond.selects R_M y_M_behind y_M_behind ∈ g_tbl := List.mem_filter.mpr ⟨List.mem_of_getElem? (i := 14) rfl, rfl⟩
theorem se_M_times : Cond.selects R_M y_M_times y_M_times ∈ g_tbl := List.mem_filter.mpr ⟨List.mem_of_getElem? (i := 15) rfl, rfl⟩
theorem tb_good : ∀ w ∈ g_tbl, ((w.onTables && w.keeps) = true ∨ ∃ ty, w = .arrayClass ty) := fun _ hw => good_of_word (List.mem_filter.mp hw).2
/-- what a caller needs to know of a method that is called on an object: its words, its number of arguments -/
def CalV (y : MethodName) (bytes : ByteArray) (maxL : Nat) (ret : Option FieldType) (n : Nat) : Prop := (Cond.instanceMethod y ∈ g_tbl ∧ Cond.selects y.cls y y ∈ g_tbl ∧ Cond.initialized y.cls ∈ g_tbl ∧ Cond.code y bytes maxL ret ∈ g_tbl) ∧ (y.cls ≠ "java/lang/invoke/MethodHandle" ∧ y.cls ≠ "java/lang/invoke/VarHandle" ∧ (parseMethodDescriptor y.desc).map (fun d => d.parameters.length) = some n)
def CalS (y : MethodName) (bytes : ByteArray) (maxL : Nat) (ret : Option FieldType) (n : Nat) : Prop := (Cond.static y ∈ g_tbl ∧ Cond.initialized y.cls ∈ g_tbl ∧ Cond.code y bytes maxL ret ∈ g_tbl) ∧ (y.cls ≠ "java/lang/invoke/MethodHandle" ∧ y.cls ≠ "java/lang/invoke/VarHandle" ∧ (parseMethodDescriptor y.desc).map (fun d => d.parameters.length) = some n)
def CalI (y : MethodName) (bytes : ByteArray) (maxL : Nat) (n : Nat) : Prop := (Cond.instanceMethod y ∈ g_tbl ∧ Cond.initialized y.cls ∈ g_tbl ∧ Cond.code y bytes maxL none ∈ g_tbl ∧ y.name = "<init>") ∧ (y.cls ≠ "java/lang/invoke/MethodHandle" ∧ y.cls ≠ "java/lang/invoke/VarHandle" ∧ (parseMethodDescriptor y.desc).map (fun d => d.parameters.length) = some n)
theorem k_X_init : CalI y_X_init b_X_init 1 0 := ⟨⟨im_X_init, in_X, cd_X_init, rfl⟩, (by decide +kernel)⟩
theorem k_K_init : CalI y_K_init b_K_init 12 6 := ⟨⟨im_K_init, in_K, cd_K_init, rfl⟩, (by decide +kernel)⟩
theorem k_K_shift : CalV y_K_shift b_K_shift 11 (some .long) 3 := ⟨⟨im_K_shift, se_K_shift, in_K, cd_K_shift⟩, (by decide +kernel)⟩
theorem k_K_stand : CalV y_K_stand b_K_stand 3 (some .long) 1 := ⟨⟨im_K_stand, se_K_stand, in_K, cd_K_stand⟩, (by decide +kernel)⟩
theorem k_K_turned : CalV y_K_turned b_K_turned 3 (some .long) 1 := ⟨⟨im_K_turned, se_K_turned, in_K, cd_K_turned⟩, (by decide +kernel)⟩
theorem k_L_reverse : CalS y_L_reverse b_L_reverse 2 (some .long) 1 := ⟨⟨sm_L_reverse, in_L, cd_L_reverse⟩, (by decide +kernel)⟩
theorem k_L_reverseBytes : CalS y_L_reverseBytes b_L_reverseBytes 2 (some .long) 1 := ⟨⟨sm_L_reverseBytes, in_L, cd_L_reverseBytes⟩, (by decide +kernel)⟩
theorem k_K_next : CalV y_K_next b_K_next 4 (some .long) 2 := ⟨⟨im_K_next, se_K_next, in_K, cd_K_next⟩, (by decide +kernel)⟩
theorem k_P_init : CalI y_P_init b_P_init 1 0 := ⟨⟨im_P_init, in_P, cd_P_init, rfl⟩, (by decide +kernel)⟩
theorem k_X_kind : CalV y_X_kind b_X_kind 10 (some .boolean) 6 := ⟨⟨im_X_kind, se_X_kind, in_X, cd_X_kind⟩, (by decide +kernel)⟩
theorem k_X_within : CalS y_X_within b_X_within 3 (some .boolean) 3 := ⟨⟨sm_X_within, in_X, cd_X_within⟩, (by decide +kernel)⟩
theorem k_X_feed : CalV y_X_feed b_X_feed 4 (some .boolean) 2 := ⟨⟨im_X_feed, se_X_feed, in_X, cd_X_feed⟩, (by decide +kernel)⟩
theorem k_X_clear : CalV y_X_clear b_X_clear 1 none 0 := ⟨⟨im_X_clear, se_X_clear, in_X, cd_X_clear⟩, (by decide +kernel)⟩
theorem k_X_flip : CalV y_X_flip b_X_flip 2 (some .boolean) 1 := ⟨⟨im_X_flip, se_X_flip, in_X, cd_X_flip⟩, (by decide +kernel)⟩
theorem k_X_place : CalV y_X_place b_X_place 2 (some .int) 1 := ⟨⟨im_X_place, se_X_place, in_X, cd_X_place⟩, (by decide +kernel)⟩
theorem k_X_check : CalV y_X_check b_X_check 2 (some .long) 1 := ⟨⟨im_X_check, se_X_check, in_X, cd_X_check⟩, (by decide +kernel)⟩
theorem k_X_byBits : CalV y_X_byBits b_X_byBits 6 (some .long) 2 := ⟨⟨im_X_byBits, se_X_byBits, in_X, cd_X_byBits⟩, (by decide +kernel)⟩
theorem k_K_finish : CalV y_K_finish b_K_finish 5 (some .long) 1 := ⟨⟨im_K_finish, se_K_finish, in_K, cd_K_finish⟩, (by decide +kernel)⟩
theorem k_K_lie : CalV y_K_lie b_K_lie 3 (some .long) 1 := ⟨⟨im_K_lie, se_K_lie, in_K, cd_K_lie⟩, (by decide +kernel)⟩
theorem k_X_byBytes : CalV y_X_byBytes b_X_byBytes 6 (some .long) 2 := ⟨⟨im_X_byBytes, se_X_byBytes, in_X, cd_X_byBytes⟩, (by decide +kernel)⟩
theorem k_X_bySlices : CalV y_X_bySlices b_X_bySlices 6 (some .long) 2 := ⟨⟨im_X_bySlices, se_X_bySlices, in_X, cd_X_bySlices⟩, (by decide +kernel)⟩
theorem k_X_eightAt : CalV y_X_eightAt b_X_eightAt 6 (some .long) 1 := ⟨⟨im_X_eightAt, se_X_eightAt, in_X, cd_X_eightAt⟩, (by decide +kernel)⟩
theorem k_K_slice : CalV y_K_slice b_K_slice 11 (some .long) 2 := ⟨⟨im_K_slice, se_K_slice, in_K, cd_K_slice⟩, (by decide +kernel)⟩
theorem k_X_byDividing : CalV y_X_byDividing b_X_byDividing 6 (some .long) 0 := ⟨⟨im_X_byDividing, se_X_byDividing, in_X, cd_X_byDividing⟩, (by decide +kernel)⟩
theorem k_X_layBits : CalV y_X_layBits b_X_layBits 2 none 0 := ⟨⟨im_X_layBits, se_X_layBits, in_X, cd_X_layBits⟩, (by decide +kernel)⟩
theorem k_X_part : CalV y_X_part b_X_part 3 (some .long) 2 := ⟨⟨im_X_part, se_X_part, in_X, cd_X_part⟩, (by decide +kernel)⟩
theorem k_X_joined : CalV y_X_joined b_X_joined 10 (some .long) 3 := ⟨⟨im_X_joined, se_X_joined, in_X, cd_X_joined⟩, (by decide +kernel)⟩
theorem k_K_begin : CalV y_K_begin b_K_begin 5 (some .long) 1 := ⟨⟨im_K_begin, se_K_begin, in_K, cd_K_begin⟩, (by decide +kernel)⟩
theorem k_P_go : CalV y_P_go b_P_go 11 (some .long) 3 := ⟨⟨im_P_go, se_P_go, in_P, cd_P_go⟩, (by decide +kernel)⟩
theorem k_P_times : CalS y_P_times b_P_times 6 (some .long) 2 := ⟨⟨sm_P_times, in_P, cd_P_times⟩, (by decide +kernel)⟩
theorem k_X_entry : CalV y_X_entry b_X_entry 3 (some .long) 2 := ⟨⟨im_X_entry, se_X_entry, in_X, cd_X_entry⟩, (by decide +kernel)⟩
theorem k_X_zeros : CalV y_X_zeros b_X_zeros 4 (some .long) 2 := ⟨⟨im_X_zeros, se_X_zeros, in_X, cd_X_zeros⟩, (by decide +kernel)⟩
theorem k_X_round : CalV y_X_round b_X_round 6 (some .int) 0 := ⟨⟨im_X_round, se_X_round, in_X, cd_X_round⟩, (by decide +kernel)⟩
theorem k_X_holds : CalV y_X_holds b_X_holds 5 (some .boolean) 0 := ⟨⟨im_X_holds, se_X_holds, in_X, cd_X_holds⟩, (by decide +kernel)⟩
theorem k_X_count : CalV y_X_count b_X_count 2 (some .int) 1 := ⟨⟨im_X_count, se_X_count, in_X, cd_X_count⟩, (by decide +kernel)⟩
theorem k_X_told : CalV y_X_told b_X_told 2 (some .long) 1 := ⟨⟨im_X_told, se_X_told, in_X, cd_X_told⟩, (by decide +kernel)⟩
theorem k_M_init : CalI y_M_init b_M_init 1 0 := ⟨⟨im_M_init, in_M, cd_M_init, rfl⟩, (by decide +kernel)⟩
theorem k_M_kind : CalV y_M_kind b_M_kind 10 (some .boolean) 6 := ⟨⟨im_M_kind, se_M_kind, in_M, cd_M_kind⟩, (by decide +kernel)⟩
theorem k_M_cut : CalV y_M_cut b_M_cut 3 (some .long) 1 := ⟨⟨im_M_cut, se_M_cut, in_M, cd_M_cut⟩, (by decide +kernel)⟩
theorem k_M_low : CalS y_M_low b_M_low 3 (some .long) 2 := ⟨⟨sm_M_low, in_M, cd_M_low⟩, (by decide +kernel)⟩
theorem k_M_feed : CalV y_M_feed b_M_feed 4 (some .boolean) 2 := ⟨⟨im_M_feed, se_M_feed, in_M, cd_M_feed⟩, (by decide +kernel)⟩
theorem k_M_clear : CalV y_M_clear b_M_clear 1 none 0 := ⟨⟨im_M_clear, se_M_clear, in_M, cd_M_clear⟩, (by decide +kernel)⟩
theorem k_M_flip : CalV y_M_flip b_M_flip 2 (some .boolean) 1 := ⟨⟨im_M_flip, se_M_flip, in_M, cd_M_flip⟩, (by decide +kernel)⟩
theorem k_M_check : CalV y_M_check b_M_check 2 (some .long) 1 := ⟨⟨im_M_check, se_M_check, in_M, cd_M_check⟩, (by decide +kernel)⟩
theorem k_M_over : CalV y_M_over b_M_over 6 (some .long) 2 := ⟨⟨im_M_over, se_M_over, in_M, cd_M_over⟩, (by decide +kernel)⟩
theorem k_M_oneByte : CalV y_M_oneByte b_M_oneByte 7 (some .long) 2 := ⟨⟨im_M_oneByte, se_M_oneByte, in_M, cd_M_oneByte⟩, (by decide +kernel)⟩
theorem k_M_bit : CalV y_M_bit b_M_bit 7 (some .long) 2 := ⟨⟨im_M_bit, se_M_bit, in_M, cd_M_bit⟩, (by decide +kernel)⟩
theorem k_M_told : CalV y_M_told b_M_told 3 (some .long) 1 := ⟨⟨im_M_told, se_M_told, in_M, cd_M_told⟩, (by decide +kernel)⟩
theorem k_M_turned : CalV y_M_turned b_M_turned 6 (some .long) 1 := ⟨⟨im_M_turned, se_M_turned, in_M, cd_M_turned⟩, (by decide +kernel)⟩
theorem k_M_part : CalV y_M_part b_M_part 3 (some .long) 2 := ⟨⟨im_M_part, se_M_part, in_M, cd_M_part⟩, (by decide +kernel)⟩
theorem k_M_joined : CalV y_M_joined b_M_joined 6 (some .long) 3 := ⟨⟨im_M_joined, se_M_joined, in_M, cd_M_joined⟩, (by decide +kernel)⟩
theorem k_M_register : CalV y_M_register b_M_register 5 (some .long) 1 := ⟨⟨im_M_register, se_M_register, in_M, cd_M_register⟩, (by decide +kernel)⟩
theorem k_M_behind : CalV y_M_behind b_M_behind 11 (some .long) 2 := ⟨⟨im_M_behind, se_M_behind, in_M, cd_M_behind⟩, (by decide +kernel)⟩
theorem k_M_times : CalV y_M_times b_M_times 8 (some .long) 2 := ⟨⟨im_M_times, se_M_times, in_M, cd_M_times⟩, (by decide +kernel)⟩
theorem k_M_entry : CalV y_M_entry b_M_entry 3 (some .long) 2 := ⟨⟨im_M_entry, se_M_entry, in_M, cd_M_entry⟩, (by decide +kernel)⟩
theorem k_M_zeros : CalV y_M_zeros b_M_zeros 4 (some .long) 2 := ⟨⟨im_M_zeros, se_M_zeros, in_M, cd_M_zeros⟩, (by decide +kernel)⟩
theorem k_M_round : CalV y_M_round b_M_round 4 (some .int) 0 := ⟨⟨im_M_round, se_M_round, in_M, cd_M_round⟩, (by decide +kernel)⟩
theorem k_M_holds : CalV y_M_holds b_M_holds 1 (some .boolean) 0 := ⟨⟨im_M_holds, se_M_holds, in_M, cd_M_holds⟩, (by decide +kernel)⟩
theorem k_M_count : CalV y_M_count b_M_count 2 (some .int) 1 := ⟨⟨im_M_count, se_M_count, in_M, cd_M_count⟩, (by decide +kernel)⟩
theorem k_M_toldI : CalV y_M_toldI b_M_toldI 2 (some .long) 1 := ⟨⟨im_M_toldI, se_M_toldI, in_M, cd_M_toldI⟩, (by decide +kernel)⟩
end
section
theorem d_K_init_0 : decode b_K_init 0 = .ok (.aload_n 0, 1) := by decide +kernel
theorem d_K_init_1 : decode b_K_init 1 = .ok (.invokespecial 3, 3) := by decide +kernel
theorem d_K_init_4 : decode b_K_init 4 = .ok (.aload_n 0, 1) := by decide +kernel
theorem d_K_init_5 : decode b_K_init 5 = .ok (.sipush 2048, 3) := by decide +kernel
theorem d_K_init_8 : decode b_K_init 8 = .ok (.newarray .long, 2) := by decide +kernel
theorem d_K_init_10 : decode b_K_init 10 = .ok (.putfield 9, 3) := by decide +kernel
theorem d_K_init_13 : decode b_K_init 13 = .ok (.aload_n 0, 1) := by decide +kernel
theorem d_K_init_14 : decode b_K_init 14 = .ok (.iload_n 1, 1) := by decide +kernel
theorem d_K_init_15 : decode b_K_init 15 = .ok (.putfield 15, 3) := by decide +kernel
theorem d_K_init_18 : decode b_K_init 18 = .ok (.aload_n 0, 1) := by decide +kernel
theorem d_K_init_19 : decode b_K_init 19 = .ok (.ldc2_w 19, 3) := by decide +kernel
theorem d_K_init_22 : decode b_K_init 22 = .ok (.bipush 64, 2) := by decide +kernel
theorem d_K_init_24 : decode b_K_init 24 = .ok (.iload_n 1, 1) := by decide +kernel
theorem d_K_init_25 : decode b_K_init 25 = .ok (.isub, 1) := by decide +kernel
theorem d_K_init_26 : decode b_K_init 26 = .ok (.lushr, 1) := by decide +kernel
theorem d_K_init_27 : decode b_K_init 27 = .ok (.putfield 21, 3) := by decide +kernel
theorem d_K_init_30 : decode b_K_init 30 = .ok (.aload_n 0, 1) := by decide +kernel
theorem d_K_init_31 : decode b_K_init 31 = .ok (.lload_n 2, 1) := by decide +kernel
theorem d_K_init_32 : decode b_K_init 32 = .ok (.aload_n 0, 1) := by decide +kernel
theorem d_K_init_33 : decode b_K_init 33 = .ok (.getfield 21, 3) := by decide +kernel
theorem d_K_init_36 : decode b_K_init 36 = .ok (.land, 1) := by decide +kernel
theorem d_K_init_37 : decode b_K_init 37 = .ok (.putfield 25, 3) := by decide +kernel
theorem d_K_init_40 : decode b_K_init 40 = .ok (.aload_n 0, 1) := by decide +kernel
theorem d_K_init_41 : decode b_K_init 41 = .ok (.lload 4, 2) := by decide +kernel
theorem d_K_init_43 : decode b_K_init 43 = .ok (.aload_n 0, 1) := by decide +kernel
theorem d_K_init_44 : decode b_K_init 44 = .ok (.getfield 21, 3) := by decide +kernel
theorem d_K_init_47 : decode b_K_init 47 = .ok (.land, 1) := by decide +kernel
theorem d_K_init_48 : decode b_K_init 48 = .ok (.putfield 28, 3) := by decide +kernel
theorem d_K_init_51 : decode b_K_init 51 = .ok (.aload_n 0, 1) := by decide +kernel
theorem d_K_init_52 : decode b_K_init 52 = .ok (.lload 8, 2) := by decide +kernel
theorem d_K_init_54 : decode b_K_init 54 = .ok (.aload_n 0, 1) := by decide +kernel
theorem d_K_init_55 : decode b_K_init 55 = .ok (.getfield 21, 3) := by decide +kernel
theorem d_K_init_58 : decode b_K_init 58 = .ok (.land, 1) := by decide +kernel
theorem d_K_init_59 : decode b_K_init 59 = .ok (.putfield 31, 3) := by decide +kernel
theorem d_K_init_62 : decode b_K_init 62 = .ok (.aload_n 0, 1) := by decide +kernel
theorem d_K_init_63 : decode b_K_init 63 = .ok (.iload 6, 2) := by decide +kernel
theorem d_K_init_65 : decode b_K_init 65 = .ok (.putfield 34, 3) := by decide +kernel
theorem d_K_init_68 : decode b_K_init 68 = .ok (.aload_n 0, 1) := by decide +kernel
theorem d_K_init_69 : decode b_K_init 69 = .ok (.iload 7, 2) := by decide +kernel
theorem d_K_init_71 : decode b_K_init 71 = .ok (.putfield 38, 3) := by decide +kernel
theorem d_K_init_74 : decode b_K_init 74 = .ok (.iconst 0, 1) := by decide +kernel
theorem d_K_init_75 : decode b_K_init 75 = .ok (.istore 10, 2) := by decide +kernel
theorem d_K_init_77 : decode b_K_init 77 = .ok (.iload 10, 2) := by decide +kernel
theorem d_K_init_79 : decode b_K_init 79 = .ok (.sipush 256, 3) := by decide +kernel
theorem d_K_init_82 : decode b_K_init 82 = .ok (.if_icmp .ge 25, 3) := by decide +kernel
theorem d_K_init_85 : decode b_K_init 85 = .ok (.aload_n 0, 1) := by decide +kernel
theorem d_K_init_86 : decode b_K_init 86 = .ok (.getfield 9, 3) := by decide +kernel
theorem d_K_init_89 : decode b_K_init 89 = .ok (.iload 10, 2) := by decide +kernel
theorem d_K_init_91 : decode b_K_init 91 = .ok (.aload_n 0, 1) := by decide +kernel
theorem d_K_init_92 : decode b_K_init 92 = .ok (.lconst 0, 1) := by decide +kernel
theorem d_K_init_93 : decode b_K_init 93 = .ok (.iload 10, 2) := by decide +kernel
theorem d_K_init_95 : decode b_K_init 95 = .ok (.bipush 8, 2) := by decide +kernel
theorem d_K_init_97 : decode b_K_init 97 = .ok (.invokevirtual 41, 3) := by decide +kernel
theorem d_K_init_100 : decode b_K_init 100 = .ok (.lastore, 1) := by decide +kernel
theorem d_K_init_101 : decode b_K_init 101 = .ok (.iinc 10 1, 3) := by decide +kernel
theorem d_K_init_104 : decode b_K_init 104 = .ok (.goto (-27), 3) := by decide +kernel
theorem d_K_init_107 : decode b_K_init 107 = .ok (.iconst 1, 1) := by decide +kernel
theorem d_K_init_108 : decode b_K_init 108 = .ok (.istore 10, 2) := by decide +kernel
theorem d_K_init_110 : decode b_K_init 110 = .ok (.iload 10, 2) := by decide +kernel
theorem d_K_init_112 : decode b_K_init 112 = .ok (.bipush 8, 2) := by decide +kernel
theorem d_K_init_114 : decode b_K_init 114 = .ok (.if_icmp .ge 61, 3) := by decide +kernel
theorem d_K_init_117 : decode b_K_init 117 = .ok (.iconst 0, 1) := by decide +kernel
theorem d_K_init_118 : decode b_K_init 118 = .ok (.istore 11, 2) := by decide +kernel
theorem d_K_init_120 : decode b_K_init 120 = .ok (.iload 11, 2) := by decide +kernel
theorem d_K_init_122 : decode b_K_init 122 = .ok (.sipush 256, 3) := by decide +kernel
theorem d_K_init_125 : decode b_K_init 125 = .ok (.if_icmp .ge 44, 3) := by decide +kernel
theorem d_K_init_128 : decode b_K_init 128 = .ok (.aload_n 0, 1) := by decide +kernel
theorem d_K_init_129 : decode b_K_init 129 = .ok (.getfield 9, 3) := by decide +kernel
theorem d_K_init_132 : decode b_K_init 132 = .ok (.sipush 256, 3) := by decide +kernel
theorem d_K_init_135 : decode b_K_init 135 = .ok (.iload 10, 2) := by decide +kernel
theorem d_K_init_137 : decode b_K_init 137 = .ok (.imul, 1) := by decide +kernel
theorem d_K_init_138 : decode b_K_init 138 = .ok (.iload 11, 2) := by decide +kernel
theorem d_K_init_140 : decode b_K_init 140 = .ok (.iadd, 1) := by decide +kernel
theorem d_K_init_141 : decode b_K_init 141 = .ok (.aload_n 0, 1) := by decide +kernel
theorem d_K_init_142 : decode b_K_init 142 = .ok (.aload_n 0, 1) := by decide +kernel
theorem d_K_init_143 : decode b_K_init 143 = .ok (.getfield 9, 3) := by decide +kernel
theorem d_K_init_146 : decode b_K_init 146 = .ok (.sipush 256, 3) := by decide +kernel
theorem d_K_init_149 : decode b_K_init 149 = .ok (.iload 10, 2) := by decide +kernel
theorem d_K_init_151 : decode b_K_init 151 = .ok (.iconst 1, 1) := by decide +kernel
theorem d_K_init_152 : decode b_K_init 152 = .ok (.isub, 1) := by decide +kernel
theorem d_K_init_153 : decode b_K_init 153 = .ok (.imul, 1) := by decide +kernel
theorem d_K_init_154 : decode b_K_init 154 = .ok (.iload 11, 2) := by decide +kernel
theorem d_K_init_156 : decode b_K_init 156 = .ok (.iadd, 1) := by decide +kernel
theorem d_K_init_157 : decode b_K_init 157 = .ok (.laload, 1) := by decide +kernel
theorem d_K_init_158 : decode b_K_init 158 = .ok (.iconst 0, 1) := by decide +kernel
theorem d_K_init_159 : decode b_K_init 159 = .ok (.invokevirtual 45, 3) := by decide +kernel
theorem d_K_init_162 : decode b_K_init 162 = .ok (.lastore, 1) := by decide +kernel
theorem d_K_init_163 : decode b_K_init 163 = .ok (.iinc 11 1, 3) := by decide +kernel
theorem d_K_init_166 : decode b_K_init 166 = .ok (.goto (-46), 3) := by decide +kernel
theorem d_K_init_169 : decode b_K_init 169 = .ok (.iinc 10 1, 3) := by decide +kernel
theorem d_K_init_172 : decode b_K_init 172 = .ok (.goto (-62), 3) := by decide +kernel
theorem d_K_init_175 : decode b_K_init 175 = .ok (.return_, 1) := by decide +kernel
theorem d_K_shift_0 : decode b_K_shift 0 = .ok (.lload_n 1, 1) := by decide +kernel
theorem d_K_shift_1 : decode b_K_shift 1 = .ok (.lstore 5, 2) := by decide +kernel
theorem d_K_shift_3 : decode b_K_shift 3 = .ok (.aload_n 0, 1) := by decide +kernel
theorem d_K_shift_4 : decode b_K_shift 4 = .ok (.aload_n 0, 1) := by decide +kernel
theorem d_K_shift_5 : decode b_K_shift 5 = .ok (.getfield 25, 3) := by decide +kernel
theorem d_K_shift_8 : decode b_K_shift 8 = .ok (.invokevirtual 58, 3) := by decide +kernel
theorem d_K_shift_11 : decode b_K_shift 11 = .ok (.lstore 7, 2) := by decide +kernel
theorem d_K_shift_13 : decode b_K_shift 13 = .ok (.iconst 0, 1) := by decide +kernel
theorem d_K_shift_14 : decode b_K_shift 14 = .ok (.istore 9, 2) := by decide +kernel
theorem d_K_shift_16 : decode b_K_shift 16 = .ok (.iload 9, 2) := by decide +kernel
theorem d_K_shift_18 : decode b_K_shift 18 = .ok (.iload 4, 2) := by decide +kernel
theorem d_K_shift_20 : decode b_K_shift 20 = .ok (.if_icmp .ge 112, 3) := by decide +kernel
theorem d_K_shift_23 : decode b_K_shift 23 = .ok (.aload_n 0, 1) := by decide +kernel
theorem d_K_shift_24 : decode b_K_shift 24 = .ok (.getfield 34, 3) := by decide +kernel
theorem d_K_shift_27 : decode b_K_shift 27 = .ok (.ifCond .eq 49, 3) := by decide +kernel
theorem d_K_shift_30 : decode b_K_shift 30 = .ok (.lload 5, 2) := by decide +kernel
theorem d_K_shift_32 : decode b_K_shift 32 = .ok (.lconst 1, 1) := by decide +kernel
theorem d_K_shift_33 : decode b_K_shift 33 = .ok (.land, 1) := by decide +kernel
theorem d_K_shift_34 : decode b_K_shift 34 = .ok (.iload_n 3, 1) := by decide +kernel
theorem d_K_shift_35 : decode b_K_shift 35 = .ok (.iload 9, 2) := by decide +kernel
theorem d_K_shift_37 : decode b_K_shift 37 = .ok (.ishr, 1) := by decide +kernel
theorem d_K_shift_38 : decode b_K_shift 38 = .ok (.iconst 1, 1) := by decide +kernel
theorem d_K_shift_39 : decode b_K_shift 39 = .ok (.iand, 1) := by decide +kernel
theorem d_K_shift_40 : decode b_K_shift 40 = .ok (.i2l, 1) := by decide +kernel
theorem d_K_shift_41 : decode b_K_shift 41 = .ok (.lcmp, 1) := by decide +kernel
theorem d_K_shift_42 : decode b_K_shift 42 = .ok (.ifCond .eq 7, 3) := by decide +kernel
theorem d_K_shift_45 : decode b_K_shift 45 = .ok (.iconst 1, 1) := by decide +kernel
theorem d_K_shift_46 : decode b_K_shift 46 = .ok (.goto 4, 3) := by decide +kernel
theorem d_K_shift_49 : decode b_K_shift 49 = .ok (.iconst 0, 1) := by decide +kernel
theorem d_K_shift_50 : decode b_K_shift 50 = .ok (.istore 10, 2) := by decide +kernel
theorem d_K_shift_52 : decode b_K_shift 52 = .ok (.iload 10, 2) := by decide +kernel
theorem d_K_shift_54 : decode b_K_shift 54 = .ok (.ifCond .eq 13, 3) := by decide +kernel
theorem d_K_shift_57 : decode b_K_shift 57 = .ok (.lload 5, 2) := by decide +kernel
theorem d_K_shift_59 : decode b_K_shift 59 = .ok (.iconst 1, 1) := by decide +kernel
theorem d_K_shift_60 : decode b_K_shift 60 = .ok (.lushr, 1) := by decide +kernel
theorem d_K_shift_61 : decode b_K_shift 61 = .ok (.lload 7, 2) := by decide +kernel
theorem d_K_shift_63 : decode b_K_shift 63 = .ok (.lxor, 1) := by decide +kernel
theorem d_K_shift_64 : decode b_K_shift 64 = .ok (.goto 7, 3) := by decide +kernel
theorem d_K_shift_67 : decode b_K_shift 67 = .ok (.lload 5, 2) := by decide +kernel
theorem d_K_shift_69 : decode b_K_shift 69 = .ok (.iconst 1, 1) := by decide +kernel
theorem d_K_shift_70 : decode b_K_shift 70 = .ok (.lushr, 1) := by decide +kernel
theorem d_K_shift_71 : decode b_K_shift 71 = .ok (.lstore 5, 2) := by decide +kernel
theorem d_K_shift_73 : decode b_K_shift 73 = .ok (.goto 53, 3) := by decide +kernel
theorem d_K_shift_76 : decode b_K_shift 76 = .ok (.lload 5, 2) := by decide +kernel
theorem d_K_shift_78 : decode b_K_shift 78 = .ok (.bipush 63, 2) := by decide +kernel
theorem d_K_shift_80 : decode b_K_shift 80 = .ok (.lushr, 1) := by decide +kernel
theorem d_K_shift_81 : decode b_K_shift 81 = .ok (.iload_n 3, 1) := by decide +kernel
theorem d_K_shift_82 : decode b_K_shift 82 = .ok (.bipush 7, 2) := by decide +kernel
theorem d_K_shift_84 : decode b_K_shift 84 = .ok (.iload 9, 2) := by decide +kernel
theorem d_K_shift_86 : decode b_K_shift 86 = .ok (.bipush 7, 2) := by decide +kernel
theorem d_K_shift_88 : decode b_K_shift 88 = .ok (.iand, 1) := by decide +kernel
theorem d_K_shift_89 : decode b_K_shift 89 = .ok (.isub, 1) := by decide +kernel
theorem d_K_shift_90 : decode b_K_shift 90 = .ok (.ishr, 1) := by decide +kernel
theorem d_K_shift_91 : decode b_K_shift 91 = .ok (.iconst 1, 1) := by decide +kernel
theorem d_K_shift_92 : decode b_K_shift 92 = .ok (.iand, 1) := by decide +kernel
theorem d_K_shift_93 : decode b_K_shift 93 = .ok (.i2l, 1) := by decide +kernel
theorem d_K_shift_94 : decode b_K_shift 94 = .ok (.lcmp, 1) := by decide +kernel
theorem d_K_shift_95 : decode b_K_shift 95 = .ok (.ifCond .eq 7, 3) := by decide +kernel
theorem d_K_shift_98 : decode b_K_shift 98 = .ok (.iconst 1, 1) := by decide +kernel
theorem d_K_shift_99 : decode b_K_shift 99 = .ok (.goto 4, 3) := by decide +kernel
theorem d_K_shift_102 : decode b_K_shift 102 = .ok (.iconst 0, 1) := by decide +kernel
theorem d_K_shift_103 : decode b_K_shift 103 = .ok (.istore 10, 2) := by decide +kernel
theorem d_K_shift_105 : decode b_K_shift 105 = .ok (.iload 10, 2) := by decide +kernel
theorem d_K_shift_107 : decode b_K_shift 107 = .ok (.ifCond .eq 13, 3) := by decide +kernel
theorem d_K_shift_110 : decode b_K_shift 110 = .ok (.lload 5, 2) := by decide +kernel
theorem d_K_shift_112 : decode b_K_shift 112 = .ok (.iconst 1, 1) := by decide +kernel
theorem d_K_shift_113 : decode b_K_shift 113 = .ok (.lshl, 1) := by decide +kernel
theorem d_K_shift_114 : decode b_K_shift 114 = .ok (.lload 7, 2) := by decide +kernel
theorem d_K_shift_116 : decode b_K_shift 116 = .ok (.lxor, 1) := by decide +kernel
theorem d_K_shift_117 : decode b_K_shift 117 = .ok (.goto 7, 3) := by decide +kernel
theorem d_K_shift_120 : decode b_K_shift 120 = .ok (.lload 5, 2) := by decide +kernel
theorem d_K_shift_122 : decode b_K_shift 122 = .ok (.iconst 1, 1) := by decide +kernel
theorem d_K_shift_123 : decode b_K_shift 123 = .ok (.lshl, 1) := by decide +kernel
theorem d_K_shift_124 : decode b_K_shift 124 = .ok (.lstore 5, 2) := by decide +kernel
theorem d_K_shift_126 : decode b_K_shift 126 = .ok (.iinc 9 1, 3) := by decide +kernel
theorem d_K_shift_129 : decode b_K_shift 129 = .ok (.goto (-113), 3) := by decide +kernel
theorem d_K_shift_132 : decode b_K_shift 132 = .ok (.lload 5, 2) := by decide +kernel
theorem d_K_shift_134 : decode b_K_shift 134 = .ok (.lreturn, 1) := by decide +kernel
theorem d_K_stand_0 : decode b_K_stand 0 = .ok (.aload_n 0, 1) := by decide +kernel
theorem d_K_stand_1 : decode b_K_stand 1 = .ok (.getfield 34, 3) := by decide +kernel
theorem d_K_stand_4 : decode b_K_stand 4 = .ok (.ifCond .eq 16, 3) := by decide +kernel
theorem d_K_stand_7 : decode b_K_stand 7 = .ok (.aload_n 0, 1) := by decide +kernel
theorem d_K_stand_8 : decode b_K_stand 8 = .ok (.lload_n 1, 1) := by decide +kernel
theorem d_K_stand_9 : decode b_K_stand 9 = .ok (.aload_n 0, 1) := by decide +kernel
theorem d_K_stand_10 : decode b_K_stand 10 = .ok (.getfield 21, 3) := by decide +kernel
theorem d_K_stand_13 : decode b_K_stand 13 = .ok (.land, 1) := by decide +kernel
theorem d_K_stand_14 : decode b_K_stand 14 = .ok (.invokevirtual 55, 3) := by decide +kernel
theorem d_K_stand_17 : decode b_K_stand 17 = .ok (.goto 17, 3) := by decide +kernel
theorem d_K_stand_20 : decode b_K_stand 20 = .ok (.lload_n 1, 1) := by decide +kernel
theorem d_K_stand_21 : decode b_K_stand 21 = .ok (.aload_n 0, 1) := by decide +kernel
theorem d_K_stand_22 : decode b_K_stand 22 = .ok (.getfield 21, 3) := by decide +kernel
theorem d_K_stand_25 : decode b_K_stand 25 = .ok (.land, 1) := by decide +kernel
theorem d_K_stand_26 : decode b_K_stand 26 = .ok (.bipush 64, 2) := by decide +kernel
theorem d_K_stand_28 : decode b_K_stand 28 = .ok (.aload_n 0, 1) := by decide +kernel
theorem d_K_stand_29 : decode b_K_stand 29 = .ok (.getfield 15, 3) := by decide +kernel
theorem d_K_stand_32 : decode b_K_stand 32 = .ok (.isub, 1) := by decide +kernel
theorem d_K_stand_33 : decode b_K_stand 33 = .ok (.lshl, 1) := by decide +kernel
theorem d_K_stand_34 : decode b_K_stand 34 = .ok (.lreturn, 1) := by decide +kernel
theorem d_K_turned_0 : decode b_K_turned 0 = .ok (.lload_n 1, 1) := by decide +kernel
theorem d_K_turned_1 : decode b_K_turned 1 = .ok (.invokestatic 49, 3) := by decide +kernel
theorem d_K_turned_4 : decode b_K_turned 4 = .ok (.bipush 64, 2) := by decide +kernel
theorem d_K_turned_6 : decode b_K_turned 6 = .ok (.aload_n 0, 1) := by decide +kernel
theorem d_K_turned_7 : decode b_K_turned 7 = .ok (.getfield 15, 3) := by decide +kernel
theorem d_K_turned_10 : decode b_K_turned 10 = .ok (.isub, 1) := by decide +kernel
theorem d_K_turned_11 : decode b_K_turned 11 = .ok (.lushr, 1) := by decide +kernel
theorem d_K_turned_12 : decode b_K_turned 12 = .ok (.lreturn, 1) := by decide +kernel
theorem d_L_reverse_0 : decode b_L_reverse 0 = .ok (.lload_n 0, 1) := by decide +kernel
theorem d_L_reverse_1 : decode b_L_reverse 1 = .ok (.ldc2_w 314, 3) := by decide +kernel
theorem d_L_reverse_4 : decode b_L_reverse 4 = .ok (.land, 1) := by decide +kernel
theorem d_L_reverse_5 : decode b_L_reverse 5 = .ok (.iconst 1, 1) := by decide +kernel
theorem d_L_reverse_6 : decode b_L_reverse 6 = .ok (.lshl, 1) := by decide +kernel
theorem d_L_reverse_7 : decode b_L_reverse 7 = .ok (.lload_n 0, 1) := by decide +kernel
theorem d_L_reverse_8 : decode b_L_reverse 8 = .ok (.iconst 1, 1) := by decide +kernel
theorem d_L_reverse_9 : decode b_L_reverse 9 = .ok (.lushr, 1) := by decide +kernel
theorem d_L_reverse_10 : decode b_L_reverse 10 = .ok (.ldc2_w 314, 3) := by decide +kernel
theorem d_L_reverse_13 : decode b_L_reverse 13 = .ok (.land, 1) := by decide +kernel
theorem d_L_reverse_14 : decode b_L_reverse 14 = .ok (.lor, 1) := by decide +kernel
theorem d_L_reverse_15 : decode b_L_reverse 15 = .ok (.lstore_n 0, 1) := by decide +kernel
theorem d_L_reverse_16 : decode b_L_reverse 16 = .ok (.lload_n 0, 1) := by decide +kernel
theorem d_L_reverse_17 : decode b_L_reverse 17 = .ok (.ldc2_w 316, 3) := by decide +kernel
theorem d_L_reverse_20 : decode b_L_reverse 20 = .ok (.land, 1) := by decide +kernel
theorem d_L_reverse_21 : decode b_L_reverse 21 = .ok (.iconst 2, 1) := by decide +kernel
theorem d_L_reverse_22 : decode b_L_reverse 22 = .ok (.lshl, 1) := by decide +kernel
theorem d_L_reverse_23 : decode b_L_reverse 23 = .ok (.lload_n 0, 1) := by decide +kernel
theorem d_L_reverse_24 : decode b_L_reverse 24 = .ok (.iconst 2, 1) := by decide +kernel
theorem d_L_reverse_25 : decode b_L_reverse 25 = .ok (.lushr, 1) := by decide +kernel
theorem d_L_reverse_26 : decode b_L_reverse 26 = .ok (.ldc2_w 316, 3) := by decide +kernel
theorem d_L_reverse_29 : decode b_L_reverse 29 = .ok (.land, 1) := by decide +kernel
theorem d_L_reverse_30 : decode b_L_reverse 30 = .ok (.lor, 1) := by decide +kernel
theorem d_L_reverse_31 : decode b_L_reverse 31 = .ok (.lstore_n 0, 1) := by decide +kernel
theorem d_L_reverse_32 : decode b_L_reverse 32 = .ok (.lload_n 0, 1) := by decide +kernel
theorem d_L_reverse_33 : decode b_L_reverse 33 = .ok (.ldc2_w 318, 3) := by decide +kernel
theorem d_L_reverse_36 : decode b_L_reverse 36 = .ok (.land, 1) := by decide +kernel
theorem d_L_reverse_37 : decode b_L_reverse 37 = .ok (.iconst 4, 1) := by decide +kernel
theorem d_L_reverse_38 : decode b_L_reverse 38 = .ok (.lshl, 1) := by decide +kernel
theorem d_L_reverse_39 : decode b_L_reverse 39 = .ok (.lload_n 0, 1) := by decide +kernel
theorem d_L_reverse_40 : decode b_L_reverse 40 = .ok (.iconst 4, 1) := by decide +kernel
theorem d_L_reverse_41 : decode b_L_reverse 41 = .ok (.lushr, 1) := by decide +kernel
theorem d_L_reverse_42 : decode b_L_reverse 42 = .ok (.ldc2_w 318, 3) := by decide +kernel
theorem d_L_reverse_45 : decode b_L_reverse 45 = .ok (.land, 1) := by decide +kernel
theorem d_L_reverse_46 : decode b_L_reverse 46 = .ok (.lor, 1) := by decide +kernel
theorem d_L_reverse_47 : decode b_L_reverse 47 = .ok (.lstore_n 0, 1) := by decide +kernel
theorem d_L_reverse_48 : decode b_L_reverse 48 = .ok (.lload_n 0, 1) := by decide +kernel
theorem d_L_reverse_49 : decode b_L_reverse 49 = .ok (.invokestatic 320, 3) := by decide +kernel
theorem d_L_reverse_52 : decode b_L_reverse 52 = .ok (.lreturn, 1) := by decide +kernel
theorem d_L_reverseBytes_0 : decode b_L_reverseBytes 0 = .ok (.lload_n 0, 1) := by decide +kernel
theorem d_L_reverseBytes_1 : decode b_L_reverseBytes 1 = .ok (.ldc2_w 327, 3) := by decide +kernel
theorem d_L_reverseBytes_4 : decode b_L_reverseBytes 4 = .ok (.land, 1) := by decide +kernel
theorem d_L_reverseBytes_5 : decode b_L_reverseBytes 5 = .ok (.bipush 8, 2) := by decide +kernel
theorem d_L_reverseBytes_7 : decode b_L_reverseBytes 7 = .ok (.lshl, 1) := by decide +kernel
theorem d_L_reverseBytes_8 : decode b_L_reverseBytes 8 = .ok (.lload_n 0, 1) := by decide +kernel
theorem d_L_reverseBytes_9 : decode b_L_reverseBytes 9 = .ok (.bipush 8, 2) := by decide +kernel
theorem d_L_reverseBytes_11 : decode b_L_reverseBytes 11 = .ok (.lushr, 1) := by decide +kernel
theorem d_L_reverseBytes_12 : decode b_L_reverseBytes 12 = .ok (.ldc2_w 327, 3) := by decide +kernel
theorem d_L_reverseBytes_15 : decode b_L_reverseBytes 15 = .ok (.land, 1) := by decide +kernel
theorem d_L_reverseBytes_16 : decode b_L_reverseBytes 16 = .ok (.lor, 1) := by decide +kernel
theorem d_L_reverseBytes_17 : decode b_L_reverseBytes 17 = .ok (.lstore_n 0, 1) := by decide +kernel
theorem d_L_reverseBytes_18 : decode b_L_reverseBytes 18 = .ok (.lload_n 0, 1) := by decide +kernel
theorem d_L_reverseBytes_19 : decode b_L_reverseBytes 19 = .ok (.bipush 48, 2) := by decide +kernel
theorem d_L_reverseBytes_21 : decode b_L_reverseBytes 21 = .ok (.lshl, 1) := by decide +kernel
theorem d_L_reverseBytes_22 : decode b_L_reverseBytes 22 = .ok (.lload_n 0, 1) := by decide +kernel
theorem d_L_reverseBytes_23 : decode b_L_reverseBytes 23 = .ok (.ldc2_w 329, 3) := by decide +kernel
theorem d_L_reverseBytes_26 : decode b_L_reverseBytes 26 = .ok (.land, 1) := by decide +kernel
theorem d_L_reverseBytes_27 : decode b_L_reverseBytes 27 = .ok (.bipush 16, 2) := by decide +kernel
theorem d_L_reverseBytes_29 : decode b_L_reverseBytes 29 = .ok (.lshl, 1) := by decide +kernel
theorem d_L_reverseBytes_30 : decode b_L_reverseBytes 30 = .ok (.lor, 1) := by decide +kernel
theorem d_L_reverseBytes_31 : decode b_L_reverseBytes 31 = .ok (.lload_n 0, 1) := by decide +kernel
theorem d_L_reverseBytes_32 : decode b_L_reverseBytes 32 = .ok (.bipush 16, 2) := by decide +kernel
theorem d_L_reverseBytes_34 : decode b_L_reverseBytes 34 = .ok (.lushr, 1) := by decide +kernel
theorem d_L_reverseBytes_35 : decode b_L_reverseBytes 35 = .ok (.ldc2_w 329, 3) := by decide +kernel
theorem d_L_reverseBytes_38 : decode b_L_reverseBytes 38 = .ok (.land, 1) := by decide +kernel
theorem d_L_reverseBytes_39 : decode b_L_reverseBytes 39 = .ok (.lor, 1) := by decide +kernel
theorem d_L_reverseBytes_40 : decode b_L_reverseBytes 40 = .ok (.lload_n 0, 1) := by decide +kernel
theorem d_L_reverseBytes_41 : decode b_L_reverseBytes 41 = .ok (.bipush 48, 2) := by decide +kernel
theorem d_L_reverseBytes_43 : decode b_L_reverseBytes 43 = .ok (.lushr, 1) := by decide +kernel
theorem d_L_reverseBytes_44 : decode b_L_reverseBytes 44 = .ok (.lor, 1) := by decide +kernel
theorem d_L_reverseBytes_45 : decode b_L_reverseBytes 45 = .ok (.lreturn, 1) := by decide +kernel
theorem d_K_next_0 : decode b_K_next 0 = .ok (.aload_n 0, 1) := by decide +kernel
theorem d_K_next_1 : decode b_K_next 1 = .ok (.getfield 34, 3) := by decide +kernel
theorem d_K_next_4 : decode b_K_next 4 = .ok (.ifCond .eq 24, 3) := by decide +kernel
theorem d_K_next_7 : decode b_K_next 7 = .ok (.lload_n 1, 1) := by decide +kernel
theorem d_K_next_8 : decode b_K_next 8 = .ok (.bipush 8, 2) := by decide +kernel
theorem d_K_next_10 : decode b_K_next 10 = .ok (.lushr, 1) := by decide +kernel
theorem d_K_next_11 : decode b_K_next 11 = .ok (.aload_n 0, 1) := by decide +kernel
theorem d_K_next_12 : decode b_K_next 12 = .ok (.getfield 9, 3) := by decide +kernel
theorem d_K_next_15 : decode b_K_next 15 = .ok (.lload_n 1, 1) := by decide +kernel
theorem d_K_next_16 : decode b_K_next 16 = .ok (.ldc2_w 61, 3) := by decide +kernel
theorem d_K_next_19 : decode b_K_next 19 = .ok (.land, 1) := by decide +kernel
theorem d_K_next_20 : decode b_K_next 20 = .ok (.l2i, 1) := by decide +kernel
theorem d_K_next_21 : decode b_K_next 21 = .ok (.iload_n 3, 1) := by decide +kernel
theorem d_K_next_22 : decode b_K_next 22 = .ok (.ixor, 1) := by decide +kernel
theorem d_K_next_23 : decode b_K_next 23 = .ok (.laload, 1) := by decide +kernel
theorem d_K_next_24 : decode b_K_next 24 = .ok (.lxor, 1) := by decide +kernel
theorem d_K_next_25 : decode b_K_next 25 = .ok (.goto 20, 3) := by decide +kernel
theorem d_K_next_28 : decode b_K_next 28 = .ok (.lload_n 1, 1) := by decide +kernel
theorem d_K_next_29 : decode b_K_next 29 = .ok (.bipush 8, 2) := by decide +kernel
theorem d_K_next_31 : decode b_K_next 31 = .ok (.lshl, 1) := by decide +kernel
theorem d_K_next_32 : decode b_K_next 32 = .ok (.aload_n 0, 1) := by decide +kernel
theorem d_K_next_33 : decode b_K_next 33 = .ok (.getfield 9, 3) := by decide +kernel
theorem d_K_next_36 : decode b_K_next 36 = .ok (.lload_n 1, 1) := by decide +kernel
theorem d_K_next_37 : decode b_K_next 37 = .ok (.bipush 56, 2) := by decide +kernel
theorem d_K_next_39 : decode b_K_next 39 = .ok (.lushr, 1) := by decide +kernel
theorem d_K_next_40 : decode b_K_next 40 = .ok (.l2i, 1) := by decide +kernel
theorem d_K_next_41 : decode b_K_next 41 = .ok (.iload_n 3, 1) := by decide +kernel
theorem d_K_next_42 : decode b_K_next 42 = .ok (.ixor, 1) := by decide +kernel
theorem d_K_next_43 : decode b_K_next 43 = .ok (.laload, 1) := by decide +kernel
theorem d_K_next_44 : decode b_K_next 44 = .ok (.lxor, 1) := by decide +kernel
theorem d_K_next_45 : decode b_K_next 45 = .ok (.lreturn, 1) := by decide +kernel
theorem d_P_init_0 : decode b_P_init 0 = .ok (.aload_n 0, 1) := by decide +kernel
theorem d_P_init_1 : decode b_P_init 1 = .ok (.invokespecial 3, 3) := by decide +kernel
theorem d_P_init_4 : decode b_P_init 4 = .ok (.aload_n 0, 1) := by decide +kernel
theorem d_P_init_5 : decode b_P_init 5 = .ok (.bipush 64, 2) := by decide +kernel
theorem d_P_init_7 : decode b_P_init 7 = .ok (.newarray .long, 2) := by decide +kernel
theorem d_P_init_9 : decode b_P_init 9 = .ok (.putfield 9, 3) := by decide +kernel
theorem d_P_init_12 : decode b_P_init 12 = .ok (.aload_n 0, 1) := by decide +kernel
theorem d_P_init_13 : decode b_P_init 13 = .ok (.bipush 64, 2) := by decide +kernel
theorem d_P_init_15 : decode b_P_init 15 = .ok (.newarray .long, 2) := by decide +kernel
theorem d_P_init_17 : decode b_P_init 17 = .ok (.putfield 15, 3) := by decide +kernel
theorem d_P_init_20 : decode b_P_init 20 = .ok (.return_, 1) := by decide +kernel
theorem d_K_finish_0 : decode b_K_finish 0 = .ok (.aload_n 0, 1) := by decide +kernel
theorem d_K_finish_1 : decode b_K_finish 1 = .ok (.lload_n 1, 1) := by decide +kernel
theorem d_K_finish_2 : decode b_K_finish 2 = .ok (.invokevirtual 63, 3) := by decide +kernel
theorem d_K_finish_5 : decode b_K_finish 5 = .ok (.lstore_n 3, 1) := by decide +kernel
theorem d_K_finish_6 : decode b_K_finish 6 = .ok (.aload_n 0, 1) := by decide +kernel
theorem d_K_finish_7 : decode b_K_finish 7 = .ok (.getfield 38, 3) := by decide +kernel
theorem d_K_finish_10 : decode b_K_finish 10 = .ok (.ifCond .eq 11, 3) := by decide +kernel
theorem d_K_finish_13 : decode b_K_finish 13 = .ok (.aload_n 0, 1) := by decide +kernel
theorem d_K_finish_14 : decode b_K_finish 14 = .ok (.lload_n 3, 1) := by decide +kernel
theorem d_K_finish_15 : decode b_K_finish 15 = .ok (.invokevirtual 55, 3) := by decide +kernel
theorem d_K_finish_18 : decode b_K_finish 18 = .ok (.goto 4, 3) := by decide +kernel
theorem d_K_finish_21 : decode b_K_finish 21 = .ok (.lload_n 3, 1) := by decide +kernel
theorem d_K_finish_22 : decode b_K_finish 22 = .ok (.aload_n 0, 1) := by decide +kernel
theorem d_K_finish_23 : decode b_K_finish 23 = .ok (.getfield 31, 3) := by decide +kernel
theorem d_K_finish_26 : decode b_K_finish 26 = .ok (.lxor, 1) := by decide +kernel
theorem d_K_finish_27 : decode b_K_finish 27 = .ok (.lreturn, 1) := by decide +kernel
theorem d_K_lie_0 : decode b_K_lie 0 = .ok (.aload_n 0, 1) := by decide +kernel
theorem d_K_lie_1 : decode b_K_lie 1 = .ok (.getfield 34, 3) := by decide +kernel
theorem d_K_lie_4 : decode b_K_lie 4 = .ok (.ifCond .eq 11, 3) := by decide +kernel
theorem d_K_lie_7 : decode b_K_lie 7 = .ok (.aload_n 0, 1) := by decide +kernel
theorem d_K_lie_8 : decode b_K_lie 8 = .ok (.lload_n 1, 1) := by decide +kernel
theorem d_K_lie_9 : decode b_K_lie 9 = .ok (.invokevirtual 55, 3) := by decide +kernel
theorem d_K_lie_12 : decode b_K_lie 12 = .ok (.goto 12, 3) := by decide +kernel
theorem d_K_lie_15 : decode b_K_lie 15 = .ok (.lload_n 1, 1) := by decide +kernel
theorem d_K_lie_16 : decode b_K_lie 16 = .ok (.bipush 64, 2) := by decide +kernel
theorem d_K_lie_18 : decode b_K_lie 18 = .ok (.aload_n 0, 1) := by decide +kernel
theorem d_K_lie_19 : decode b_K_lie 19 = .ok (.getfield 15, 3) := by decide +kernel
theorem d_K_lie_22 : decode b_K_lie 22 = .ok (.isub, 1) := by decide +kernel
theorem d_K_lie_23 : decode b_K_lie 23 = .ok (.lushr, 1) := by decide +kernel
theorem d_K_lie_24 : decode b_K_lie 24 = .ok (.lreturn, 1) := by decide +kernel
theorem d_K_slice_0 : decode b_K_slice 0 = .ok (.lload_n 1, 1) := by decide +kernel
theorem d_K_slice_1 : decode b_K_slice 1 = .ok (.lload_n 3, 1) := by decide +kernel
theorem d_K_slice_2 : decode b_K_slice 2 = .ok (.lxor, 1) := by decide +kernel
theorem d_K_slice_3 : decode b_K_slice 3 = .ok (.lstore 5, 2) := by decide +kernel
theorem d_K_slice_5 : decode b_K_slice 5 = .ok (.lconst 0, 1) := by decide +kernel
theorem d_K_slice_6 : decode b_K_slice 6 = .ok (.lstore 7, 2) := by decide +kernel
theorem d_K_slice_8 : decode b_K_slice 8 = .ok (.iconst 0, 1) := by decide +kernel
theorem d_K_slice_9 : decode b_K_slice 9 = .ok (.istore 9, 2) := by decide +kernel
theorem d_K_slice_11 : decode b_K_slice 11 = .ok (.iload 9, 2) := by decide +kernel
theorem d_K_slice_13 : decode b_K_slice 13 = .ok (.bipush 8, 2) := by decide +kernel
theorem d_K_slice_15 : decode b_K_slice 15 = .ok (.if_icmp .ge 67, 3) := by decide +kernel
theorem d_K_slice_18 : decode b_K_slice 18 = .ok (.aload_n 0, 1) := by decide +kernel
theorem d_K_slice_19 : decode b_K_slice 19 = .ok (.getfield 34, 3) := by decide +kernel
theorem d_K_slice_22 : decode b_K_slice 22 = .ok (.ifCond .eq 14, 3) := by decide +kernel
theorem d_K_slice_25 : decode b_K_slice 25 = .ok (.lload 5, 2) := by decide +kernel
theorem d_K_slice_27 : decode b_K_slice 27 = .ok (.bipush 8, 2) := by decide +kernel
theorem d_K_slice_29 : decode b_K_slice 29 = .ok (.iload 9, 2) := by decide +kernel
theorem d_K_slice_31 : decode b_K_slice 31 = .ok (.imul, 1) := by decide +kernel
theorem d_K_slice_32 : decode b_K_slice 32 = .ok (.lushr, 1) := by decide +kernel
theorem d_K_slice_33 : decode b_K_slice 33 = .ok (.goto 14, 3) := by decide +kernel
theorem d_K_slice_36 : decode b_K_slice 36 = .ok (.lload 5, 2) := by decide +kernel
theorem d_K_slice_38 : decode b_K_slice 38 = .ok (.bipush 56, 2) := by decide +kernel
theorem d_K_slice_40 : decode b_K_slice 40 = .ok (.bipush 8, 2) := by decide +kernel
theorem d_K_slice_42 : decode b_K_slice 42 = .ok (.iload 9, 2) := by decide +kernel
theorem d_K_slice_44 : decode b_K_slice 44 = .ok (.imul, 1) := by decide +kernel
theorem d_K_slice_45 : decode b_K_slice 45 = .ok (.isub, 1) := by decide +kernel
theorem d_K_slice_46 : decode b_K_slice 46 = .ok (.lushr, 1) := by decide +kernel
theorem d_K_slice_47 : decode b_K_slice 47 = .ok (.l2i, 1) := by decide +kernel
theorem d_K_slice_48 : decode b_K_slice 48 = .ok (.sipush 255, 3) := by decide +kernel
theorem d_K_slice_51 : decode b_K_slice 51 = .ok (.iand, 1) := by decide +kernel
theorem d_K_slice_52 : decode b_K_slice 52 = .ok (.istore 10, 2) := by decide +kernel
theorem d_K_slice_54 : decode b_K_slice 54 = .ok (.lload 7, 2) := by decide +kernel
theorem d_K_slice_56 : decode b_K_slice 56 = .ok (.aload_n 0, 1) := by decide +kernel
theorem d_K_slice_57 : decode b_K_slice 57 = .ok (.getfield 9, 3) := by decide +kernel
theorem d_K_slice_60 : decode b_K_slice 60 = .ok (.sipush 256, 3) := by decide +kernel
theorem d_K_slice_63 : decode b_K_slice 63 = .ok (.bipush 7, 2) := by decide +kernel
theorem d_K_slice_65 : decode b_K_slice 65 = .ok (.iload 9, 2) := by decide +kernel
theorem d_K_slice_67 : decode b_K_slice 67 = .ok (.isub, 1) := by decide +kernel
theorem d_K_slice_68 : decode b_K_slice 68 = .ok (.imul, 1) := by decide +kernel
theorem d_K_slice_69 : decode b_K_slice 69 = .ok (.iload 10, 2) := by decide +kernel
theorem d_K_slice_71 : decode b_K_slice 71 = .ok (.iadd, 1) := by decide +kernel
theorem d_K_slice_72 : decode b_K_slice 72 = .ok (.laload, 1) := by decide +kernel
theorem d_K_slice_73 : decode b_K_slice 73 = .ok (.lxor, 1) := by decide +kernel
theorem d_K_slice_74 : decode b_K_slice 74 = .ok (.lstore 7, 2) := by decide +kernel
theorem d_K_slice_76 : decode b_K_slice 76 = .ok (.iinc 9 1, 3) := by decide +kernel
theorem d_K_slice_79 : decode b_K_slice 79 = .ok (.goto (-68), 3) := by decide +kernel
theorem d_K_slice_82 : decode b_K_slice 82 = .ok (.lload 7, 2) := by decide +kernel
theorem d_K_slice_84 : decode b_K_slice 84 = .ok (.lreturn, 1) := by decide +kernel
theorem d_K_begin_0 : decode b_K_begin 0 = .ok (.lload_n 1, 1) := by decide +kernel
theorem d_K_begin_1 : decode b_K_begin 1 = .ok (.aload_n 0, 1) := by decide +kernel
theorem d_K_begin_2 : decode b_K_begin 2 = .ok (.getfield 31, 3) := by decide +kernel
theorem d_K_begin_5 : decode b_K_begin 5 = .ok (.lxor, 1) := by decide +kernel
theorem d_K_begin_6 : decode b_K_begin 6 = .ok (.aload_n 0, 1) := by decide +kernel
theorem d_K_begin_7 : decode b_K_begin 7 = .ok (.getfield 21, 3) := by decide +kernel
theorem d_K_begin_10 : decode b_K_begin 10 = .ok (.land, 1) := by decide +kernel
theorem d_K_begin_11 : decode b_K_begin 11 = .ok (.lstore_n 3, 1) := by decide +kernel
theorem d_K_begin_12 : decode b_K_begin 12 = .ok (.aload_n 0, 1) := by decide +kernel
theorem d_K_begin_13 : decode b_K_begin 13 = .ok (.aload_n 0, 1) := by decide +kernel
theorem d_K_begin_14 : decode b_K_begin 14 = .ok (.getfield 38, 3) := by decide +kernel
theorem d_K_begin_17 : decode b_K_begin 17 = .ok (.ifCond .eq 11, 3) := by decide +kernel
theorem d_K_begin_20 : decode b_K_begin 20 = .ok (.aload_n 0, 1) := by decide +kernel
theorem d_K_begin_21 : decode b_K_begin 21 = .ok (.lload_n 3, 1) := by decide +kernel
theorem d_K_begin_22 : decode b_K_begin 22 = .ok (.invokevirtual 55, 3) := by decide +kernel
theorem d_K_begin_25 : decode b_K_begin 25 = .ok (.goto 4, 3) := by decide +kernel
theorem d_K_begin_28 : decode b_K_begin 28 = .ok (.lload_n 3, 1) := by decide +kernel
theorem d_K_begin_29 : decode b_K_begin 29 = .ok (.invokevirtual 58, 3) := by decide +kernel
theorem d_K_begin_32 : decode b_K_begin 32 = .ok (.lreturn, 1) := by decide +kernel
theorem d_P_go_0 : decode b_P_go 0 = .ok (.iconst 0, 1) := by decide +kernel
theorem d_P_go_1 : decode b_P_go 1 = .ok (.istore 6, 2) := by decide +kernel
theorem d_P_go_3 : decode b_P_go 3 = .ok (.iload 6, 2) := by decide +kernel
theorem d_P_go_5 : decode b_P_go 5 = .ok (.bipush 64, 2) := by decide +kernel
theorem d_P_go_7 : decode b_P_go 7 = .ok (.if_icmp .ge 47, 3) := by decide +kernel
theorem d_P_go_10 : decode b_P_go 10 = .ok (.aload_n 0, 1) := by decide +kernel
theorem d_P_go_11 : decode b_P_go 11 = .ok (.getfield 9, 3) := by decide +kernel
theorem d_P_go_14 : decode b_P_go 14 = .ok (.iload 6, 2) := by decide +kernel
theorem d_P_go_16 : decode b_P_go 16 = .ok (.iload 6, 2) := by decide +kernel
theorem d_P_go_18 : decode b_P_go 18 = .ok (.aload_n 1, 1) := by decide +kernel
theorem d_P_go_19 : decode b_P_go 19 = .ok (.getfield 18, 3) := by decide +kernel
theorem d_P_go_22 : decode b_P_go 22 = .ok (.if_icmp .ge 24, 3) := by decide +kernel
theorem d_P_go_25 : decode b_P_go 25 = .ok (.aload_n 1, 1) := by decide +kernel
theorem d_P_go_26 : decode b_P_go 26 = .ok (.aload_n 1, 1) := by decide +kernel
theorem d_P_go_27 : decode b_P_go 27 = .ok (.aload_n 1, 1) := by decide +kernel
theorem d_P_go_28 : decode b_P_go 28 = .ok (.lconst 1, 1) := by decide +kernel
theorem d_P_go_29 : decode b_P_go 29 = .ok (.iload 6, 2) := by decide +kernel
theorem d_P_go_31 : decode b_P_go 31 = .ok (.lshl, 1) := by decide +kernel
theorem d_P_go_32 : decode b_P_go 32 = .ok (.invokevirtual 24, 3) := by decide +kernel
theorem d_P_go_35 : decode b_P_go 35 = .ok (.iconst 0, 1) := by decide +kernel
theorem d_P_go_36 : decode b_P_go 36 = .ok (.iconst 1, 1) := by decide +kernel
theorem d_P_go_37 : decode b_P_go 37 = .ok (.invokevirtual 28, 3) := by decide +kernel
theorem d_P_go_40 : decode b_P_go 40 = .ok (.invokevirtual 32, 3) := by decide +kernel
theorem d_P_go_43 : decode b_P_go 43 = .ok (.goto 4, 3) := by decide +kernel
theorem d_P_go_46 : decode b_P_go 46 = .ok (.lconst 0, 1) := by decide +kernel
theorem d_P_go_47 : decode b_P_go 47 = .ok (.lastore, 1) := by decide +kernel
theorem d_P_go_48 : decode b_P_go 48 = .ok (.iinc 6 1, 3) := by decide +kernel
theorem d_P_go_51 : decode b_P_go 51 = .ok (.goto (-48), 3) := by decide +kernel
theorem d_P_go_54 : decode b_P_go 54 = .ok (.lload_n 2, 1) := by decide +kernel
theorem d_P_go_55 : decode b_P_go 55 = .ok (.aload_n 1, 1) := by decide +kernel
theorem d_P_go_56 : decode b_P_go 56 = .ok (.getfield 35, 3) := by decide +kernel
theorem d_P_go_59 : decode b_P_go 59 = .ok (.land, 1) := by decide +kernel
theorem d_P_go_60 : decode b_P_go 60 = .ok (.lstore 6, 2) := by decide +kernel
theorem d_P_go_62 : decode b_P_go 62 = .ok (.lload 4, 2) := by decide +kernel
theorem d_P_go_64 : decode b_P_go 64 = .ok (.lstore 8, 2) := by decide +kernel
theorem d_P_go_66 : decode b_P_go 66 = .ok (.lload 8, 2) := by decide +kernel
theorem d_P_go_68 : decode b_P_go 68 = .ok (.lconst 0, 1) := by decide +kernel
theorem d_P_go_69 : decode b_P_go 69 = .ok (.lcmp, 1) := by decide +kernel
theorem d_P_go_70 : decode b_P_go 70 = .ok (.ifCond .le 89, 3) := by decide +kernel
theorem d_P_go_73 : decode b_P_go 73 = .ok (.lload 8, 2) := by decide +kernel
theorem d_P_go_75 : decode b_P_go 75 = .ok (.lconst 1, 1) := by decide +kernel
theorem d_P_go_76 : decode b_P_go 76 = .ok (.land, 1) := by decide +kernel
theorem d_P_go_77 : decode b_P_go 77 = .ok (.lconst 1, 1) := by decide +kernel
theorem d_P_go_78 : decode b_P_go 78 = .ok (.lcmp, 1) := by decide +kernel
theorem d_P_go_79 : decode b_P_go 79 = .ok (.ifCond .ne 15, 3) := by decide +kernel
theorem d_P_go_82 : decode b_P_go 82 = .ok (.aload_n 0, 1) := by decide +kernel
theorem d_P_go_83 : decode b_P_go 83 = .ok (.getfield 9, 3) := by decide +kernel
theorem d_P_go_86 : decode b_P_go 86 = .ok (.lload 6, 2) := by decide +kernel
theorem d_P_go_88 : decode b_P_go 88 = .ok (.invokestatic 39, 3) := by decide +kernel
theorem d_P_go_91 : decode b_P_go 91 = .ok (.goto 5, 3) := by decide +kernel
theorem d_P_go_94 : decode b_P_go 94 = .ok (.lload 6, 2) := by decide +kernel
theorem d_P_go_96 : decode b_P_go 96 = .ok (.lstore 6, 2) := by decide +kernel
theorem d_P_go_98 : decode b_P_go 98 = .ok (.iconst 0, 1) := by decide +kernel
theorem d_P_go_99 : decode b_P_go 99 = .ok (.istore 10, 2) := by decide +kernel
theorem d_P_go_101 : decode b_P_go 101 = .ok (.iload 10, 2) := by decide +kernel
theorem d_P_go_103 : decode b_P_go 103 = .ok (.bipush 64, 2) := by decide +kernel
theorem d_P_go_105 : decode b_P_go 105 = .ok (.if_icmp .ge 30, 3) := by decide +kernel
theorem d_P_go_108 : decode b_P_go 108 = .ok (.aload_n 0, 1) := by decide +kernel
theorem d_P_go_109 : decode b_P_go 109 = .ok (.getfield 15, 3) := by decide +kernel
theorem d_P_go_112 : decode b_P_go 112 = .ok (.iload 10, 2) := by decide +kernel
theorem d_P_go_114 : decode b_P_go 114 = .ok (.aload_n 0, 1) := by decide +kernel
theorem d_P_go_115 : decode b_P_go 115 = .ok (.getfield 9, 3) := by decide +kernel
theorem d_P_go_118 : decode b_P_go 118 = .ok (.aload_n 0, 1) := by decide +kernel
theorem d_P_go_119 : decode b_P_go 119 = .ok (.getfield 9, 3) := by decide +kernel
theorem d_P_go_122 : decode b_P_go 122 = .ok (.iload 10, 2) := by decide +kernel
theorem d_P_go_124 : decode b_P_go 124 = .ok (.laload, 1) := by decide +kernel
theorem d_P_go_125 : decode b_P_go 125 = .ok (.invokestatic 39, 3) := by decide +kernel
theorem d_P_go_128 : decode b_P_go 128 = .ok (.lastore, 1) := by decide +kernel
theorem d_P_go_129 : decode b_P_go 129 = .ok (.iinc 10 1, 3) := by decide +kernel
theorem d_P_go_132 : decode b_P_go 132 = .ok (.goto (-31), 3) := by decide +kernel
theorem d_P_go_135 : decode b_P_go 135 = .ok (.aload_n 0, 1) := by decide +kernel
theorem d_P_go_136 : decode b_P_go 136 = .ok (.getfield 15, 3) := by decide +kernel
theorem d_P_go_139 : decode b_P_go 139 = .ok (.iconst 0, 1) := by decide +kernel
theorem d_P_go_140 : decode b_P_go 140 = .ok (.aload_n 0, 1) := by decide +kernel
theorem d_P_go_141 : decode b_P_go 141 = .ok (.getfield 9, 3) := by decide +kernel
theorem d_P_go_144 : decode b_P_go 144 = .ok (.iconst 0, 1) := by decide +kernel
theorem d_P_go_145 : decode b_P_go 145 = .ok (.bipush 64, 2) := by decide +kernel
theorem d_P_go_147 : decode b_P_go 147 = .ok (.invokestatic 43, 3) := by decide +kernel
theorem d_P_go_150 : decode b_P_go 150 = .ok (.lload 8, 2) := by decide +kernel
theorem d_P_go_152 : decode b_P_go 152 = .ok (.iconst 1, 1) := by decide +kernel
theorem d_P_go_153 : decode b_P_go 153 = .ok (.lshr, 1) := by decide +kernel
theorem d_P_go_154 : decode b_P_go 154 = .ok (.lstore 8, 2) := by decide +kernel
theorem d_P_go_156 : decode b_P_go 156 = .ok (.goto (-90), 3) := by decide +kernel
theorem d_P_go_159 : decode b_P_go 159 = .ok (.lload 6, 2) := by decide +kernel
theorem d_P_go_161 : decode b_P_go 161 = .ok (.lreturn, 1) := by decide +kernel
theorem d_P_times_0 : decode b_P_times 0 = .ok (.lconst 0, 1) := by decide +kernel
theorem d_P_times_1 : decode b_P_times 1 = .ok (.lstore_n 3, 1) := by decide +kernel
theorem d_P_times_2 : decode b_P_times 2 = .ok (.iconst 0, 1) := by decide +kernel
theorem d_P_times_3 : decode b_P_times 3 = .ok (.istore 5, 2) := by decide +kernel
theorem d_P_times_5 : decode b_P_times 5 = .ok (.iload 5, 2) := by decide +kernel
theorem d_P_times_7 : decode b_P_times 7 = .ok (.bipush 64, 2) := by decide +kernel
theorem d_P_times_9 : decode b_P_times 9 = .ok (.if_icmp .ge 31, 3) := by decide +kernel
theorem d_P_times_12 : decode b_P_times 12 = .ok (.lload_n 3, 1) := by decide +kernel
theorem d_P_times_13 : decode b_P_times 13 = .ok (.lload_n 1, 1) := by decide +kernel
theorem d_P_times_14 : decode b_P_times 14 = .ok (.iload 5, 2) := by decide +kernel
theorem d_P_times_16 : decode b_P_times 16 = .ok (.lushr, 1) := by decide +kernel
theorem d_P_times_17 : decode b_P_times 17 = .ok (.lconst 1, 1) := by decide +kernel
theorem d_P_times_18 : decode b_P_times 18 = .ok (.land, 1) := by decide +kernel
theorem d_P_times_19 : decode b_P_times 19 = .ok (.lconst 1, 1) := by decide +kernel
theorem d_P_times_20 : decode b_P_times 20 = .ok (.lcmp, 1) := by decide +kernel
theorem d_P_times_21 : decode b_P_times 21 = .ok (.ifCond .ne 10, 3) := by decide +kernel
theorem d_P_times_24 : decode b_P_times 24 = .ok (.aload_n 0, 1) := by decide +kernel
theorem d_P_times_25 : decode b_P_times 25 = .ok (.iload 5, 2) := by decide +kernel
theorem d_P_times_27 : decode b_P_times 27 = .ok (.laload, 1) := by decide +kernel
theorem d_P_times_28 : decode b_P_times 28 = .ok (.goto 4, 3) := by decide +kernel
theorem d_P_times_31 : decode b_P_times 31 = .ok (.lconst 0, 1) := by decide +kernel
theorem d_P_times_32 : decode b_P_times 32 = .ok (.lxor, 1) := by decide +kernel
theorem d_P_times_33 : decode b_P_times 33 = .ok (.lstore_n 3, 1) := by decide +kernel
theorem d_P_times_34 : decode b_P_times 34 = .ok (.iinc 5 1, 3) := by decide +kernel
theorem d_P_times_37 : decode b_P_times 37 = .ok (.goto (-32), 3) := by decide +kernel
theorem d_P_times_40 : decode b_P_times 40 = .ok (.lload_n 3, 1) := by decide +kernel
theorem d_P_times_41 : decode b_P_times 41 = .ok (.lreturn, 1) := by decide +kernel
end
section
theorem d_X_init_0 : decode b_X_init 0 = .ok (.aload_n 0, 1) := by decide +kernel
theorem d_X_init_1 : decode b_X_init 1 = .ok (.invokespecial 1, 3) := by decide +kernel
theorem d_X_init_4 : decode b_X_init 4 = .ok (.aload_n 0, 1) := by decide +kernel
theorem d_X_init_5 : decode b_X_init 5 = .ok (.new 7, 3) := by decide +kernel
theorem d_X_init_8 : decode b_X_init 8 = .ok (.dup, 1) := by decide +kernel
theorem d_X_init_9 : decode b_X_init 9 = .ok (.bipush 32, 2) := by decide +kernel
theorem d_X_init_11 : decode b_X_init 11 = .ok (.ldc2_w 9, 3) := by decide +kernel
theorem d_X_init_14 : decode b_X_init 14 = .ok (.ldc2_w 11, 3) := by decide +kernel
theorem d_X_init_17 : decode b_X_init 17 = .ok (.iconst 1, 1) := by decide +kernel
theorem d_X_init_18 : decode b_X_init 18 = .ok (.iconst 1, 1) := by decide +kernel
theorem d_X_init_19 : decode b_X_init 19 = .ok (.ldc2_w 11, 3) := by decide +kernel
theorem d_X_init_22 : decode b_X_init 22 = .ok (.invokespecial 13, 3) := by decide +kernel
theorem d_X_init_25 : decode b_X_init 25 = .ok (.putfield 16, 3) := by decide +kernel
theorem d_X_init_28 : decode b_X_init 28 = .ok (.aload_n 0, 1) := by decide +kernel
theorem d_X_init_29 : decode b_X_init 29 = .ok (.new 22, 3) := by decide +kernel
theorem d_X_init_32 : decode b_X_init 32 = .ok (.dup, 1) := by decide +kernel
theorem d_X_init_33 : decode b_X_init 33 = .ok (.invokespecial 24, 3) := by decide +kernel
theorem d_X_init_36 : decode b_X_init 36 = .ok (.putfield 25, 3) := by decide +kernel
theorem d_X_init_39 : decode b_X_init 39 = .ok (.aload_n 0, 1) := by decide +kernel
theorem d_X_init_40 : decode b_X_init 40 = .ok (.sipush 5000, 3) := by decide +kernel
theorem d_X_init_43 : decode b_X_init 43 = .ok (.newarray .byte, 2) := by decide +kernel
theorem d_X_init_45 : decode b_X_init 45 = .ok (.putfield 29, 3) := by decide +kernel
theorem d_X_init_48 : decode b_X_init 48 = .ok (.aload_n 0, 1) := by decide +kernel
theorem d_X_init_49 : decode b_X_init 49 = .ok (.ldc 33, 2) := by decide +kernel
theorem d_X_init_51 : decode b_X_init 51 = .ok (.newarray .byte, 2) := by decide +kernel
theorem d_X_init_53 : decode b_X_init 53 = .ok (.putfield 34, 3) := by decide +kernel
theorem d_X_init_56 : decode b_X_init 56 = .ok (.return_, 1) := by decide +kernel
theorem d_X_kind_0 : decode b_X_kind 0 = .ok (.iload_n 1, 1) := by decide +kernel
theorem d_X_kind_1 : decode b_X_kind 1 = .ok (.iconst 1, 1) := by decide +kernel
theorem d_X_kind_2 : decode b_X_kind 2 = .ok (.bipush 64, 2) := by decide +kernel
theorem d_X_kind_4 : decode b_X_kind 4 = .ok (.invokestatic 37, 3) := by decide +kernel
theorem d_X_kind_7 : decode b_X_kind 7 = .ok (.ifCond .ne 5, 3) := by decide +kernel
theorem d_X_kind_10 : decode b_X_kind 10 = .ok (.iconst 0, 1) := by decide +kernel
theorem d_X_kind_11 : decode b_X_kind 11 = .ok (.ireturn, 1) := by decide +kernel
theorem d_X_kind_12 : decode b_X_kind 12 = .ok (.aload_n 0, 1) := by decide +kernel
theorem d_X_kind_13 : decode b_X_kind 13 = .ok (.new 7, 3) := by decide +kernel
theorem d_X_kind_16 : decode b_X_kind 16 = .ok (.dup, 1) := by decide +kernel
theorem d_X_kind_17 : decode b_X_kind 17 = .ok (.iload_n 1, 1) := by decide +kernel
theorem d_X_kind_18 : decode b_X_kind 18 = .ok (.lload_n 2, 1) := by decide +kernel
theorem d_X_kind_19 : decode b_X_kind 19 = .ok (.lload 4, 2) := by decide +kernel
theorem d_X_kind_21 : decode b_X_kind 21 = .ok (.iload 6, 2) := by decide +kernel
theorem d_X_kind_23 : decode b_X_kind 23 = .ok (.iload 7, 2) := by decide +kernel
theorem d_X_kind_25 : decode b_X_kind 25 = .ok (.lload 8, 2) := by decide +kernel
theorem d_X_kind_27 : decode b_X_kind 27 = .ok (.invokespecial 13, 3) := by decide +kernel
theorem d_X_kind_30 : decode b_X_kind 30 = .ok (.putfield 16, 3) := by decide +kernel
theorem d_X_kind_33 : decode b_X_kind 33 = .ok (.iconst 1, 1) := by decide +kernel
theorem d_X_kind_34 : decode b_X_kind 34 = .ok (.ireturn, 1) := by decide +kernel
theorem d_X_within_0 : decode b_X_within 0 = .ok (.iload_n 0, 1) := by decide +kernel
theorem d_X_within_1 : decode b_X_within 1 = .ok (.iload_n 1, 1) := by decide +kernel
theorem d_X_within_2 : decode b_X_within 2 = .ok (.if_icmp .lt 12, 3) := by decide +kernel
theorem d_X_within_5 : decode b_X_within 5 = .ok (.iload_n 0, 1) := by decide +kernel
theorem d_X_within_6 : decode b_X_within 6 = .ok (.iload_n 2, 1) := by decide +kernel
theorem d_X_within_7 : decode b_X_within 7 = .ok (.if_icmp .gt 7, 3) := by decide +kernel
theorem d_X_within_10 : decode b_X_within 10 = .ok (.iconst 1, 1) := by decide +kernel
theorem d_X_within_11 : decode b_X_within 11 = .ok (.goto 4, 3) := by decide +kernel
theorem d_X_within_14 : decode b_X_within 14 = .ok (.iconst 0, 1) := by decide +kernel
theorem d_X_within_15 : decode b_X_within 15 = .ok (.ireturn, 1) := by decide +kernel
theorem d_X_feed_0 : decode b_X_feed 0 = .ok (.iload_n 1, 1) := by decide +kernel
theorem d_X_feed_1 : decode b_X_feed 1 = .ok (.iconst 0, 1) := by decide +kernel
theorem d_X_feed_2 : decode b_X_feed 2 = .ok (.sipush 255, 3) := by decide +kernel
theorem d_X_feed_5 : decode b_X_feed 5 = .ok (.invokestatic 37, 3) := by decide +kernel
theorem d_X_feed_8 : decode b_X_feed 8 = .ok (.ifCond .eq 26, 3) := by decide +kernel
theorem d_X_feed_11 : decode b_X_feed 11 = .ok (.iload_n 2, 1) := by decide +kernel
theorem d_X_feed_12 : decode b_X_feed 12 = .ok (.iconst 1, 1) := by decide +kernel
theorem d_X_feed_13 : decode b_X_feed 13 = .ok (.sipush 5000, 3) := by decide +kernel
theorem d_X_feed_16 : decode b_X_feed 16 = .ok (.invokestatic 37, 3) := by decide +kernel
theorem d_X_feed_19 : decode b_X_feed 19 = .ok (.ifCond .eq 15, 3) := by decide +kernel
theorem d_X_feed_22 : decode b_X_feed 22 = .ok (.iload_n 2, 1) := by decide +kernel
theorem d_X_feed_23 : decode b_X_feed 23 = .ok (.sipush 5000, 3) := by decide +kernel
theorem d_X_feed_26 : decode b_X_feed 26 = .ok (.aload_n 0, 1) := by decide +kernel
theorem d_X_feed_27 : decode b_X_feed 27 = .ok (.getfield 41, 3) := by decide +kernel
theorem d_X_feed_30 : decode b_X_feed 30 = .ok (.isub, 1) := by decide +kernel
theorem d_X_feed_31 : decode b_X_feed 31 = .ok (.if_icmp .le 5, 3) := by decide +kernel
theorem d_X_feed_34 : decode b_X_feed 34 = .ok (.iconst 0, 1) := by decide +kernel
theorem d_X_feed_35 : decode b_X_feed 35 = .ok (.ireturn, 1) := by decide +kernel
theorem d_X_feed_36 : decode b_X_feed 36 = .ok (.iconst 0, 1) := by decide +kernel
theorem d_X_feed_37 : decode b_X_feed 37 = .ok (.istore_n 3, 1) := by decide +kernel
theorem d_X_feed_38 : decode b_X_feed 38 = .ok (.iload_n 3, 1) := by decide +kernel
theorem d_X_feed_39 : decode b_X_feed 39 = .ok (.iload_n 2, 1) := by decide +kernel
theorem d_X_feed_40 : decode b_X_feed 40 = .ok (.if_icmp .ge 30, 3) := by decide +kernel
theorem d_X_feed_43 : decode b_X_feed 43 = .ok (.aload_n 0, 1) := by decide +kernel
theorem d_X_feed_44 : decode b_X_feed 44 = .ok (.getfield 29, 3) := by decide +kernel
theorem d_X_feed_47 : decode b_X_feed 47 = .ok (.aload_n 0, 1) := by decide +kernel
theorem d_X_feed_48 : decode b_X_feed 48 = .ok (.getfield 41, 3) := by decide +kernel
theorem d_X_feed_51 : decode b_X_feed 51 = .ok (.iload_n 1, 1) := by decide +kernel
theorem d_X_feed_52 : decode b_X_feed 52 = .ok (.i2b, 1) := by decide +kernel
theorem d_X_feed_53 : decode b_X_feed 53 = .ok (.bastore, 1) := by decide +kernel
theorem d_X_feed_54 : decode b_X_feed 54 = .ok (.aload_n 0, 1) := by decide +kernel
theorem d_X_feed_55 : decode b_X_feed 55 = .ok (.dup, 1) := by decide +kernel
theorem d_X_feed_56 : decode b_X_feed 56 = .ok (.getfield 41, 3) := by decide +kernel
theorem d_X_feed_59 : decode b_X_feed 59 = .ok (.iconst 1, 1) := by decide +kernel
theorem d_X_feed_60 : decode b_X_feed 60 = .ok (.iadd, 1) := by decide +kernel
theorem d_X_feed_61 : decode b_X_feed 61 = .ok (.putfield 41, 3) := by decide +kernel
theorem d_X_feed_64 : decode b_X_feed 64 = .ok (.iinc 3 1, 3) := by decide +kernel
theorem d_X_feed_67 : decode b_X_feed 67 = .ok (.goto (-29), 3) := by decide +kernel
theorem d_X_feed_70 : decode b_X_feed 70 = .ok (.iconst 1, 1) := by decide +kernel
theorem d_X_feed_71 : decode b_X_feed 71 = .ok (.ireturn, 1) := by decide +kernel
theorem d_X_clear_0 : decode b_X_clear 0 = .ok (.aload_n 0, 1) := by decide +kernel
theorem d_X_clear_1 : decode b_X_clear 1 = .ok (.iconst 0, 1) := by decide +kernel
theorem d_X_clear_2 : decode b_X_clear 2 = .ok (.putfield 41, 3) := by decide +kernel
theorem d_X_clear_5 : decode b_X_clear 5 = .ok (.return_, 1) := by decide +kernel
theorem d_X_flip_0 : decode b_X_flip 0 = .ok (.iload_n 1, 1) := by decide +kernel
theorem d_X_flip_1 : decode b_X_flip 1 = .ok (.ifCond .lt 13, 3) := by decide +kernel
theorem d_X_flip_4 : decode b_X_flip 4 = .ok (.iload_n 1, 1) := by decide +kernel
theorem d_X_flip_5 : decode b_X_flip 5 = .ok (.iconst 3, 1) := by decide +kernel
theorem d_X_flip_6 : decode b_X_flip 6 = .ok (.ishr, 1) := by decide +kernel
theorem d_X_flip_7 : decode b_X_flip 7 = .ok (.aload_n 0, 1) := by decide +kernel
theorem d_X_flip_8 : decode b_X_flip 8 = .ok (.getfield 41, 3) := by decide +kernel
theorem d_X_flip_11 : decode b_X_flip 11 = .ok (.if_icmp .lt 5, 3) := by decide +kernel
theorem d_X_flip_14 : decode b_X_flip 14 = .ok (.iconst 0, 1) := by decide +kernel
theorem d_X_flip_15 : decode b_X_flip 15 = .ok (.ireturn, 1) := by decide +kernel
theorem d_X_flip_16 : decode b_X_flip 16 = .ok (.aload_n 0, 1) := by decide +kernel
theorem d_X_flip_17 : decode b_X_flip 17 = .ok (.getfield 29, 3) := by decide +kernel
theorem d_X_flip_20 : decode b_X_flip 20 = .ok (.iload_n 1, 1) := by decide +kernel
theorem d_X_flip_21 : decode b_X_flip 21 = .ok (.iconst 3, 1) := by decide +kernel
theorem d_X_flip_22 : decode b_X_flip 22 = .ok (.ishr, 1) := by decide +kernel
theorem d_X_flip_23 : decode b_X_flip 23 = .ok (.dup2, 1) := by decide +kernel
theorem d_X_flip_24 : decode b_X_flip 24 = .ok (.baload, 1) := by decide +kernel
theorem d_X_flip_25 : decode b_X_flip 25 = .ok (.iconst 1, 1) := by decide +kernel
theorem d_X_flip_26 : decode b_X_flip 26 = .ok (.aload_n 0, 1) := by decide +kernel
theorem d_X_flip_27 : decode b_X_flip 27 = .ok (.iload_n 1, 1) := by decide +kernel
theorem d_X_flip_28 : decode b_X_flip 28 = .ok (.invokevirtual 49, 3) := by decide +kernel
theorem d_X_flip_31 : decode b_X_flip 31 = .ok (.ishl, 1) := by decide +kernel
theorem d_X_flip_32 : decode b_X_flip 32 = .ok (.i2b, 1) := by decide +kernel
theorem d_X_flip_33 : decode b_X_flip 33 = .ok (.ixor, 1) := by decide +kernel
theorem d_X_flip_34 : decode b_X_flip 34 = .ok (.i2b, 1) := by decide +kernel
theorem d_X_flip_35 : decode b_X_flip 35 = .ok (.bastore, 1) := by decide +kernel
theorem d_X_flip_36 : decode b_X_flip 36 = .ok (.iconst 1, 1) := by decide +kernel
theorem d_X_flip_37 : decode b_X_flip 37 = .ok (.ireturn, 1) := by decide +kernel
theorem d_X_place_0 : decode b_X_place 0 = .ok (.aload_n 0, 1) := by decide +kernel
theorem d_X_place_1 : decode b_X_place 1 = .ok (.getfield 16, 3) := by decide +kernel
theorem d_X_place_4 : decode b_X_place 4 = .ok (.getfield 45, 3) := by decide +kernel
theorem d_X_place_7 : decode b_X_place 7 = .ok (.ifCond .eq 10, 3) := by decide +kernel
theorem d_X_place_10 : decode b_X_place 10 = .ok (.iload_n 1, 1) := by decide +kernel
theorem d_X_place_11 : decode b_X_place 11 = .ok (.bipush 7, 2) := by decide +kernel
theorem d_X_place_13 : decode b_X_place 13 = .ok (.iand, 1) := by decide +kernel
theorem d_X_place_14 : decode b_X_place 14 = .ok (.goto 10, 3) := by decide +kernel
theorem d_X_place_17 : decode b_X_place 17 = .ok (.bipush 7, 2) := by decide +kernel
theorem d_X_place_19 : decode b_X_place 19 = .ok (.iload_n 1, 1) := by decide +kernel
theorem d_X_place_20 : decode b_X_place 20 = .ok (.bipush 7, 2) := by decide +kernel
theorem d_X_place_22 : decode b_X_place 22 = .ok (.iand, 1) := by decide +kernel
theorem d_X_place_23 : decode b_X_place 23 = .ok (.isub, 1) := by decide +kernel
theorem d_X_place_24 : decode b_X_place 24 = .ok (.ireturn, 1) := by decide +kernel
theorem d_X_check_0 : decode b_X_check 0 = .ok (.iload_n 1, 1) := by decide +kernel
theorem d_X_check_1 : decode b_X_check 1 = .ok (.tableswitch 66 0 3 #[31, 41, 51, 61], 31) := by decide +kernel
theorem d_X_check_32 : decode b_X_check 32 = .ok (.aload_n 0, 1) := by decide +kernel
theorem d_X_check_33 : decode b_X_check 33 = .ok (.iconst 0, 1) := by decide +kernel
theorem d_X_check_34 : decode b_X_check 34 = .ok (.aload_n 0, 1) := by decide +kernel
theorem d_X_check_35 : decode b_X_check 35 = .ok (.getfield 41, 3) := by decide +kernel
theorem d_X_check_38 : decode b_X_check 38 = .ok (.invokevirtual 89, 3) := by decide +kernel
theorem d_X_check_41 : decode b_X_check 41 = .ok (.lreturn, 1) := by decide +kernel
theorem d_X_check_42 : decode b_X_check 42 = .ok (.aload_n 0, 1) := by decide +kernel
theorem d_X_check_43 : decode b_X_check 43 = .ok (.iconst 0, 1) := by decide +kernel
theorem d_X_check_44 : decode b_X_check 44 = .ok (.aload_n 0, 1) := by decide +kernel
theorem d_X_check_45 : decode b_X_check 45 = .ok (.getfield 41, 3) := by decide +kernel
theorem d_X_check_48 : decode b_X_check 48 = .ok (.invokevirtual 93, 3) := by decide +kernel
theorem d_X_check_51 : decode b_X_check 51 = .ok (.lreturn, 1) := by decide +kernel
theorem d_X_check_52 : decode b_X_check 52 = .ok (.aload_n 0, 1) := by decide +kernel
theorem d_X_check_53 : decode b_X_check 53 = .ok (.iconst 0, 1) := by decide +kernel
theorem d_X_check_54 : decode b_X_check 54 = .ok (.aload_n 0, 1) := by decide +kernel
theorem d_X_check_55 : decode b_X_check 55 = .ok (.getfield 41, 3) := by decide +kernel
theorem d_X_check_58 : decode b_X_check 58 = .ok (.invokevirtual 96, 3) := by decide +kernel
theorem d_X_check_61 : decode b_X_check 61 = .ok (.lreturn, 1) := by decide +kernel
theorem d_X_check_62 : decode b_X_check 62 = .ok (.aload_n 0, 1) := by decide +kernel
theorem d_X_check_63 : decode b_X_check 63 = .ok (.invokevirtual 99, 3) := by decide +kernel
theorem d_X_check_66 : decode b_X_check 66 = .ok (.lreturn, 1) := by decide +kernel
theorem d_X_check_67 : decode b_X_check 67 = .ok (.lconst 0, 1) := by decide +kernel
theorem d_X_check_68 : decode b_X_check 68 = .ok (.lreturn, 1) := by decide +kernel
theorem d_X_byBits_0 : decode b_X_byBits 0 = .ok (.aload_n 0, 1) := by decide +kernel
theorem d_X_byBits_1 : decode b_X_byBits 1 = .ok (.getfield 16, 3) := by decide +kernel
theorem d_X_byBits_4 : decode b_X_byBits 4 = .ok (.aload_n 0, 1) := by decide +kernel
theorem d_X_byBits_5 : decode b_X_byBits 5 = .ok (.getfield 16, 3) := by decide +kernel
theorem d_X_byBits_8 : decode b_X_byBits 8 = .ok (.getfield 53, 3) := by decide +kernel
theorem d_X_byBits_11 : decode b_X_byBits 11 = .ok (.invokevirtual 57, 3) := by decide +kernel
theorem d_X_byBits_14 : decode b_X_byBits 14 = .ok (.lstore_n 3, 1) := by decide +kernel
theorem d_X_byBits_15 : decode b_X_byBits 15 = .ok (.iload_n 1, 1) := by decide +kernel
theorem d_X_byBits_16 : decode b_X_byBits 16 = .ok (.istore 5, 2) := by decide +kernel
theorem d_X_byBits_18 : decode b_X_byBits 18 = .ok (.iload 5, 2) := by decide +kernel
theorem d_X_byBits_20 : decode b_X_byBits 20 = .ok (.iload_n 2, 1) := by decide +kernel
theorem d_X_byBits_21 : decode b_X_byBits 21 = .ok (.if_icmp .ge 31, 3) := by decide +kernel
theorem d_X_byBits_24 : decode b_X_byBits 24 = .ok (.aload_n 0, 1) := by decide +kernel
theorem d_X_byBits_25 : decode b_X_byBits 25 = .ok (.getfield 16, 3) := by decide +kernel
theorem d_X_byBits_28 : decode b_X_byBits 28 = .ok (.lload_n 3, 1) := by decide +kernel
theorem d_X_byBits_29 : decode b_X_byBits 29 = .ok (.aload_n 0, 1) := by decide +kernel
theorem d_X_byBits_30 : decode b_X_byBits 30 = .ok (.getfield 29, 3) := by decide +kernel
theorem d_X_byBits_33 : decode b_X_byBits 33 = .ok (.iload 5, 2) := by decide +kernel
theorem d_X_byBits_35 : decode b_X_byBits 35 = .ok (.baload, 1) := by decide +kernel
theorem d_X_byBits_36 : decode b_X_byBits 36 = .ok (.sipush 255, 3) := by decide +kernel
theorem d_X_byBits_39 : decode b_X_byBits 39 = .ok (.iand, 1) := by decide +kernel
theorem d_X_byBits_40 : decode b_X_byBits 40 = .ok (.bipush 8, 2) := by decide +kernel
theorem d_X_byBits_42 : decode b_X_byBits 42 = .ok (.invokevirtual 61, 3) := by decide +kernel
theorem d_X_byBits_45 : decode b_X_byBits 45 = .ok (.lstore_n 3, 1) := by decide +kernel
theorem d_X_byBits_46 : decode b_X_byBits 46 = .ok (.iinc 5 1, 3) := by decide +kernel
theorem d_X_byBits_49 : decode b_X_byBits 49 = .ok (.goto (-31), 3) := by decide +kernel
theorem d_X_byBits_52 : decode b_X_byBits 52 = .ok (.aload_n 0, 1) := by decide +kernel
theorem d_X_byBits_53 : decode b_X_byBits 53 = .ok (.getfield 16, 3) := by decide +kernel
theorem d_X_byBits_56 : decode b_X_byBits 56 = .ok (.lload_n 3, 1) := by decide +kernel
theorem d_X_byBits_57 : decode b_X_byBits 57 = .ok (.invokevirtual 65, 3) := by decide +kernel
theorem d_X_byBits_60 : decode b_X_byBits 60 = .ok (.lreturn, 1) := by decide +kernel
theorem d_X_byBytes_0 : decode b_X_byBytes 0 = .ok (.aload_n 0, 1) := by decide +kernel
theorem d_X_byBytes_1 : decode b_X_byBytes 1 = .ok (.getfield 16, 3) := by decide +kernel
theorem d_X_byBytes_4 : decode b_X_byBytes 4 = .ok (.aload_n 0, 1) := by decide +kernel
theorem d_X_byBytes_5 : decode b_X_byBytes 5 = .ok (.getfield 16, 3) := by decide +kernel
theorem d_X_byBytes_8 : decode b_X_byBytes 8 = .ok (.getfield 53, 3) := by decide +kernel
theorem d_X_byBytes_11 : decode b_X_byBytes 11 = .ok (.invokevirtual 57, 3) := by decide +kernel
theorem d_X_byBytes_14 : decode b_X_byBytes 14 = .ok (.lstore_n 3, 1) := by decide +kernel
theorem d_X_byBytes_15 : decode b_X_byBytes 15 = .ok (.iload_n 1, 1) := by decide +kernel
theorem d_X_byBytes_16 : decode b_X_byBytes 16 = .ok (.istore 5, 2) := by decide +kernel
theorem d_X_byBytes_18 : decode b_X_byBytes 18 = .ok (.iload 5, 2) := by decide +kernel
theorem d_X_byBytes_20 : decode b_X_byBytes 20 = .ok (.iload_n 2, 1) := by decide +kernel
theorem d_X_byBytes_21 : decode b_X_byBytes 21 = .ok (.if_icmp .ge 29, 3) := by decide +kernel
theorem d_X_byBytes_24 : decode b_X_byBytes 24 = .ok (.aload_n 0, 1) := by decide +kernel
theorem d_X_byBytes_25 : decode b_X_byBytes 25 = .ok (.getfield 16, 3) := by decide +kernel
theorem d_X_byBytes_28 : decode b_X_byBytes 28 = .ok (.lload_n 3, 1) := by decide +kernel
theorem d_X_byBytes_29 : decode b_X_byBytes 29 = .ok (.aload_n 0, 1) := by decide +kernel
theorem d_X_byBytes_30 : decode b_X_byBytes 30 = .ok (.getfield 29, 3) := by decide +kernel
theorem d_X_byBytes_33 : decode b_X_byBytes 33 = .ok (.iload 5, 2) := by decide +kernel
theorem d_X_byBytes_35 : decode b_X_byBytes 35 = .ok (.baload, 1) := by decide +kernel
theorem d_X_byBytes_36 : decode b_X_byBytes 36 = .ok (.sipush 255, 3) := by decide +kernel
theorem d_X_byBytes_39 : decode b_X_byBytes 39 = .ok (.iand, 1) := by decide +kernel
theorem d_X_byBytes_40 : decode b_X_byBytes 40 = .ok (.invokevirtual 68, 3) := by decide +kernel
theorem d_X_byBytes_43 : decode b_X_byBytes 43 = .ok (.lstore_n 3, 1) := by decide +kernel
theorem d_X_byBytes_44 : decode b_X_byBytes 44 = .ok (.iinc 5 1, 3) := by decide +kernel
theorem d_X_byBytes_47 : decode b_X_byBytes 47 = .ok (.goto (-29), 3) := by decide +kernel
theorem d_X_byBytes_50 : decode b_X_byBytes 50 = .ok (.aload_n 0, 1) := by decide +kernel
theorem d_X_byBytes_51 : decode b_X_byBytes 51 = .ok (.getfield 16, 3) := by decide +kernel
theorem d_X_byBytes_54 : decode b_X_byBytes 54 = .ok (.lload_n 3, 1) := by decide +kernel
theorem d_X_byBytes_55 : decode b_X_byBytes 55 = .ok (.invokevirtual 65, 3) := by decide +kernel
theorem d_X_byBytes_58 : decode b_X_byBytes 58 = .ok (.lreturn, 1) := by decide +kernel
theorem d_X_bySlices_0 : decode b_X_bySlices 0 = .ok (.aload_n 0, 1) := by decide +kernel
theorem d_X_bySlices_1 : decode b_X_bySlices 1 = .ok (.getfield 16, 3) := by decide +kernel
theorem d_X_bySlices_4 : decode b_X_bySlices 4 = .ok (.aload_n 0, 1) := by decide +kernel
theorem d_X_bySlices_5 : decode b_X_bySlices 5 = .ok (.getfield 16, 3) := by decide +kernel
theorem d_X_bySlices_8 : decode b_X_bySlices 8 = .ok (.getfield 53, 3) := by decide +kernel
theorem d_X_bySlices_11 : decode b_X_bySlices 11 = .ok (.invokevirtual 57, 3) := by decide +kernel
theorem d_X_bySlices_14 : decode b_X_bySlices 14 = .ok (.lstore_n 3, 1) := by decide +kernel
theorem d_X_bySlices_15 : decode b_X_bySlices 15 = .ok (.iload_n 1, 1) := by decide +kernel
theorem d_X_bySlices_16 : decode b_X_bySlices 16 = .ok (.istore 5, 2) := by decide +kernel
theorem d_X_bySlices_18 : decode b_X_bySlices 18 = .ok (.iload 5, 2) := by decide +kernel
theorem d_X_bySlices_20 : decode b_X_bySlices 20 = .ok (.bipush 8, 2) := by decide +kernel
theorem d_X_bySlices_22 : decode b_X_bySlices 22 = .ok (.iadd, 1) := by decide +kernel
theorem d_X_bySlices_23 : decode b_X_bySlices 23 = .ok (.iload_n 2, 1) := by decide +kernel
theorem d_X_bySlices_24 : decode b_X_bySlices 24 = .ok (.if_icmp .gt 24, 3) := by decide +kernel
theorem d_X_bySlices_27 : decode b_X_bySlices 27 = .ok (.aload_n 0, 1) := by decide +kernel
theorem d_X_bySlices_28 : decode b_X_bySlices 28 = .ok (.getfield 16, 3) := by decide +kernel
theorem d_X_bySlices_31 : decode b_X_bySlices 31 = .ok (.lload_n 3, 1) := by decide +kernel
theorem d_X_bySlices_32 : decode b_X_bySlices 32 = .ok (.aload_n 0, 1) := by decide +kernel
theorem d_X_bySlices_33 : decode b_X_bySlices 33 = .ok (.iload 5, 2) := by decide +kernel
theorem d_X_bySlices_35 : decode b_X_bySlices 35 = .ok (.invokevirtual 72, 3) := by decide +kernel
theorem d_X_bySlices_38 : decode b_X_bySlices 38 = .ok (.invokevirtual 76, 3) := by decide +kernel
theorem d_X_bySlices_41 : decode b_X_bySlices 41 = .ok (.lstore_n 3, 1) := by decide +kernel
theorem d_X_bySlices_42 : decode b_X_bySlices 42 = .ok (.iinc 5 8, 3) := by decide +kernel
theorem d_X_bySlices_45 : decode b_X_bySlices 45 = .ok (.goto (-27), 3) := by decide +kernel
theorem d_X_bySlices_48 : decode b_X_bySlices 48 = .ok (.iload 5, 2) := by decide +kernel
theorem d_X_bySlices_50 : decode b_X_bySlices 50 = .ok (.iload_n 2, 1) := by decide +kernel
theorem d_X_bySlices_51 : decode b_X_bySlices 51 = .ok (.if_icmp .ge 29, 3) := by decide +kernel
theorem d_X_bySlices_54 : decode b_X_bySlices 54 = .ok (.aload_n 0, 1) := by decide +kernel
theorem d_X_bySlices_55 : decode b_X_bySlices 55 = .ok (.getfield 16, 3) := by decide +kernel
theorem d_X_bySlices_58 : decode b_X_bySlices 58 = .ok (.lload_n 3, 1) := by decide +kernel
theorem d_X_bySlices_59 : decode b_X_bySlices 59 = .ok (.aload_n 0, 1) := by decide +kernel
theorem d_X_bySlices_60 : decode b_X_bySlices 60 = .ok (.getfield 29, 3) := by decide +kernel
theorem d_X_bySlices_63 : decode b_X_bySlices 63 = .ok (.iload 5, 2) := by decide +kernel
theorem d_X_bySlices_65 : decode b_X_bySlices 65 = .ok (.baload, 1) := by decide +kernel
theorem d_X_bySlices_66 : decode b_X_bySlices 66 = .ok (.sipush 255, 3) := by decide +kernel
theorem d_X_bySlices_69 : decode b_X_bySlices 69 = .ok (.iand, 1) := by decide +kernel
theorem d_X_bySlices_70 : decode b_X_bySlices 70 = .ok (.invokevirtual 68, 3) := by decide +kernel
theorem d_X_bySlices_73 : decode b_X_bySlices 73 = .ok (.lstore_n 3, 1) := by decide +kernel
theorem d_X_bySlices_74 : decode b_X_bySlices 74 = .ok (.iinc 5 1, 3) := by decide +kernel
theorem d_X_bySlices_77 : decode b_X_bySlices 77 = .ok (.goto (-29), 3) := by decide +kernel
theorem d_X_bySlices_80 : decode b_X_bySlices 80 = .ok (.aload_n 0, 1) := by decide +kernel
theorem d_X_bySlices_81 : decode b_X_bySlices 81 = .ok (.getfield 16, 3) := by decide +kernel
theorem d_X_bySlices_84 : decode b_X_bySlices 84 = .ok (.lload_n 3, 1) := by decide +kernel
theorem d_X_bySlices_85 : decode b_X_bySlices 85 = .ok (.invokevirtual 65, 3) := by decide +kernel
theorem d_X_bySlices_88 : decode b_X_bySlices 88 = .ok (.lreturn, 1) := by decide +kernel
theorem d_X_eightAt_0 : decode b_X_eightAt 0 = .ok (.lconst 0, 1) := by decide +kernel
theorem d_X_eightAt_1 : decode b_X_eightAt 1 = .ok (.lstore_n 2, 1) := by decide +kernel
theorem d_X_eightAt_2 : decode b_X_eightAt 2 = .ok (.iconst 0, 1) := by decide +kernel
theorem d_X_eightAt_3 : decode b_X_eightAt 3 = .ok (.istore 4, 2) := by decide +kernel
theorem d_X_eightAt_5 : decode b_X_eightAt 5 = .ok (.iload 4, 2) := by decide +kernel
theorem d_X_eightAt_7 : decode b_X_eightAt 7 = .ok (.bipush 8, 2) := by decide +kernel
theorem d_X_eightAt_9 : decode b_X_eightAt 9 = .ok (.if_icmp .ge 57, 3) := by decide +kernel
theorem d_X_eightAt_12 : decode b_X_eightAt 12 = .ok (.aload_n 0, 1) := by decide +kernel
theorem d_X_eightAt_13 : decode b_X_eightAt 13 = .ok (.getfield 16, 3) := by decide +kernel
theorem d_X_eightAt_16 : decode b_X_eightAt 16 = .ok (.getfield 45, 3) := by decide +kernel
theorem d_X_eightAt_19 : decode b_X_eightAt 19 = .ok (.ifCond .eq 11, 3) := by decide +kernel
theorem d_X_eightAt_22 : decode b_X_eightAt 22 = .ok (.bipush 8, 2) := by decide +kernel
theorem d_X_eightAt_24 : decode b_X_eightAt 24 = .ok (.iload 4, 2) := by decide +kernel
theorem d_X_eightAt_26 : decode b_X_eightAt 26 = .ok (.imul, 1) := by decide +kernel
theorem d_X_eightAt_27 : decode b_X_eightAt 27 = .ok (.goto 11, 3) := by decide +kernel
theorem d_X_eightAt_30 : decode b_X_eightAt 30 = .ok (.bipush 56, 2) := by decide +kernel
theorem d_X_eightAt_32 : decode b_X_eightAt 32 = .ok (.bipush 8, 2) := by decide +kernel
theorem d_X_eightAt_34 : decode b_X_eightAt 34 = .ok (.iload 4, 2) := by decide +kernel
theorem d_X_eightAt_36 : decode b_X_eightAt 36 = .ok (.imul, 1) := by decide +kernel
theorem d_X_eightAt_37 : decode b_X_eightAt 37 = .ok (.isub, 1) := by decide +kernel
theorem d_X_eightAt_38 : decode b_X_eightAt 38 = .ok (.istore 5, 2) := by decide +kernel
theorem d_X_eightAt_40 : decode b_X_eightAt 40 = .ok (.lload_n 2, 1) := by decide +kernel
theorem d_X_eightAt_41 : decode b_X_eightAt 41 = .ok (.aload_n 0, 1) := by decide +kernel
theorem d_X_eightAt_42 : decode b_X_eightAt 42 = .ok (.getfield 29, 3) := by decide +kernel
theorem d_X_eightAt_45 : decode b_X_eightAt 45 = .ok (.iload_n 1, 1) := by decide +kernel
theorem d_X_eightAt_46 : decode b_X_eightAt 46 = .ok (.iload 4, 2) := by decide +kernel
theorem d_X_eightAt_48 : decode b_X_eightAt 48 = .ok (.iadd, 1) := by decide +kernel
theorem d_X_eightAt_49 : decode b_X_eightAt 49 = .ok (.baload, 1) := by decide +kernel
theorem d_X_eightAt_50 : decode b_X_eightAt 50 = .ok (.sipush 255, 3) := by decide +kernel
theorem d_X_eightAt_53 : decode b_X_eightAt 53 = .ok (.iand, 1) := by decide +kernel
theorem d_X_eightAt_54 : decode b_X_eightAt 54 = .ok (.i2l, 1) := by decide +kernel
theorem d_X_eightAt_55 : decode b_X_eightAt 55 = .ok (.iload 5, 2) := by decide +kernel
theorem d_X_eightAt_57 : decode b_X_eightAt 57 = .ok (.lshl, 1) := by decide +kernel
theorem d_X_eightAt_58 : decode b_X_eightAt 58 = .ok (.lor, 1) := by decide +kernel
theorem d_X_eightAt_59 : decode b_X_eightAt 59 = .ok (.lstore_n 2, 1) := by decide +kernel
theorem d_X_eightAt_60 : decode b_X_eightAt 60 = .ok (.iinc 4 1, 3) := by decide +kernel
theorem d_X_eightAt_63 : decode b_X_eightAt 63 = .ok (.goto (-58), 3) := by decide +kernel
theorem d_X_eightAt_66 : decode b_X_eightAt 66 = .ok (.lload_n 2, 1) := by decide +kernel
theorem d_X_eightAt_67 : decode b_X_eightAt 67 = .ok (.lreturn, 1) := by decide +kernel
theorem d_X_byDividing_0 : decode b_X_byDividing 0 = .ok (.aload_n 0, 1) := by decide +kernel
theorem d_X_byDividing_1 : decode b_X_byDividing 1 = .ok (.invokevirtual 83, 3) := by decide +kernel
theorem d_X_byDividing_4 : decode b_X_byDividing 4 = .ok (.iconst 0, 1) := by decide +kernel
theorem d_X_byDividing_5 : decode b_X_byDividing 5 = .ok (.istore_n 1, 1) := by decide +kernel
theorem d_X_byDividing_6 : decode b_X_byDividing 6 = .ok (.iload_n 1, 1) := by decide +kernel
theorem d_X_byDividing_7 : decode b_X_byDividing 7 = .ok (.bipush 8, 2) := by decide +kernel
theorem d_X_byDividing_9 : decode b_X_byDividing 9 = .ok (.aload_n 0, 1) := by decide +kernel
theorem d_X_byDividing_10 : decode b_X_byDividing 10 = .ok (.getfield 41, 3) := by decide +kernel
theorem d_X_byDividing_13 : decode b_X_byDividing 13 = .ok (.imul, 1) := by decide +kernel
theorem d_X_byDividing_14 : decode b_X_byDividing 14 = .ok (.if_icmp .ge 92, 3) := by decide +kernel
theorem d_X_byDividing_17 : decode b_X_byDividing 17 = .ok (.iconst 0, 1) := by decide +kernel
theorem d_X_byDividing_18 : decode b_X_byDividing 18 = .ok (.istore_n 2, 1) := by decide +kernel
theorem d_X_byDividing_19 : decode b_X_byDividing 19 = .ok (.iload_n 2, 1) := by decide +kernel
theorem d_X_byDividing_20 : decode b_X_byDividing 20 = .ok (.aload_n 0, 1) := by decide +kernel
theorem d_X_byDividing_21 : decode b_X_byDividing 21 = .ok (.getfield 16, 3) := by decide +kernel
theorem d_X_byDividing_24 : decode b_X_byDividing 24 = .ok (.getfield 80, 3) := by decide +kernel
theorem d_X_byDividing_27 : decode b_X_byDividing 27 = .ok (.if_icmp .gt 73, 3) := by decide +kernel
theorem d_X_byDividing_30 : decode b_X_byDividing 30 = .ok (.aload_n 0, 1) := by decide +kernel
theorem d_X_byDividing_31 : decode b_X_byDividing 31 = .ok (.getfield 34, 3) := by decide +kernel
theorem d_X_byDividing_34 : decode b_X_byDividing 34 = .ok (.iload_n 1, 1) := by decide +kernel
theorem d_X_byDividing_35 : decode b_X_byDividing 35 = .ok (.baload, 1) := by decide +kernel
theorem d_X_byDividing_36 : decode b_X_byDividing 36 = .ok (.iconst 1, 1) := by decide +kernel
theorem d_X_byDividing_37 : decode b_X_byDividing 37 = .ok (.if_icmp .ne 63, 3) := by decide +kernel
theorem d_X_byDividing_40 : decode b_X_byDividing 40 = .ok (.iload_n 1, 1) := by decide +kernel
theorem d_X_byDividing_41 : decode b_X_byDividing 41 = .ok (.aload_n 0, 1) := by decide +kernel
theorem d_X_byDividing_42 : decode b_X_byDividing 42 = .ok (.getfield 16, 3) := by decide +kernel
theorem d_X_byDividing_45 : decode b_X_byDividing 45 = .ok (.getfield 80, 3) := by decide +kernel
theorem d_X_byDividing_48 : decode b_X_byDividing 48 = .ok (.iadd, 1) := by decide +kernel
theorem d_X_byDividing_49 : decode b_X_byDividing 49 = .ok (.iload_n 2, 1) := by decide +kernel
theorem d_X_byDividing_50 : decode b_X_byDividing 50 = .ok (.isub, 1) := by decide +kernel
theorem d_X_byDividing_51 : decode b_X_byDividing 51 = .ok (.istore_n 3, 1) := by decide +kernel
theorem d_X_byDividing_52 : decode b_X_byDividing 52 = .ok (.iload_n 2, 1) := by decide +kernel
theorem d_X_byDividing_53 : decode b_X_byDividing 53 = .ok (.aload_n 0, 1) := by decide +kernel
theorem d_X_byDividing_54 : decode b_X_byDividing 54 = .ok (.getfield 16, 3) := by decide +kernel
theorem d_X_byDividing_57 : decode b_X_byDividing 57 = .ok (.getfield 80, 3) := by decide +kernel
theorem d_X_byDividing_60 : decode b_X_byDividing 60 = .ok (.if_icmp .ne 7, 3) := by decide +kernel
theorem d_X_byDividing_63 : decode b_X_byDividing 63 = .ok (.lconst 1, 1) := by decide +kernel
theorem d_X_byDividing_64 : decode b_X_byDividing 64 = .ok (.goto 14, 3) := by decide +kernel
theorem d_X_byDividing_67 : decode b_X_byDividing 67 = .ok (.aload_n 0, 1) := by decide +kernel
theorem d_X_byDividing_68 : decode b_X_byDividing 68 = .ok (.getfield 16, 3) := by decide +kernel
theorem d_X_byDividing_71 : decode b_X_byDividing 71 = .ok (.getfield 86, 3) := by decide +kernel
theorem d_X_byDividing_74 : decode b_X_byDividing 74 = .ok (.iload_n 2, 1) := by decide +kernel
theorem d_X_byDividing_75 : decode b_X_byDividing 75 = .ok (.lushr, 1) := by decide +kernel
theorem d_X_byDividing_76 : decode b_X_byDividing 76 = .ok (.lconst 1, 1) := by decide +kernel
theorem d_X_byDividing_77 : decode b_X_byDividing 77 = .ok (.land, 1) := by decide +kernel
theorem d_X_byDividing_78 : decode b_X_byDividing 78 = .ok (.lstore 4, 2) := by decide +kernel
theorem d_X_byDividing_80 : decode b_X_byDividing 80 = .ok (.aload_n 0, 1) := by decide +kernel
theorem d_X_byDividing_81 : decode b_X_byDividing 81 = .ok (.getfield 34, 3) := by decide +kernel
theorem d_X_byDividing_84 : decode b_X_byDividing 84 = .ok (.iload_n 3, 1) := by decide +kernel
theorem d_X_byDividing_85 : decode b_X_byDividing 85 = .ok (.dup2, 1) := by decide +kernel
theorem d_X_byDividing_86 : decode b_X_byDividing 86 = .ok (.baload, 1) := by decide +kernel
theorem d_X_byDividing_87 : decode b_X_byDividing 87 = .ok (.lload 4, 2) := by decide +kernel
theorem d_X_byDividing_89 : decode b_X_byDividing 89 = .ok (.l2i, 1) := by decide +kernel
theorem d_X_byDividing_90 : decode b_X_byDividing 90 = .ok (.i2b, 1) := by decide +kernel
theorem d_X_byDividing_91 : decode b_X_byDividing 91 = .ok (.ixor, 1) := by decide +kernel
theorem d_X_byDividing_92 : decode b_X_byDividing 92 = .ok (.i2b, 1) := by decide +kernel
theorem d_X_byDividing_93 : decode b_X_byDividing 93 = .ok (.bastore, 1) := by decide +kernel
theorem d_X_byDividing_94 : decode b_X_byDividing 94 = .ok (.iinc 2 1, 3) := by decide +kernel
theorem d_X_byDividing_97 : decode b_X_byDividing 97 = .ok (.goto (-78), 3) := by decide +kernel
theorem d_X_byDividing_100 : decode b_X_byDividing 100 = .ok (.iinc 1 1, 3) := by decide +kernel
theorem d_X_byDividing_103 : decode b_X_byDividing 103 = .ok (.goto (-97), 3) := by decide +kernel
theorem d_X_byDividing_106 : decode b_X_byDividing 106 = .ok (.lconst 0, 1) := by decide +kernel
theorem d_X_byDividing_107 : decode b_X_byDividing 107 = .ok (.lstore_n 1, 1) := by decide +kernel
theorem d_X_byDividing_108 : decode b_X_byDividing 108 = .ok (.bipush 8, 2) := by decide +kernel
theorem d_X_byDividing_110 : decode b_X_byDividing 110 = .ok (.aload_n 0, 1) := by decide +kernel
theorem d_X_byDividing_111 : decode b_X_byDividing 111 = .ok (.getfield 41, 3) := by decide +kernel
theorem d_X_byDividing_114 : decode b_X_byDividing 114 = .ok (.imul, 1) := by decide +kernel
theorem d_X_byDividing_115 : decode b_X_byDividing 115 = .ok (.istore_n 3, 1) := by decide +kernel
theorem d_X_byDividing_116 : decode b_X_byDividing 116 = .ok (.iload_n 3, 1) := by decide +kernel
theorem d_X_byDividing_117 : decode b_X_byDividing 117 = .ok (.bipush 8, 2) := by decide +kernel
theorem d_X_byDividing_119 : decode b_X_byDividing 119 = .ok (.aload_n 0, 1) := by decide +kernel
theorem d_X_byDividing_120 : decode b_X_byDividing 120 = .ok (.getfield 41, 3) := by decide +kernel
theorem d_X_byDividing_123 : decode b_X_byDividing 123 = .ok (.imul, 1) := by decide +kernel
theorem d_X_byDividing_124 : decode b_X_byDividing 124 = .ok (.aload_n 0, 1) := by decide +kernel
theorem d_X_byDividing_125 : decode b_X_byDividing 125 = .ok (.getfield 16, 3) := by decide +kernel
theorem d_X_byDividing_128 : decode b_X_byDividing 128 = .ok (.getfield 80, 3) := by decide +kernel
theorem d_X_byDividing_131 : decode b_X_byDividing 131 = .ok (.iadd, 1) := by decide +kernel
theorem d_X_byDividing_132 : decode b_X_byDividing 132 = .ok (.if_icmp .ge 21, 3) := by decide +kernel
theorem d_X_byDividing_135 : decode b_X_byDividing 135 = .ok (.lload_n 1, 1) := by decide +kernel
theorem d_X_byDividing_136 : decode b_X_byDividing 136 = .ok (.iconst 1, 1) := by decide +kernel
theorem d_X_byDividing_137 : decode b_X_byDividing 137 = .ok (.lshl, 1) := by decide +kernel
theorem d_X_byDividing_138 : decode b_X_byDividing 138 = .ok (.aload_n 0, 1) := by decide +kernel
theorem d_X_byDividing_139 : decode b_X_byDividing 139 = .ok (.getfield 34, 3) := by decide +kernel
theorem d_X_byDividing_142 : decode b_X_byDividing 142 = .ok (.iload_n 3, 1) := by decide +kernel
theorem d_X_byDividing_143 : decode b_X_byDividing 143 = .ok (.baload, 1) := by decide +kernel
theorem d_X_byDividing_144 : decode b_X_byDividing 144 = .ok (.i2l, 1) := by decide +kernel
theorem d_X_byDividing_145 : decode b_X_byDividing 145 = .ok (.lor, 1) := by decide +kernel
theorem d_X_byDividing_146 : decode b_X_byDividing 146 = .ok (.lstore_n 1, 1) := by decide +kernel
theorem d_X_byDividing_147 : decode b_X_byDividing 147 = .ok (.iinc 3 1, 3) := by decide +kernel
theorem d_X_byDividing_150 : decode b_X_byDividing 150 = .ok (.goto (-34), 3) := by decide +kernel
theorem d_X_byDividing_153 : decode b_X_byDividing 153 = .ok (.aload_n 0, 1) := by decide +kernel
theorem d_X_byDividing_154 : decode b_X_byDividing 154 = .ok (.getfield 16, 3) := by decide +kernel
theorem d_X_byDividing_157 : decode b_X_byDividing 157 = .ok (.aload_n 0, 1) := by decide +kernel
theorem d_X_byDividing_158 : decode b_X_byDividing 158 = .ok (.getfield 16, 3) := by decide +kernel
theorem d_X_byDividing_161 : decode b_X_byDividing 161 = .ok (.lload_n 1, 1) := by decide +kernel
theorem d_X_byDividing_162 : decode b_X_byDividing 162 = .ok (.invokevirtual 57, 3) := by decide +kernel
theorem d_X_byDividing_165 : decode b_X_byDividing 165 = .ok (.invokevirtual 65, 3) := by decide +kernel
theorem d_X_byDividing_168 : decode b_X_byDividing 168 = .ok (.lreturn, 1) := by decide +kernel
theorem d_X_layBits_0 : decode b_X_layBits 0 = .ok (.iconst 0, 1) := by decide +kernel
theorem d_X_layBits_1 : decode b_X_layBits 1 = .ok (.istore_n 1, 1) := by decide +kernel
theorem d_X_layBits_2 : decode b_X_layBits 2 = .ok (.iload_n 1, 1) := by decide +kernel
theorem d_X_layBits_3 : decode b_X_layBits 3 = .ok (.bipush 8, 2) := by decide +kernel
theorem d_X_layBits_5 : decode b_X_layBits 5 = .ok (.aload_n 0, 1) := by decide +kernel
theorem d_X_layBits_6 : decode b_X_layBits 6 = .ok (.getfield 41, 3) := by decide +kernel
theorem d_X_layBits_9 : decode b_X_layBits 9 = .ok (.imul, 1) := by decide +kernel
theorem d_X_layBits_10 : decode b_X_layBits 10 = .ok (.aload_n 0, 1) := by decide +kernel
theorem d_X_layBits_11 : decode b_X_layBits 11 = .ok (.getfield 16, 3) := by decide +kernel
theorem d_X_layBits_14 : decode b_X_layBits 14 = .ok (.getfield 80, 3) := by decide +kernel
theorem d_X_layBits_17 : decode b_X_layBits 17 = .ok (.iadd, 1) := by decide +kernel
theorem d_X_layBits_18 : decode b_X_layBits 18 = .ok (.if_icmp .ge 47, 3) := by decide +kernel
theorem d_X_layBits_21 : decode b_X_layBits 21 = .ok (.aload_n 0, 1) := by decide +kernel
theorem d_X_layBits_22 : decode b_X_layBits 22 = .ok (.getfield 34, 3) := by decide +kernel
theorem d_X_layBits_25 : decode b_X_layBits 25 = .ok (.iload_n 1, 1) := by decide +kernel
theorem d_X_layBits_26 : decode b_X_layBits 26 = .ok (.iload_n 1, 1) := by decide +kernel
theorem d_X_layBits_27 : decode b_X_layBits 27 = .ok (.bipush 8, 2) := by decide +kernel
theorem d_X_layBits_29 : decode b_X_layBits 29 = .ok (.aload_n 0, 1) := by decide +kernel
theorem d_X_layBits_30 : decode b_X_layBits 30 = .ok (.getfield 41, 3) := by decide +kernel
theorem d_X_layBits_33 : decode b_X_layBits 33 = .ok (.imul, 1) := by decide +kernel
theorem d_X_layBits_34 : decode b_X_layBits 34 = .ok (.if_icmp .ge 23, 3) := by decide +kernel
theorem d_X_layBits_37 : decode b_X_layBits 37 = .ok (.aload_n 0, 1) := by decide +kernel
theorem d_X_layBits_38 : decode b_X_layBits 38 = .ok (.getfield 29, 3) := by decide +kernel
theorem d_X_layBits_41 : decode b_X_layBits 41 = .ok (.iload_n 1, 1) := by decide +kernel
theorem d_X_layBits_42 : decode b_X_layBits 42 = .ok (.iconst 3, 1) := by decide +kernel
theorem d_X_layBits_43 : decode b_X_layBits 43 = .ok (.ishr, 1) := by decide +kernel
theorem d_X_layBits_44 : decode b_X_layBits 44 = .ok (.baload, 1) := by decide +kernel
theorem d_X_layBits_45 : decode b_X_layBits 45 = .ok (.aload_n 0, 1) := by decide +kernel
theorem d_X_layBits_46 : decode b_X_layBits 46 = .ok (.iload_n 1, 1) := by decide +kernel
theorem d_X_layBits_47 : decode b_X_layBits 47 = .ok (.invokevirtual 49, 3) := by decide +kernel
theorem d_X_layBits_50 : decode b_X_layBits 50 = .ok (.ishr, 1) := by decide +kernel
theorem d_X_layBits_51 : decode b_X_layBits 51 = .ok (.iconst 1, 1) := by decide +kernel
theorem d_X_layBits_52 : decode b_X_layBits 52 = .ok (.iand, 1) := by decide +kernel
theorem d_X_layBits_53 : decode b_X_layBits 53 = .ok (.i2b, 1) := by decide +kernel
theorem d_X_layBits_54 : decode b_X_layBits 54 = .ok (.goto 4, 3) := by decide +kernel
theorem d_X_layBits_57 : decode b_X_layBits 57 = .ok (.iconst 0, 1) := by decide +kernel
theorem d_X_layBits_58 : decode b_X_layBits 58 = .ok (.bastore, 1) := by decide +kernel
theorem d_X_layBits_59 : decode b_X_layBits 59 = .ok (.iinc 1 1, 3) := by decide +kernel
theorem d_X_layBits_62 : decode b_X_layBits 62 = .ok (.goto (-60), 3) := by decide +kernel
theorem d_X_layBits_65 : decode b_X_layBits 65 = .ok (.iconst 0, 1) := by decide +kernel
theorem d_X_layBits_66 : decode b_X_layBits 66 = .ok (.istore_n 1, 1) := by decide +kernel
theorem d_X_layBits_67 : decode b_X_layBits 67 = .ok (.iload_n 1, 1) := by decide +kernel
theorem d_X_layBits_68 : decode b_X_layBits 68 = .ok (.aload_n 0, 1) := by decide +kernel
theorem d_X_layBits_69 : decode b_X_layBits 69 = .ok (.getfield 16, 3) := by decide +kernel
theorem d_X_layBits_72 : decode b_X_layBits 72 = .ok (.getfield 80, 3) := by decide +kernel
theorem d_X_layBits_75 : decode b_X_layBits 75 = .ok (.if_icmp .ge 42, 3) := by decide +kernel
theorem d_X_layBits_78 : decode b_X_layBits 78 = .ok (.aload_n 0, 1) := by decide +kernel
theorem d_X_layBits_79 : decode b_X_layBits 79 = .ok (.getfield 34, 3) := by decide +kernel
theorem d_X_layBits_82 : decode b_X_layBits 82 = .ok (.iload_n 1, 1) := by decide +kernel
theorem d_X_layBits_83 : decode b_X_layBits 83 = .ok (.dup2, 1) := by decide +kernel
theorem d_X_layBits_84 : decode b_X_layBits 84 = .ok (.baload, 1) := by decide +kernel
theorem d_X_layBits_85 : decode b_X_layBits 85 = .ok (.aload_n 0, 1) := by decide +kernel
theorem d_X_layBits_86 : decode b_X_layBits 86 = .ok (.getfield 16, 3) := by decide +kernel
theorem d_X_layBits_89 : decode b_X_layBits 89 = .ok (.getfield 53, 3) := by decide +kernel
theorem d_X_layBits_92 : decode b_X_layBits 92 = .ok (.aload_n 0, 1) := by decide +kernel
theorem d_X_layBits_93 : decode b_X_layBits 93 = .ok (.getfield 16, 3) := by decide +kernel
theorem d_X_layBits_96 : decode b_X_layBits 96 = .ok (.getfield 80, 3) := by decide +kernel
theorem d_X_layBits_99 : decode b_X_layBits 99 = .ok (.iconst 1, 1) := by decide +kernel
theorem d_X_layBits_100 : decode b_X_layBits 100 = .ok (.isub, 1) := by decide +kernel
theorem d_X_layBits_101 : decode b_X_layBits 101 = .ok (.iload_n 1, 1) := by decide +kernel
theorem d_X_layBits_102 : decode b_X_layBits 102 = .ok (.isub, 1) := by decide +kernel
theorem d_X_layBits_103 : decode b_X_layBits 103 = .ok (.lushr, 1) := by decide +kernel
theorem d_X_layBits_104 : decode b_X_layBits 104 = .ok (.lconst 1, 1) := by decide +kernel
theorem d_X_layBits_105 : decode b_X_layBits 105 = .ok (.land, 1) := by decide +kernel
theorem d_X_layBits_106 : decode b_X_layBits 106 = .ok (.l2i, 1) := by decide +kernel
theorem d_X_layBits_107 : decode b_X_layBits 107 = .ok (.i2b, 1) := by decide +kernel
theorem d_X_layBits_108 : decode b_X_layBits 108 = .ok (.ixor, 1) := by decide +kernel
theorem d_X_layBits_109 : decode b_X_layBits 109 = .ok (.i2b, 1) := by decide +kernel
theorem d_X_layBits_110 : decode b_X_layBits 110 = .ok (.bastore, 1) := by decide +kernel
theorem d_X_layBits_111 : decode b_X_layBits 111 = .ok (.iinc 1 1, 3) := by decide +kernel
theorem d_X_layBits_114 : decode b_X_layBits 114 = .ok (.goto (-47), 3) := by decide +kernel
theorem d_X_layBits_117 : decode b_X_layBits 117 = .ok (.return_, 1) := by decide +kernel
theorem d_X_part_0 : decode b_X_part 0 = .ok (.iload_n 1, 1) := by decide +kernel
theorem d_X_part_1 : decode b_X_part 1 = .ok (.iconst 0, 1) := by decide +kernel
theorem d_X_part_2 : decode b_X_part 2 = .ok (.aload_n 0, 1) := by decide +kernel
theorem d_X_part_3 : decode b_X_part 3 = .ok (.getfield 41, 3) := by decide +kernel
theorem d_X_part_6 : decode b_X_part 6 = .ok (.invokestatic 37, 3) := by decide +kernel
theorem d_X_part_9 : decode b_X_part 9 = .ok (.ifCond .eq 24, 3) := by decide +kernel
theorem d_X_part_12 : decode b_X_part 12 = .ok (.iload_n 2, 1) := by decide +kernel
theorem d_X_part_13 : decode b_X_part 13 = .ok (.iload_n 1, 1) := by decide +kernel
theorem d_X_part_14 : decode b_X_part 14 = .ok (.aload_n 0, 1) := by decide +kernel
theorem d_X_part_15 : decode b_X_part 15 = .ok (.getfield 41, 3) := by decide +kernel
theorem d_X_part_18 : decode b_X_part 18 = .ok (.invokestatic 37, 3) := by decide +kernel
theorem d_X_part_21 : decode b_X_part 21 = .ok (.ifCond .eq 12, 3) := by decide +kernel
theorem d_X_part_24 : decode b_X_part 24 = .ok (.aload_n 0, 1) := by decide +kernel
theorem d_X_part_25 : decode b_X_part 25 = .ok (.iload_n 1, 1) := by decide +kernel
theorem d_X_part_26 : decode b_X_part 26 = .ok (.iload_n 2, 1) := by decide +kernel
theorem d_X_part_27 : decode b_X_part 27 = .ok (.invokevirtual 96, 3) := by decide +kernel
theorem d_X_part_30 : decode b_X_part 30 = .ok (.goto 4, 3) := by decide +kernel
theorem d_X_part_33 : decode b_X_part 33 = .ok (.lconst 0, 1) := by decide +kernel
theorem d_X_part_34 : decode b_X_part 34 = .ok (.lreturn, 1) := by decide +kernel
theorem d_X_joined_0 : decode b_X_joined 0 = .ok (.iload 5, 2) := by decide +kernel
theorem d_X_joined_2 : decode b_X_joined 2 = .ok (.ifCond .ge 5, 3) := by decide +kernel
theorem d_X_joined_5 : decode b_X_joined 5 = .ok (.lconst 0, 1) := by decide +kernel
theorem d_X_joined_6 : decode b_X_joined 6 = .ok (.lreturn, 1) := by decide +kernel
theorem d_X_joined_7 : decode b_X_joined 7 = .ok (.aload_n 0, 1) := by decide +kernel
theorem d_X_joined_8 : decode b_X_joined 8 = .ok (.getfield 16, 3) := by decide +kernel
theorem d_X_joined_11 : decode b_X_joined 11 = .ok (.aload_n 0, 1) := by decide +kernel
theorem d_X_joined_12 : decode b_X_joined 12 = .ok (.getfield 16, 3) := by decide +kernel
theorem d_X_joined_15 : decode b_X_joined 15 = .ok (.lload_n 1, 1) := by decide +kernel
theorem d_X_joined_16 : decode b_X_joined 16 = .ok (.invokevirtual 103, 3) := by decide +kernel
theorem d_X_joined_19 : decode b_X_joined 19 = .ok (.invokevirtual 106, 3) := by decide +kernel
theorem d_X_joined_22 : decode b_X_joined 22 = .ok (.aload_n 0, 1) := by decide +kernel
theorem d_X_joined_23 : decode b_X_joined 23 = .ok (.getfield 16, 3) := by decide +kernel
theorem d_X_joined_26 : decode b_X_joined 26 = .ok (.getfield 53, 3) := by decide +kernel
theorem d_X_joined_29 : decode b_X_joined 29 = .ok (.lxor, 1) := by decide +kernel
theorem d_X_joined_30 : decode b_X_joined 30 = .ok (.lstore 6, 2) := by decide +kernel
theorem d_X_joined_32 : decode b_X_joined 32 = .ok (.aload_n 0, 1) := by decide +kernel
theorem d_X_joined_33 : decode b_X_joined 33 = .ok (.getfield 25, 3) := by decide +kernel
theorem d_X_joined_36 : decode b_X_joined 36 = .ok (.aload_n 0, 1) := by decide +kernel
theorem d_X_joined_37 : decode b_X_joined 37 = .ok (.getfield 16, 3) := by decide +kernel
theorem d_X_joined_40 : decode b_X_joined 40 = .ok (.lload 6, 2) := by decide +kernel
theorem d_X_joined_42 : decode b_X_joined 42 = .ok (.ldc2_w 109, 3) := by decide +kernel
theorem d_X_joined_45 : decode b_X_joined 45 = .ok (.iload 5, 2) := by decide +kernel
theorem d_X_joined_47 : decode b_X_joined 47 = .ok (.i2l, 1) := by decide +kernel
theorem d_X_joined_48 : decode b_X_joined 48 = .ok (.lmul, 1) := by decide +kernel
theorem d_X_joined_49 : decode b_X_joined 49 = .ok (.invokevirtual 111, 3) := by decide +kernel
theorem d_X_joined_52 : decode b_X_joined 52 = .ok (.lstore 8, 2) := by decide +kernel
theorem d_X_joined_54 : decode b_X_joined 54 = .ok (.aload_n 0, 1) := by decide +kernel
theorem d_X_joined_55 : decode b_X_joined 55 = .ok (.getfield 16, 3) := by decide +kernel
theorem d_X_joined_58 : decode b_X_joined 58 = .ok (.aload_n 0, 1) := by decide +kernel
theorem d_X_joined_59 : decode b_X_joined 59 = .ok (.getfield 16, 3) := by decide +kernel
theorem d_X_joined_62 : decode b_X_joined 62 = .ok (.lload_n 3, 1) := by decide +kernel
theorem d_X_joined_63 : decode b_X_joined 63 = .ok (.invokevirtual 103, 3) := by decide +kernel
theorem d_X_joined_66 : decode b_X_joined 66 = .ok (.aload_n 0, 1) := by decide +kernel
theorem d_X_joined_67 : decode b_X_joined 67 = .ok (.getfield 16, 3) := by decide +kernel
theorem d_X_joined_70 : decode b_X_joined 70 = .ok (.lload 8, 2) := by decide +kernel
theorem d_X_joined_72 : decode b_X_joined 72 = .ok (.invokevirtual 57, 3) := by decide +kernel
theorem d_X_joined_75 : decode b_X_joined 75 = .ok (.lxor, 1) := by decide +kernel
theorem d_X_joined_76 : decode b_X_joined 76 = .ok (.invokevirtual 65, 3) := by decide +kernel
theorem d_X_joined_79 : decode b_X_joined 79 = .ok (.lreturn, 1) := by decide +kernel
theorem d_X_entry_0 : decode b_X_entry 0 = .ok (.iload_n 1, 1) := by decide +kernel
theorem d_X_entry_1 : decode b_X_entry 1 = .ok (.iconst 0, 1) := by decide +kernel
theorem d_X_entry_2 : decode b_X_entry 2 = .ok (.bipush 7, 2) := by decide +kernel
theorem d_X_entry_4 : decode b_X_entry 4 = .ok (.invokestatic 37, 3) := by decide +kernel
theorem d_X_entry_7 : decode b_X_entry 7 = .ok (.ifCond .eq 39, 3) := by decide +kernel
theorem d_X_entry_10 : decode b_X_entry 10 = .ok (.iload_n 2, 1) := by decide +kernel
theorem d_X_entry_11 : decode b_X_entry 11 = .ok (.iconst 0, 1) := by decide +kernel
theorem d_X_entry_12 : decode b_X_entry 12 = .ok (.sipush 255, 3) := by decide +kernel
theorem d_X_entry_15 : decode b_X_entry 15 = .ok (.invokestatic 37, 3) := by decide +kernel
theorem d_X_entry_18 : decode b_X_entry 18 = .ok (.ifCond .eq 28, 3) := by decide +kernel
theorem d_X_entry_21 : decode b_X_entry 21 = .ok (.aload_n 0, 1) := by decide +kernel
theorem d_X_entry_22 : decode b_X_entry 22 = .ok (.getfield 16, 3) := by decide +kernel
theorem d_X_entry_25 : decode b_X_entry 25 = .ok (.aload_n 0, 1) := by decide +kernel
theorem d_X_entry_26 : decode b_X_entry 26 = .ok (.getfield 16, 3) := by decide +kernel
theorem d_X_entry_29 : decode b_X_entry 29 = .ok (.getfield 115, 3) := by decide +kernel
theorem d_X_entry_32 : decode b_X_entry 32 = .ok (.sipush 256, 3) := by decide +kernel
theorem d_X_entry_35 : decode b_X_entry 35 = .ok (.iload_n 1, 1) := by decide +kernel
theorem d_X_entry_36 : decode b_X_entry 36 = .ok (.imul, 1) := by decide +kernel
theorem d_X_entry_37 : decode b_X_entry 37 = .ok (.iload_n 2, 1) := by decide +kernel
theorem d_X_entry_38 : decode b_X_entry 38 = .ok (.iadd, 1) := by decide +kernel
theorem d_X_entry_39 : decode b_X_entry 39 = .ok (.laload, 1) := by decide +kernel
theorem d_X_entry_40 : decode b_X_entry 40 = .ok (.invokevirtual 106, 3) := by decide +kernel
theorem d_X_entry_43 : decode b_X_entry 43 = .ok (.goto 4, 3) := by decide +kernel
theorem d_X_entry_46 : decode b_X_entry 46 = .ok (.lconst 0, 1) := by decide +kernel
theorem d_X_entry_47 : decode b_X_entry 47 = .ok (.lreturn, 1) := by decide +kernel
theorem d_X_zeros_0 : decode b_X_zeros 0 = .ok (.iload_n 3, 1) := by decide +kernel
theorem d_X_zeros_1 : decode b_X_zeros 1 = .ok (.iconst 0, 1) := by decide +kernel
theorem d_X_zeros_2 : decode b_X_zeros 2 = .ok (.ldc 119, 2) := by decide +kernel
theorem d_X_zeros_4 : decode b_X_zeros 4 = .ok (.invokestatic 37, 3) := by decide +kernel
theorem d_X_zeros_7 : decode b_X_zeros 7 = .ok (.ifCond .eq 20, 3) := by decide +kernel
theorem d_X_zeros_10 : decode b_X_zeros 10 = .ok (.aload_n 0, 1) := by decide +kernel
theorem d_X_zeros_11 : decode b_X_zeros 11 = .ok (.getfield 25, 3) := by decide +kernel
theorem d_X_zeros_14 : decode b_X_zeros 14 = .ok (.aload_n 0, 1) := by decide +kernel
theorem d_X_zeros_15 : decode b_X_zeros 15 = .ok (.getfield 16, 3) := by decide +kernel
theorem d_X_zeros_18 : decode b_X_zeros 18 = .ok (.lload_n 1, 1) := by decide +kernel
theorem d_X_zeros_19 : decode b_X_zeros 19 = .ok (.iload_n 3, 1) := by decide +kernel
theorem d_X_zeros_20 : decode b_X_zeros 20 = .ok (.i2l, 1) := by decide +kernel
theorem d_X_zeros_21 : decode b_X_zeros 21 = .ok (.invokevirtual 111, 3) := by decide +kernel
theorem d_X_zeros_24 : decode b_X_zeros 24 = .ok (.goto 4, 3) := by decide +kernel
theorem d_X_zeros_27 : decode b_X_zeros 27 = .ok (.lconst 0, 1) := by decide +kernel
theorem d_X_zeros_28 : decode b_X_zeros 28 = .ok (.lreturn, 1) := by decide +kernel
theorem d_X_round_0 : decode b_X_round 0 = .ok (.aload_n 0, 1) := by decide +kernel
theorem d_X_round_1 : decode b_X_round 1 = .ok (.getfield 16, 3) := by decide +kernel
theorem d_X_round_4 : decode b_X_round 4 = .ok (.lconst 1, 1) := by decide +kernel
theorem d_X_round_5 : decode b_X_round 5 = .ok (.invokevirtual 57, 3) := by decide +kernel
theorem d_X_round_8 : decode b_X_round 8 = .ok (.lstore_n 1, 1) := by decide +kernel
theorem d_X_round_9 : decode b_X_round 9 = .ok (.lload_n 1, 1) := by decide +kernel
theorem d_X_round_10 : decode b_X_round 10 = .ok (.lstore_n 3, 1) := by decide +kernel
theorem d_X_round_11 : decode b_X_round 11 = .ok (.iconst 1, 1) := by decide +kernel
theorem d_X_round_12 : decode b_X_round 12 = .ok (.istore 5, 2) := by decide +kernel
theorem d_X_round_14 : decode b_X_round 14 = .ok (.iload 5, 2) := by decide +kernel
theorem d_X_round_16 : decode b_X_round 16 = .ok (.sipush 4096, 3) := by decide +kernel
theorem d_X_round_19 : decode b_X_round 19 = .ok (.if_icmp .gt 29, 3) := by decide +kernel
theorem d_X_round_22 : decode b_X_round 22 = .ok (.aload_n 0, 1) := by decide +kernel
theorem d_X_round_23 : decode b_X_round 23 = .ok (.getfield 16, 3) := by decide +kernel
theorem d_X_round_26 : decode b_X_round 26 = .ok (.lload_n 1, 1) := by decide +kernel
theorem d_X_round_27 : decode b_X_round 27 = .ok (.iconst 0, 1) := by decide +kernel
theorem d_X_round_28 : decode b_X_round 28 = .ok (.iconst 1, 1) := by decide +kernel
theorem d_X_round_29 : decode b_X_round 29 = .ok (.invokevirtual 61, 3) := by decide +kernel
theorem d_X_round_32 : decode b_X_round 32 = .ok (.lstore_n 1, 1) := by decide +kernel
theorem d_X_round_33 : decode b_X_round 33 = .ok (.lload_n 1, 1) := by decide +kernel
theorem d_X_round_34 : decode b_X_round 34 = .ok (.lload_n 3, 1) := by decide +kernel
theorem d_X_round_35 : decode b_X_round 35 = .ok (.lcmp, 1) := by decide +kernel
theorem d_X_round_36 : decode b_X_round 36 = .ok (.ifCond .ne 6, 3) := by decide +kernel
theorem d_X_round_39 : decode b_X_round 39 = .ok (.iload 5, 2) := by decide +kernel
theorem d_X_round_41 : decode b_X_round 41 = .ok (.ireturn, 1) := by decide +kernel
theorem d_X_round_42 : decode b_X_round 42 = .ok (.iinc 5 1, 3) := by decide +kernel
theorem d_X_round_45 : decode b_X_round 45 = .ok (.goto (-31), 3) := by decide +kernel
theorem d_X_round_48 : decode b_X_round 48 = .ok (.iconst (-1), 1) := by decide +kernel
theorem d_X_round_49 : decode b_X_round 49 = .ok (.ireturn, 1) := by decide +kernel
theorem d_X_holds_0 : decode b_X_holds 0 = .ok (.aload_n 0, 1) := by decide +kernel
theorem d_X_holds_1 : decode b_X_holds 1 = .ok (.iconst 0, 1) := by decide +kernel
theorem d_X_holds_2 : decode b_X_holds 2 = .ok (.invokevirtual 120, 3) := by decide +kernel
theorem d_X_holds_5 : decode b_X_holds 5 = .ok (.lstore_n 1, 1) := by decide +kernel
theorem d_X_holds_6 : decode b_X_holds 6 = .ok (.aload_n 0, 1) := by decide +kernel
theorem d_X_holds_7 : decode b_X_holds 7 = .ok (.iconst 1, 1) := by decide +kernel
theorem d_X_holds_8 : decode b_X_holds 8 = .ok (.invokevirtual 120, 3) := by decide +kernel
theorem d_X_holds_11 : decode b_X_holds 11 = .ok (.lload_n 1, 1) := by decide +kernel
theorem d_X_holds_12 : decode b_X_holds 12 = .ok (.lcmp, 1) := by decide +kernel
theorem d_X_holds_13 : decode b_X_holds 13 = .ok (.ifCond .ne 27, 3) := by decide +kernel
theorem d_X_holds_16 : decode b_X_holds 16 = .ok (.aload_n 0, 1) := by decide +kernel
theorem d_X_holds_17 : decode b_X_holds 17 = .ok (.iconst 2, 1) := by decide +kernel
theorem d_X_holds_18 : decode b_X_holds 18 = .ok (.invokevirtual 120, 3) := by decide +kernel
theorem d_X_holds_21 : decode b_X_holds 21 = .ok (.lload_n 1, 1) := by decide +kernel
theorem d_X_holds_22 : decode b_X_holds 22 = .ok (.lcmp, 1) := by decide +kernel
theorem d_X_holds_23 : decode b_X_holds 23 = .ok (.ifCond .ne 17, 3) := by decide +kernel
theorem d_X_holds_26 : decode b_X_holds 26 = .ok (.aload_n 0, 1) := by decide +kernel
theorem d_X_holds_27 : decode b_X_holds 27 = .ok (.iconst 3, 1) := by decide +kernel
theorem d_X_holds_28 : decode b_X_holds 28 = .ok (.invokevirtual 120, 3) := by decide +kernel
theorem d_X_holds_31 : decode b_X_holds 31 = .ok (.lload_n 1, 1) := by decide +kernel
theorem d_X_holds_32 : decode b_X_holds 32 = .ok (.lcmp, 1) := by decide +kernel
theorem d_X_holds_33 : decode b_X_holds 33 = .ok (.ifCond .ne 7, 3) := by decide +kernel
theorem d_X_holds_36 : decode b_X_holds 36 = .ok (.iconst 1, 1) := by decide +kernel
theorem d_X_holds_37 : decode b_X_holds 37 = .ok (.goto 4, 3) := by decide +kernel
theorem d_X_holds_40 : decode b_X_holds 40 = .ok (.iconst 0, 1) := by decide +kernel
theorem d_X_holds_41 : decode b_X_holds 41 = .ok (.istore_n 3, 1) := by decide +kernel
theorem d_X_holds_42 : decode b_X_holds 42 = .ok (.iconst 0, 1) := by decide +kernel
theorem d_X_holds_43 : decode b_X_holds 43 = .ok (.istore 4, 2) := by decide +kernel
theorem d_X_holds_45 : decode b_X_holds 45 = .ok (.iload 4, 2) := by decide +kernel
theorem d_X_holds_47 : decode b_X_holds 47 = .ok (.aload_n 0, 1) := by decide +kernel
theorem d_X_holds_48 : decode b_X_holds 48 = .ok (.getfield 41, 3) := by decide +kernel
theorem d_X_holds_51 : decode b_X_holds 51 = .ok (.if_icmp .gt 59, 3) := by decide +kernel
theorem d_X_holds_54 : decode b_X_holds 54 = .ok (.iload 4, 2) := by decide +kernel
theorem d_X_holds_56 : decode b_X_holds 56 = .ok (.bipush 70, 2) := by decide +kernel
theorem d_X_holds_58 : decode b_X_holds 58 = .ok (.if_icmp .gt 52, 3) := by decide +kernel
theorem d_X_holds_61 : decode b_X_holds 61 = .ok (.iload_n 3, 1) := by decide +kernel
theorem d_X_holds_62 : decode b_X_holds 62 = .ok (.ifCond .eq 48, 3) := by decide +kernel
theorem d_X_holds_65 : decode b_X_holds 65 = .ok (.aload_n 0, 1) := by decide +kernel
theorem d_X_holds_66 : decode b_X_holds 66 = .ok (.aload_n 0, 1) := by decide +kernel
theorem d_X_holds_67 : decode b_X_holds 67 = .ok (.iconst 0, 1) := by decide +kernel
theorem d_X_holds_68 : decode b_X_holds 68 = .ok (.iload 4, 2) := by decide +kernel
theorem d_X_holds_70 : decode b_X_holds 70 = .ok (.invokevirtual 123, 3) := by decide +kernel
theorem d_X_holds_73 : decode b_X_holds 73 = .ok (.aload_n 0, 1) := by decide +kernel
theorem d_X_holds_74 : decode b_X_holds 74 = .ok (.iload 4, 2) := by decide +kernel
theorem d_X_holds_76 : decode b_X_holds 76 = .ok (.aload_n 0, 1) := by decide +kernel
theorem d_X_holds_77 : decode b_X_holds 77 = .ok (.getfield 41, 3) := by decide +kernel
theorem d_X_holds_80 : decode b_X_holds 80 = .ok (.invokevirtual 123, 3) := by decide +kernel
theorem d_X_holds_83 : decode b_X_holds 83 = .ok (.aload_n 0, 1) := by decide +kernel
theorem d_X_holds_84 : decode b_X_holds 84 = .ok (.getfield 41, 3) := by decide +kernel
theorem d_X_holds_87 : decode b_X_holds 87 = .ok (.iload 4, 2) := by decide +kernel
theorem d_X_holds_89 : decode b_X_holds 89 = .ok (.isub, 1) := by decide +kernel
theorem d_X_holds_90 : decode b_X_holds 90 = .ok (.invokevirtual 126, 3) := by decide +kernel
theorem d_X_holds_93 : decode b_X_holds 93 = .ok (.lload_n 1, 1) := by decide +kernel
theorem d_X_holds_94 : decode b_X_holds 94 = .ok (.lcmp, 1) := by decide +kernel
theorem d_X_holds_95 : decode b_X_holds 95 = .ok (.ifCond .ne 7, 3) := by decide +kernel
theorem d_X_holds_98 : decode b_X_holds 98 = .ok (.iconst 1, 1) := by decide +kernel
theorem d_X_holds_99 : decode b_X_holds 99 = .ok (.goto 4, 3) := by decide +kernel
theorem d_X_holds_102 : decode b_X_holds 102 = .ok (.iconst 0, 1) := by decide +kernel
theorem d_X_holds_103 : decode b_X_holds 103 = .ok (.istore_n 3, 1) := by decide +kernel
theorem d_X_holds_104 : decode b_X_holds 104 = .ok (.iinc 4 7, 3) := by decide +kernel
theorem d_X_holds_107 : decode b_X_holds 107 = .ok (.goto (-62), 3) := by decide +kernel
theorem d_X_holds_110 : decode b_X_holds 110 = .ok (.iload_n 3, 1) := by decide +kernel
theorem d_X_holds_111 : decode b_X_holds 111 = .ok (.ireturn, 1) := by decide +kernel
theorem d_X_count_0 : decode b_X_count 0 = .ok (.iload_n 1, 1) := by decide +kernel
theorem d_X_count_1 : decode b_X_count 1 = .ok (.tableswitch 76 0 3 #[31, 36, 44, 60], 31) := by decide +kernel
theorem d_X_count_32 : decode b_X_count 32 = .ok (.aload_n 0, 1) := by decide +kernel
theorem d_X_count_33 : decode b_X_count 33 = .ok (.getfield 41, 3) := by decide +kernel
theorem d_X_count_36 : decode b_X_count 36 = .ok (.ireturn, 1) := by decide +kernel
theorem d_X_count_37 : decode b_X_count 37 = .ok (.aload_n 0, 1) := by decide +kernel
theorem d_X_count_38 : decode b_X_count 38 = .ok (.getfield 16, 3) := by decide +kernel
theorem d_X_count_41 : decode b_X_count 41 = .ok (.getfield 80, 3) := by decide +kernel
theorem d_X_count_44 : decode b_X_count 44 = .ok (.ireturn, 1) := by decide +kernel
theorem d_X_count_45 : decode b_X_count 45 = .ok (.aload_n 0, 1) := by decide +kernel
theorem d_X_count_46 : decode b_X_count 46 = .ok (.getfield 16, 3) := by decide +kernel
theorem d_X_count_49 : decode b_X_count 49 = .ok (.getfield 45, 3) := by decide +kernel
theorem d_X_count_52 : decode b_X_count 52 = .ok (.ifCond .eq 7, 3) := by decide +kernel
theorem d_X_count_55 : decode b_X_count 55 = .ok (.iconst 1, 1) := by decide +kernel
theorem d_X_count_56 : decode b_X_count 56 = .ok (.goto 4, 3) := by decide +kernel
theorem d_X_count_59 : decode b_X_count 59 = .ok (.iconst 0, 1) := by decide +kernel
theorem d_X_count_60 : decode b_X_count 60 = .ok (.ireturn, 1) := by decide +kernel
theorem d_X_count_61 : decode b_X_count 61 = .ok (.aload_n 0, 1) := by decide +kernel
theorem d_X_count_62 : decode b_X_count 62 = .ok (.getfield 16, 3) := by decide +kernel
theorem d_X_count_65 : decode b_X_count 65 = .ok (.getfield 130, 3) := by decide +kernel
theorem d_X_count_68 : decode b_X_count 68 = .ok (.ifCond .eq 7, 3) := by decide +kernel
theorem d_X_count_71 : decode b_X_count 71 = .ok (.iconst 1, 1) := by decide +kernel
theorem d_X_count_72 : decode b_X_count 72 = .ok (.goto 4, 3) := by decide +kernel
theorem d_X_count_75 : decode b_X_count 75 = .ok (.iconst 0, 1) := by decide +kernel
theorem d_X_count_76 : decode b_X_count 76 = .ok (.ireturn, 1) := by decide +kernel
theorem d_X_count_77 : decode b_X_count 77 = .ok (.iconst (-1), 1) := by decide +kernel
theorem d_X_count_78 : decode b_X_count 78 = .ok (.ireturn, 1) := by decide +kernel
theorem d_X_told_0 : decode b_X_told 0 = .ok (.iload_n 1, 1) := by decide +kernel
theorem d_X_told_1 : decode b_X_told 1 = .ok (.ifCond .ne 13, 3) := by decide +kernel
theorem d_X_told_4 : decode b_X_told 4 = .ok (.aload_n 0, 1) := by decide +kernel
theorem d_X_told_5 : decode b_X_told 5 = .ok (.getfield 16, 3) := by decide +kernel
theorem d_X_told_8 : decode b_X_told 8 = .ok (.getfield 86, 3) := by decide +kernel
theorem d_X_told_11 : decode b_X_told 11 = .ok (.goto 34, 3) := by decide +kernel
theorem d_X_told_14 : decode b_X_told 14 = .ok (.iload_n 1, 1) := by decide +kernel
theorem d_X_told_15 : decode b_X_told 15 = .ok (.iconst 1, 1) := by decide +kernel
theorem d_X_told_16 : decode b_X_told 16 = .ok (.if_icmp .ne 13, 3) := by decide +kernel
theorem d_X_told_19 : decode b_X_told 19 = .ok (.aload_n 0, 1) := by decide +kernel
theorem d_X_told_20 : decode b_X_told 20 = .ok (.getfield 16, 3) := by decide +kernel
theorem d_X_told_23 : decode b_X_told 23 = .ok (.getfield 53, 3) := by decide +kernel
theorem d_X_told_26 : decode b_X_told 26 = .ok (.goto 19, 3) := by decide +kernel
theorem d_X_told_29 : decode b_X_told 29 = .ok (.iload_n 1, 1) := by decide +kernel
theorem d_X_told_30 : decode b_X_told 30 = .ok (.iconst 2, 1) := by decide +kernel
theorem d_X_told_31 : decode b_X_told 31 = .ok (.if_icmp .ne 13, 3) := by decide +kernel
theorem d_X_told_34 : decode b_X_told 34 = .ok (.aload_n 0, 1) := by decide +kernel
theorem d_X_told_35 : decode b_X_told 35 = .ok (.getfield 16, 3) := by decide +kernel
theorem d_X_told_38 : decode b_X_told 38 = .ok (.getfield 133, 3) := by decide +kernel
theorem d_X_told_41 : decode b_X_told 41 = .ok (.goto 4, 3) := by decide +kernel
theorem d_X_told_44 : decode b_X_told 44 = .ok (.lconst 0, 1) := by decide +kernel
theorem d_X_told_45 : decode b_X_told 45 = .ok (.lreturn, 1) := by decide +kernel
end
section
theorem d_M_init_0 : decode b_M_init 0 = .ok (.aload_n 0, 1) := by decide +kernel
theorem d_M_init_1 : decode b_M_init 1 = .ok (.invokespecial 1, 3) := by decide +kernel
theorem d_M_init_4 : decode b_M_init 4 = .ok (.aload_n 0, 1) := by decide +kernel
theorem d_M_init_5 : decode b_M_init 5 = .ok (.bipush 32, 2) := by decide +kernel
theorem d_M_init_7 : decode b_M_init 7 = .ok (.putfield 7, 3) := by decide +kernel
theorem d_M_init_10 : decode b_M_init 10 = .ok (.aload_n 0, 1) := by decide +kernel
theorem d_M_init_11 : decode b_M_init 11 = .ok (.ldc2_w 13, 3) := by decide +kernel
theorem d_M_init_14 : decode b_M_init 14 = .ok (.putfield 15, 3) := by decide +kernel
theorem d_M_init_17 : decode b_M_init 17 = .ok (.aload_n 0, 1) := by decide +kernel
theorem d_M_init_18 : decode b_M_init 18 = .ok (.ldc2_w 19, 3) := by decide +kernel
theorem d_M_init_21 : decode b_M_init 21 = .ok (.putfield 21, 3) := by decide +kernel
theorem d_M_init_24 : decode b_M_init 24 = .ok (.aload_n 0, 1) := by decide +kernel
theorem d_M_init_25 : decode b_M_init 25 = .ok (.ldc2_w 19, 3) := by decide +kernel
theorem d_M_init_28 : decode b_M_init 28 = .ok (.putfield 24, 3) := by decide +kernel
theorem d_M_init_31 : decode b_M_init 31 = .ok (.aload_n 0, 1) := by decide +kernel
theorem d_M_init_32 : decode b_M_init 32 = .ok (.iconst 1, 1) := by decide +kernel
theorem d_M_init_33 : decode b_M_init 33 = .ok (.putfield 27, 3) := by decide +kernel
theorem d_M_init_36 : decode b_M_init 36 = .ok (.aload_n 0, 1) := by decide +kernel
theorem d_M_init_37 : decode b_M_init 37 = .ok (.iconst 1, 1) := by decide +kernel
theorem d_M_init_38 : decode b_M_init 38 = .ok (.putfield 31, 3) := by decide +kernel
theorem d_M_init_41 : decode b_M_init 41 = .ok (.aload_n 0, 1) := by decide +kernel
theorem d_M_init_42 : decode b_M_init 42 = .ok (.sipush 5000, 3) := by decide +kernel
theorem d_M_init_45 : decode b_M_init 45 = .ok (.newarray .int, 2) := by decide +kernel
theorem d_M_init_47 : decode b_M_init 47 = .ok (.putfield 34, 3) := by decide +kernel
theorem d_M_init_50 : decode b_M_init 50 = .ok (.return_, 1) := by decide +kernel
theorem d_M_kind_0 : decode b_M_kind 0 = .ok (.iload_n 1, 1) := by decide +kernel
theorem d_M_kind_1 : decode b_M_kind 1 = .ok (.iconst 1, 1) := by decide +kernel
theorem d_M_kind_2 : decode b_M_kind 2 = .ok (.if_icmp .lt 9, 3) := by decide +kernel
theorem d_M_kind_5 : decode b_M_kind 5 = .ok (.iload_n 1, 1) := by decide +kernel
theorem d_M_kind_6 : decode b_M_kind 6 = .ok (.bipush 64, 2) := by decide +kernel
theorem d_M_kind_8 : decode b_M_kind 8 = .ok (.if_icmp .le 5, 3) := by decide +kernel
theorem d_M_kind_11 : decode b_M_kind 11 = .ok (.iconst 0, 1) := by decide +kernel
theorem d_M_kind_12 : decode b_M_kind 12 = .ok (.ireturn, 1) := by decide +kernel
theorem d_M_kind_13 : decode b_M_kind 13 = .ok (.aload_n 0, 1) := by decide +kernel
theorem d_M_kind_14 : decode b_M_kind 14 = .ok (.iload_n 1, 1) := by decide +kernel
theorem d_M_kind_15 : decode b_M_kind 15 = .ok (.putfield 7, 3) := by decide +kernel
theorem d_M_kind_18 : decode b_M_kind 18 = .ok (.aload_n 0, 1) := by decide +kernel
theorem d_M_kind_19 : decode b_M_kind 19 = .ok (.aload_n 0, 1) := by decide +kernel
theorem d_M_kind_20 : decode b_M_kind 20 = .ok (.lload_n 2, 1) := by decide +kernel
theorem d_M_kind_21 : decode b_M_kind 21 = .ok (.invokevirtual 42, 3) := by decide +kernel
theorem d_M_kind_24 : decode b_M_kind 24 = .ok (.putfield 15, 3) := by decide +kernel
theorem d_M_kind_27 : decode b_M_kind 27 = .ok (.aload_n 0, 1) := by decide +kernel
theorem d_M_kind_28 : decode b_M_kind 28 = .ok (.aload_n 0, 1) := by decide +kernel
theorem d_M_kind_29 : decode b_M_kind 29 = .ok (.lload 4, 2) := by decide +kernel
theorem d_M_kind_31 : decode b_M_kind 31 = .ok (.invokevirtual 42, 3) := by decide +kernel
theorem d_M_kind_34 : decode b_M_kind 34 = .ok (.putfield 21, 3) := by decide +kernel
theorem d_M_kind_37 : decode b_M_kind 37 = .ok (.aload_n 0, 1) := by decide +kernel
theorem d_M_kind_38 : decode b_M_kind 38 = .ok (.aload_n 0, 1) := by decide +kernel
theorem d_M_kind_39 : decode b_M_kind 39 = .ok (.lload 8, 2) := by decide +kernel
theorem d_M_kind_41 : decode b_M_kind 41 = .ok (.invokevirtual 42, 3) := by decide +kernel
theorem d_M_kind_44 : decode b_M_kind 44 = .ok (.putfield 24, 3) := by decide +kernel
theorem d_M_kind_47 : decode b_M_kind 47 = .ok (.aload_n 0, 1) := by decide +kernel
theorem d_M_kind_48 : decode b_M_kind 48 = .ok (.iload 6, 2) := by decide +kernel
theorem d_M_kind_50 : decode b_M_kind 50 = .ok (.putfield 27, 3) := by decide +kernel
theorem d_M_kind_53 : decode b_M_kind 53 = .ok (.aload_n 0, 1) := by decide +kernel
theorem d_M_kind_54 : decode b_M_kind 54 = .ok (.iload 7, 2) := by decide +kernel
theorem d_M_kind_56 : decode b_M_kind 56 = .ok (.putfield 31, 3) := by decide +kernel
theorem d_M_kind_59 : decode b_M_kind 59 = .ok (.iconst 1, 1) := by decide +kernel
theorem d_M_kind_60 : decode b_M_kind 60 = .ok (.ireturn, 1) := by decide +kernel
theorem d_M_cut_0 : decode b_M_cut 0 = .ok (.lload_n 1, 1) := by decide +kernel
theorem d_M_cut_1 : decode b_M_cut 1 = .ok (.aload_n 0, 1) := by decide +kernel
theorem d_M_cut_2 : decode b_M_cut 2 = .ok (.getfield 7, 3) := by decide +kernel
theorem d_M_cut_5 : decode b_M_cut 5 = .ok (.invokestatic 38, 3) := by decide +kernel
theorem d_M_cut_8 : decode b_M_cut 8 = .ok (.lreturn, 1) := by decide +kernel
theorem d_M_low_0 : decode b_M_low 0 = .ok (.iload_n 2, 1) := by decide +kernel
theorem d_M_low_1 : decode b_M_low 1 = .ok (.bipush 64, 2) := by decide +kernel
theorem d_M_low_3 : decode b_M_low 3 = .ok (.if_icmp .ne 7, 3) := by decide +kernel
theorem d_M_low_6 : decode b_M_low 6 = .ok (.lload_n 0, 1) := by decide +kernel
theorem d_M_low_7 : decode b_M_low 7 = .ok (.goto 10, 3) := by decide +kernel
theorem d_M_low_10 : decode b_M_low 10 = .ok (.lload_n 0, 1) := by decide +kernel
theorem d_M_low_11 : decode b_M_low 11 = .ok (.lconst 1, 1) := by decide +kernel
theorem d_M_low_12 : decode b_M_low 12 = .ok (.iload_n 2, 1) := by decide +kernel
theorem d_M_low_13 : decode b_M_low 13 = .ok (.lshl, 1) := by decide +kernel
theorem d_M_low_14 : decode b_M_low 14 = .ok (.lconst 1, 1) := by decide +kernel
theorem d_M_low_15 : decode b_M_low 15 = .ok (.lsub, 1) := by decide +kernel
theorem d_M_low_16 : decode b_M_low 16 = .ok (.land, 1) := by decide +kernel
theorem d_M_low_17 : decode b_M_low 17 = .ok (.lreturn, 1) := by decide +kernel
theorem d_M_feed_0 : decode b_M_feed 0 = .ok (.iload_n 1, 1) := by decide +kernel
theorem d_M_feed_1 : decode b_M_feed 1 = .ok (.ifCond .lt 27, 3) := by decide +kernel
theorem d_M_feed_4 : decode b_M_feed 4 = .ok (.iload_n 1, 1) := by decide +kernel
theorem d_M_feed_5 : decode b_M_feed 5 = .ok (.sipush 255, 3) := by decide +kernel
theorem d_M_feed_8 : decode b_M_feed 8 = .ok (.if_icmp .gt 20, 3) := by decide +kernel
theorem d_M_feed_11 : decode b_M_feed 11 = .ok (.iload_n 2, 1) := by decide +kernel
theorem d_M_feed_12 : decode b_M_feed 12 = .ok (.iconst 1, 1) := by decide +kernel
theorem d_M_feed_13 : decode b_M_feed 13 = .ok (.if_icmp .lt 15, 3) := by decide +kernel
theorem d_M_feed_16 : decode b_M_feed 16 = .ok (.iload_n 2, 1) := by decide +kernel
theorem d_M_feed_17 : decode b_M_feed 17 = .ok (.sipush 5000, 3) := by decide +kernel
theorem d_M_feed_20 : decode b_M_feed 20 = .ok (.aload_n 0, 1) := by decide +kernel
theorem d_M_feed_21 : decode b_M_feed 21 = .ok (.getfield 46, 3) := by decide +kernel
theorem d_M_feed_24 : decode b_M_feed 24 = .ok (.isub, 1) := by decide +kernel
theorem d_M_feed_25 : decode b_M_feed 25 = .ok (.if_icmp .le 5, 3) := by decide +kernel
theorem d_M_feed_28 : decode b_M_feed 28 = .ok (.iconst 0, 1) := by decide +kernel
theorem d_M_feed_29 : decode b_M_feed 29 = .ok (.ireturn, 1) := by decide +kernel
theorem d_M_feed_30 : decode b_M_feed 30 = .ok (.iconst 0, 1) := by decide +kernel
theorem d_M_feed_31 : decode b_M_feed 31 = .ok (.istore_n 3, 1) := by decide +kernel
theorem d_M_feed_32 : decode b_M_feed 32 = .ok (.iload_n 3, 1) := by decide +kernel
theorem d_M_feed_33 : decode b_M_feed 33 = .ok (.iload_n 2, 1) := by decide +kernel
theorem d_M_feed_34 : decode b_M_feed 34 = .ok (.if_icmp .ge 29, 3) := by decide +kernel
theorem d_M_feed_37 : decode b_M_feed 37 = .ok (.aload_n 0, 1) := by decide +kernel
theorem d_M_feed_38 : decode b_M_feed 38 = .ok (.getfield 34, 3) := by decide +kernel
theorem d_M_feed_41 : decode b_M_feed 41 = .ok (.aload_n 0, 1) := by decide +kernel
theorem d_M_feed_42 : decode b_M_feed 42 = .ok (.getfield 46, 3) := by decide +kernel
theorem d_M_feed_45 : decode b_M_feed 45 = .ok (.iload_n 1, 1) := by decide +kernel
theorem d_M_feed_46 : decode b_M_feed 46 = .ok (.iastore, 1) := by decide +kernel
theorem d_M_feed_47 : decode b_M_feed 47 = .ok (.aload_n 0, 1) := by decide +kernel
theorem d_M_feed_48 : decode b_M_feed 48 = .ok (.dup, 1) := by decide +kernel
theorem d_M_feed_49 : decode b_M_feed 49 = .ok (.getfield 46, 3) := by decide +kernel
theorem d_M_feed_52 : decode b_M_feed 52 = .ok (.iconst 1, 1) := by decide +kernel
theorem d_M_feed_53 : decode b_M_feed 53 = .ok (.iadd, 1) := by decide +kernel
theorem d_M_feed_54 : decode b_M_feed 54 = .ok (.putfield 46, 3) := by decide +kernel
theorem d_M_feed_57 : decode b_M_feed 57 = .ok (.iinc 3 1, 3) := by decide +kernel
theorem d_M_feed_60 : decode b_M_feed 60 = .ok (.goto (-28), 3) := by decide +kernel
theorem d_M_feed_63 : decode b_M_feed 63 = .ok (.iconst 1, 1) := by decide +kernel
theorem d_M_feed_64 : decode b_M_feed 64 = .ok (.ireturn, 1) := by decide +kernel
theorem d_M_clear_0 : decode b_M_clear 0 = .ok (.aload_n 0, 1) := by decide +kernel
theorem d_M_clear_1 : decode b_M_clear 1 = .ok (.iconst 0, 1) := by decide +kernel
theorem d_M_clear_2 : decode b_M_clear 2 = .ok (.putfield 46, 3) := by decide +kernel
theorem d_M_clear_5 : decode b_M_clear 5 = .ok (.return_, 1) := by decide +kernel
theorem d_M_flip_0 : decode b_M_flip 0 = .ok (.iload_n 1, 1) := by decide +kernel
theorem d_M_flip_1 : decode b_M_flip 1 = .ok (.ifCond .lt 14, 3) := by decide +kernel
theorem d_M_flip_4 : decode b_M_flip 4 = .ok (.iload_n 1, 1) := by decide +kernel
theorem d_M_flip_5 : decode b_M_flip 5 = .ok (.bipush 8, 2) := by decide +kernel
theorem d_M_flip_7 : decode b_M_flip 7 = .ok (.aload_n 0, 1) := by decide +kernel
theorem d_M_flip_8 : decode b_M_flip 8 = .ok (.getfield 46, 3) := by decide +kernel
theorem d_M_flip_11 : decode b_M_flip 11 = .ok (.imul, 1) := by decide +kernel
theorem d_M_flip_12 : decode b_M_flip 12 = .ok (.if_icmp .lt 5, 3) := by decide +kernel
theorem d_M_flip_15 : decode b_M_flip 15 = .ok (.iconst 0, 1) := by decide +kernel
theorem d_M_flip_16 : decode b_M_flip 16 = .ok (.ireturn, 1) := by decide +kernel
theorem d_M_flip_17 : decode b_M_flip 17 = .ok (.aload_n 0, 1) := by decide +kernel
theorem d_M_flip_18 : decode b_M_flip 18 = .ok (.getfield 34, 3) := by decide +kernel
theorem d_M_flip_21 : decode b_M_flip 21 = .ok (.iload_n 1, 1) := by decide +kernel
theorem d_M_flip_22 : decode b_M_flip 22 = .ok (.bipush 8, 2) := by decide +kernel
theorem d_M_flip_24 : decode b_M_flip 24 = .ok (.idiv, 1) := by decide +kernel
theorem d_M_flip_25 : decode b_M_flip 25 = .ok (.dup2, 1) := by decide +kernel
theorem d_M_flip_26 : decode b_M_flip 26 = .ok (.iaload, 1) := by decide +kernel
theorem d_M_flip_27 : decode b_M_flip 27 = .ok (.aload_n 0, 1) := by decide +kernel
theorem d_M_flip_28 : decode b_M_flip 28 = .ok (.getfield 27, 3) := by decide +kernel
theorem d_M_flip_31 : decode b_M_flip 31 = .ok (.ifCond .eq 12, 3) := by decide +kernel
theorem d_M_flip_34 : decode b_M_flip 34 = .ok (.iconst 1, 1) := by decide +kernel
theorem d_M_flip_35 : decode b_M_flip 35 = .ok (.iload_n 1, 1) := by decide +kernel
theorem d_M_flip_36 : decode b_M_flip 36 = .ok (.bipush 8, 2) := by decide +kernel
theorem d_M_flip_38 : decode b_M_flip 38 = .ok (.irem, 1) := by decide +kernel
theorem d_M_flip_39 : decode b_M_flip 39 = .ok (.ishl, 1) := by decide +kernel
theorem d_M_flip_40 : decode b_M_flip 40 = .ok (.goto 11, 3) := by decide +kernel
theorem d_M_flip_43 : decode b_M_flip 43 = .ok (.sipush 128, 3) := by decide +kernel
theorem d_M_flip_46 : decode b_M_flip 46 = .ok (.iload_n 1, 1) := by decide +kernel
theorem d_M_flip_47 : decode b_M_flip 47 = .ok (.bipush 8, 2) := by decide +kernel
theorem d_M_flip_49 : decode b_M_flip 49 = .ok (.irem, 1) := by decide +kernel
theorem d_M_flip_50 : decode b_M_flip 50 = .ok (.ishr, 1) := by decide +kernel
theorem d_M_flip_51 : decode b_M_flip 51 = .ok (.ixor, 1) := by decide +kernel
theorem d_M_flip_52 : decode b_M_flip 52 = .ok (.iastore, 1) := by decide +kernel
theorem d_M_flip_53 : decode b_M_flip 53 = .ok (.iconst 1, 1) := by decide +kernel
theorem d_M_flip_54 : decode b_M_flip 54 = .ok (.ireturn, 1) := by decide +kernel
theorem d_M_check_0 : decode b_M_check 0 = .ok (.iload_n 1, 1) := by decide +kernel
theorem d_M_check_1 : decode b_M_check 1 = .ok (.ifCond .lt 8, 3) := by decide +kernel
theorem d_M_check_4 : decode b_M_check 4 = .ok (.iload_n 1, 1) := by decide +kernel
theorem d_M_check_5 : decode b_M_check 5 = .ok (.iconst 3, 1) := by decide +kernel
theorem d_M_check_6 : decode b_M_check 6 = .ok (.if_icmp .le 7, 3) := by decide +kernel
theorem d_M_check_9 : decode b_M_check 9 = .ok (.lconst 0, 1) := by decide +kernel
theorem d_M_check_10 : decode b_M_check 10 = .ok (.goto 12, 3) := by decide +kernel
theorem d_M_check_13 : decode b_M_check 13 = .ok (.aload_n 0, 1) := by decide +kernel
theorem d_M_check_14 : decode b_M_check 14 = .ok (.iconst 0, 1) := by decide +kernel
theorem d_M_check_15 : decode b_M_check 15 = .ok (.aload_n 0, 1) := by decide +kernel
theorem d_M_check_16 : decode b_M_check 16 = .ok (.getfield 46, 3) := by decide +kernel
theorem d_M_check_19 : decode b_M_check 19 = .ok (.invokevirtual 61, 3) := by decide +kernel
theorem d_M_check_22 : decode b_M_check 22 = .ok (.lreturn, 1) := by decide +kernel
theorem d_M_over_0 : decode b_M_over 0 = .ok (.aload_n 0, 1) := by decide +kernel
theorem d_M_over_1 : decode b_M_over 1 = .ok (.getfield 21, 3) := by decide +kernel
theorem d_M_over_4 : decode b_M_over 4 = .ok (.lstore_n 3, 1) := by decide +kernel
theorem d_M_over_5 : decode b_M_over 5 = .ok (.iload_n 1, 1) := by decide +kernel
theorem d_M_over_6 : decode b_M_over 6 = .ok (.istore 5, 2) := by decide +kernel
theorem d_M_over_8 : decode b_M_over 8 = .ok (.iload 5, 2) := by decide +kernel
theorem d_M_over_10 : decode b_M_over 10 = .ok (.iload_n 2, 1) := by decide +kernel
theorem d_M_over_11 : decode b_M_over 11 = .ok (.if_icmp .ge 22, 3) := by decide +kernel
theorem d_M_over_14 : decode b_M_over 14 = .ok (.aload_n 0, 1) := by decide +kernel
theorem d_M_over_15 : decode b_M_over 15 = .ok (.lload_n 3, 1) := by decide +kernel
theorem d_M_over_16 : decode b_M_over 16 = .ok (.aload_n 0, 1) := by decide +kernel
theorem d_M_over_17 : decode b_M_over 17 = .ok (.getfield 34, 3) := by decide +kernel
theorem d_M_over_20 : decode b_M_over 20 = .ok (.iload 5, 2) := by decide +kernel
theorem d_M_over_22 : decode b_M_over 22 = .ok (.iaload, 1) := by decide +kernel
theorem d_M_over_23 : decode b_M_over 23 = .ok (.invokevirtual 55, 3) := by decide +kernel
theorem d_M_over_26 : decode b_M_over 26 = .ok (.lstore_n 3, 1) := by decide +kernel
theorem d_M_over_27 : decode b_M_over 27 = .ok (.iinc 5 1, 3) := by decide +kernel
theorem d_M_over_30 : decode b_M_over 30 = .ok (.goto (-22), 3) := by decide +kernel
theorem d_M_over_33 : decode b_M_over 33 = .ok (.aload_n 0, 1) := by decide +kernel
theorem d_M_over_34 : decode b_M_over 34 = .ok (.lload_n 3, 1) := by decide +kernel
theorem d_M_over_35 : decode b_M_over 35 = .ok (.invokevirtual 58, 3) := by decide +kernel
theorem d_M_over_38 : decode b_M_over 38 = .ok (.lreturn, 1) := by decide +kernel
theorem d_M_oneByte_0 : decode b_M_oneByte 0 = .ok (.lload_n 1, 1) := by decide +kernel
theorem d_M_oneByte_1 : decode b_M_oneByte 1 = .ok (.lstore 4, 2) := by decide +kernel
theorem d_M_oneByte_3 : decode b_M_oneByte 3 = .ok (.iconst 0, 1) := by decide +kernel
theorem d_M_oneByte_4 : decode b_M_oneByte 4 = .ok (.istore 6, 2) := by decide +kernel
theorem d_M_oneByte_6 : decode b_M_oneByte 6 = .ok (.iload 6, 2) := by decide +kernel
theorem d_M_oneByte_8 : decode b_M_oneByte 8 = .ok (.bipush 8, 2) := by decide +kernel
theorem d_M_oneByte_10 : decode b_M_oneByte 10 = .ok (.if_icmp .ge 42, 3) := by decide +kernel
theorem d_M_oneByte_13 : decode b_M_oneByte 13 = .ok (.aload_n 0, 1) := by decide +kernel
theorem d_M_oneByte_14 : decode b_M_oneByte 14 = .ok (.lload 4, 2) := by decide +kernel
theorem d_M_oneByte_16 : decode b_M_oneByte 16 = .ok (.aload_n 0, 1) := by decide +kernel
theorem d_M_oneByte_17 : decode b_M_oneByte 17 = .ok (.getfield 27, 3) := by decide +kernel
theorem d_M_oneByte_20 : decode b_M_oneByte 20 = .ok (.ifCond .eq 12, 3) := by decide +kernel
theorem d_M_oneByte_23 : decode b_M_oneByte 23 = .ok (.iload_n 3, 1) := by decide +kernel
theorem d_M_oneByte_24 : decode b_M_oneByte 24 = .ok (.iload 6, 2) := by decide +kernel
theorem d_M_oneByte_26 : decode b_M_oneByte 26 = .ok (.ishr, 1) := by decide +kernel
theorem d_M_oneByte_27 : decode b_M_oneByte 27 = .ok (.iconst 1, 1) := by decide +kernel
theorem d_M_oneByte_28 : decode b_M_oneByte 28 = .ok (.iand, 1) := by decide +kernel
theorem d_M_oneByte_29 : decode b_M_oneByte 29 = .ok (.goto 12, 3) := by decide +kernel
theorem d_M_oneByte_32 : decode b_M_oneByte 32 = .ok (.iload_n 3, 1) := by decide +kernel
theorem d_M_oneByte_33 : decode b_M_oneByte 33 = .ok (.bipush 7, 2) := by decide +kernel
theorem d_M_oneByte_35 : decode b_M_oneByte 35 = .ok (.iload 6, 2) := by decide +kernel
theorem d_M_oneByte_37 : decode b_M_oneByte 37 = .ok (.isub, 1) := by decide +kernel
theorem d_M_oneByte_38 : decode b_M_oneByte 38 = .ok (.ishr, 1) := by decide +kernel
theorem d_M_oneByte_39 : decode b_M_oneByte 39 = .ok (.iconst 1, 1) := by decide +kernel
theorem d_M_oneByte_40 : decode b_M_oneByte 40 = .ok (.iand, 1) := by decide +kernel
theorem d_M_oneByte_41 : decode b_M_oneByte 41 = .ok (.invokevirtual 49, 3) := by decide +kernel
theorem d_M_oneByte_44 : decode b_M_oneByte 44 = .ok (.lstore 4, 2) := by decide +kernel
theorem d_M_oneByte_46 : decode b_M_oneByte 46 = .ok (.iinc 6 1, 3) := by decide +kernel
theorem d_M_oneByte_49 : decode b_M_oneByte 49 = .ok (.goto (-43), 3) := by decide +kernel
theorem d_M_oneByte_52 : decode b_M_oneByte 52 = .ok (.lload 4, 2) := by decide +kernel
theorem d_M_oneByte_54 : decode b_M_oneByte 54 = .ok (.lreturn, 1) := by decide +kernel
theorem d_M_bit_0 : decode b_M_bit 0 = .ok (.lload_n 1, 1) := by decide +kernel
theorem d_M_bit_1 : decode b_M_bit 1 = .ok (.aload_n 0, 1) := by decide +kernel
theorem d_M_bit_2 : decode b_M_bit 2 = .ok (.getfield 7, 3) := by decide +kernel
theorem d_M_bit_5 : decode b_M_bit 5 = .ok (.iconst 1, 1) := by decide +kernel
theorem d_M_bit_6 : decode b_M_bit 6 = .ok (.isub, 1) := by decide +kernel
theorem d_M_bit_7 : decode b_M_bit 7 = .ok (.lushr, 1) := by decide +kernel
theorem d_M_bit_8 : decode b_M_bit 8 = .ok (.lconst 1, 1) := by decide +kernel
theorem d_M_bit_9 : decode b_M_bit 9 = .ok (.land, 1) := by decide +kernel
theorem d_M_bit_10 : decode b_M_bit 10 = .ok (.lconst 1, 1) := by decide +kernel
theorem d_M_bit_11 : decode b_M_bit 11 = .ok (.lcmp, 1) := by decide +kernel
theorem d_M_bit_12 : decode b_M_bit 12 = .ok (.ifCond .ne 7, 3) := by decide +kernel
theorem d_M_bit_15 : decode b_M_bit 15 = .ok (.iconst 1, 1) := by decide +kernel
theorem d_M_bit_16 : decode b_M_bit 16 = .ok (.goto 4, 3) := by decide +kernel
theorem d_M_bit_19 : decode b_M_bit 19 = .ok (.iconst 0, 1) := by decide +kernel
theorem d_M_bit_20 : decode b_M_bit 20 = .ok (.istore 4, 2) := by decide +kernel
theorem d_M_bit_22 : decode b_M_bit 22 = .ok (.aload_n 0, 1) := by decide +kernel
theorem d_M_bit_23 : decode b_M_bit 23 = .ok (.lload_n 1, 1) := by decide +kernel
theorem d_M_bit_24 : decode b_M_bit 24 = .ok (.iconst 1, 1) := by decide +kernel
theorem d_M_bit_25 : decode b_M_bit 25 = .ok (.lshl, 1) := by decide +kernel
theorem d_M_bit_26 : decode b_M_bit 26 = .ok (.invokevirtual 42, 3) := by decide +kernel
theorem d_M_bit_29 : decode b_M_bit 29 = .ok (.lstore 5, 2) := by decide +kernel
theorem d_M_bit_31 : decode b_M_bit 31 = .ok (.iload 4, 2) := by decide +kernel
theorem d_M_bit_33 : decode b_M_bit 33 = .ok (.iload_n 3, 1) := by decide +kernel
theorem d_M_bit_34 : decode b_M_bit 34 = .ok (.iconst 1, 1) := by decide +kernel
theorem d_M_bit_35 : decode b_M_bit 35 = .ok (.if_icmp .ne 7, 3) := by decide +kernel
theorem d_M_bit_38 : decode b_M_bit 38 = .ok (.iconst 1, 1) := by decide +kernel
theorem d_M_bit_39 : decode b_M_bit 39 = .ok (.goto 4, 3) := by decide +kernel
theorem d_M_bit_42 : decode b_M_bit 42 = .ok (.iconst 0, 1) := by decide +kernel
theorem d_M_bit_43 : decode b_M_bit 43 = .ok (.if_icmp .eq 13, 3) := by decide +kernel
theorem d_M_bit_46 : decode b_M_bit 46 = .ok (.lload 5, 2) := by decide +kernel
theorem d_M_bit_48 : decode b_M_bit 48 = .ok (.aload_n 0, 1) := by decide +kernel
theorem d_M_bit_49 : decode b_M_bit 49 = .ok (.getfield 15, 3) := by decide +kernel
theorem d_M_bit_52 : decode b_M_bit 52 = .ok (.lxor, 1) := by decide +kernel
theorem d_M_bit_53 : decode b_M_bit 53 = .ok (.goto 5, 3) := by decide +kernel
theorem d_M_bit_56 : decode b_M_bit 56 = .ok (.lload 5, 2) := by decide +kernel
theorem d_M_bit_58 : decode b_M_bit 58 = .ok (.lreturn, 1) := by decide +kernel
theorem d_M_told_0 : decode b_M_told 0 = .ok (.aload_n 0, 1) := by decide +kernel
theorem d_M_told_1 : decode b_M_told 1 = .ok (.getfield 31, 3) := by decide +kernel
theorem d_M_told_4 : decode b_M_told 4 = .ok (.ifCond .eq 11, 3) := by decide +kernel
theorem d_M_told_7 : decode b_M_told 7 = .ok (.aload_n 0, 1) := by decide +kernel
theorem d_M_told_8 : decode b_M_told 8 = .ok (.lload_n 1, 1) := by decide +kernel
theorem d_M_told_9 : decode b_M_told 9 = .ok (.invokevirtual 52, 3) := by decide +kernel
theorem d_M_told_12 : decode b_M_told 12 = .ok (.goto 4, 3) := by decide +kernel
theorem d_M_told_15 : decode b_M_told 15 = .ok (.lload_n 1, 1) := by decide +kernel
theorem d_M_told_16 : decode b_M_told 16 = .ok (.aload_n 0, 1) := by decide +kernel
theorem d_M_told_17 : decode b_M_told 17 = .ok (.getfield 24, 3) := by decide +kernel
theorem d_M_told_20 : decode b_M_told 20 = .ok (.lxor, 1) := by decide +kernel
theorem d_M_told_21 : decode b_M_told 21 = .ok (.lreturn, 1) := by decide +kernel
theorem d_M_turned_0 : decode b_M_turned 0 = .ok (.lconst 0, 1) := by decide +kernel
theorem d_M_turned_1 : decode b_M_turned 1 = .ok (.lstore_n 3, 1) := by decide +kernel
theorem d_M_turned_2 : decode b_M_turned 2 = .ok (.iconst 0, 1) := by decide +kernel
theorem d_M_turned_3 : decode b_M_turned 3 = .ok (.istore 5, 2) := by decide +kernel
theorem d_M_turned_5 : decode b_M_turned 5 = .ok (.iload 5, 2) := by decide +kernel
theorem d_M_turned_7 : decode b_M_turned 7 = .ok (.aload_n 0, 1) := by decide +kernel
theorem d_M_turned_8 : decode b_M_turned 8 = .ok (.getfield 7, 3) := by decide +kernel
theorem d_M_turned_11 : decode b_M_turned 11 = .ok (.if_icmp .ge 20, 3) := by decide +kernel
theorem d_M_turned_14 : decode b_M_turned 14 = .ok (.lload_n 3, 1) := by decide +kernel
theorem d_M_turned_15 : decode b_M_turned 15 = .ok (.iconst 1, 1) := by decide +kernel
theorem d_M_turned_16 : decode b_M_turned 16 = .ok (.lshl, 1) := by decide +kernel
theorem d_M_turned_17 : decode b_M_turned 17 = .ok (.lload_n 1, 1) := by decide +kernel
theorem d_M_turned_18 : decode b_M_turned 18 = .ok (.iload 5, 2) := by decide +kernel
theorem d_M_turned_20 : decode b_M_turned 20 = .ok (.lushr, 1) := by decide +kernel
theorem d_M_turned_21 : decode b_M_turned 21 = .ok (.lconst 1, 1) := by decide +kernel
theorem d_M_turned_22 : decode b_M_turned 22 = .ok (.land, 1) := by decide +kernel
theorem d_M_turned_23 : decode b_M_turned 23 = .ok (.lor, 1) := by decide +kernel
theorem d_M_turned_24 : decode b_M_turned 24 = .ok (.lstore_n 3, 1) := by decide +kernel
theorem d_M_turned_25 : decode b_M_turned 25 = .ok (.iinc 5 1, 3) := by decide +kernel
theorem d_M_turned_28 : decode b_M_turned 28 = .ok (.goto (-23), 3) := by decide +kernel
theorem d_M_turned_31 : decode b_M_turned 31 = .ok (.lload_n 3, 1) := by decide +kernel
theorem d_M_turned_32 : decode b_M_turned 32 = .ok (.lreturn, 1) := by decide +kernel
theorem d_M_part_0 : decode b_M_part 0 = .ok (.iload_n 1, 1) := by decide +kernel
theorem d_M_part_1 : decode b_M_part 1 = .ok (.ifCond .lt 16, 3) := by decide +kernel
theorem d_M_part_4 : decode b_M_part 4 = .ok (.iload_n 2, 1) := by decide +kernel
theorem d_M_part_5 : decode b_M_part 5 = .ok (.iload_n 1, 1) := by decide +kernel
theorem d_M_part_6 : decode b_M_part 6 = .ok (.if_icmp .lt 11, 3) := by decide +kernel
theorem d_M_part_9 : decode b_M_part 9 = .ok (.iload_n 2, 1) := by decide +kernel
theorem d_M_part_10 : decode b_M_part 10 = .ok (.aload_n 0, 1) := by decide +kernel
theorem d_M_part_11 : decode b_M_part 11 = .ok (.getfield 46, 3) := by decide +kernel
theorem d_M_part_14 : decode b_M_part 14 = .ok (.if_icmp .le 7, 3) := by decide +kernel
theorem d_M_part_17 : decode b_M_part 17 = .ok (.lconst 0, 1) := by decide +kernel
theorem d_M_part_18 : decode b_M_part 18 = .ok (.goto 9, 3) := by decide +kernel
theorem d_M_part_21 : decode b_M_part 21 = .ok (.aload_n 0, 1) := by decide +kernel
theorem d_M_part_22 : decode b_M_part 22 = .ok (.iload_n 1, 1) := by decide +kernel
theorem d_M_part_23 : decode b_M_part 23 = .ok (.iload_n 2, 1) := by decide +kernel
theorem d_M_part_24 : decode b_M_part 24 = .ok (.invokevirtual 61, 3) := by decide +kernel
theorem d_M_part_27 : decode b_M_part 27 = .ok (.lreturn, 1) := by decide +kernel
theorem d_M_joined_0 : decode b_M_joined 0 = .ok (.iload 5, 2) := by decide +kernel
theorem d_M_joined_2 : decode b_M_joined 2 = .ok (.ifCond .ge 5, 3) := by decide +kernel
theorem d_M_joined_5 : decode b_M_joined 5 = .ok (.lconst 0, 1) := by decide +kernel
theorem d_M_joined_6 : decode b_M_joined 6 = .ok (.lreturn, 1) := by decide +kernel
theorem d_M_joined_7 : decode b_M_joined 7 = .ok (.aload_n 0, 1) := by decide +kernel
theorem d_M_joined_8 : decode b_M_joined 8 = .ok (.aload_n 0, 1) := by decide +kernel
theorem d_M_joined_9 : decode b_M_joined 9 = .ok (.aload_n 0, 1) := by decide +kernel
theorem d_M_joined_10 : decode b_M_joined 10 = .ok (.lload_n 1, 1) := by decide +kernel
theorem d_M_joined_11 : decode b_M_joined 11 = .ok (.invokevirtual 71, 3) := by decide +kernel
theorem d_M_joined_14 : decode b_M_joined 14 = .ok (.aload_n 0, 1) := by decide +kernel
theorem d_M_joined_15 : decode b_M_joined 15 = .ok (.getfield 21, 3) := by decide +kernel
theorem d_M_joined_18 : decode b_M_joined 18 = .ok (.lxor, 1) := by decide +kernel
theorem d_M_joined_19 : decode b_M_joined 19 = .ok (.ldc2_w 74, 3) := by decide +kernel
theorem d_M_joined_22 : decode b_M_joined 22 = .ok (.iload 5, 2) := by decide +kernel
theorem d_M_joined_24 : decode b_M_joined 24 = .ok (.i2l, 1) := by decide +kernel
theorem d_M_joined_25 : decode b_M_joined 25 = .ok (.lmul, 1) := by decide +kernel
theorem d_M_joined_26 : decode b_M_joined 26 = .ok (.invokevirtual 76, 3) := by decide +kernel
theorem d_M_joined_29 : decode b_M_joined 29 = .ok (.aload_n 0, 1) := by decide +kernel
theorem d_M_joined_30 : decode b_M_joined 30 = .ok (.lload_n 3, 1) := by decide +kernel
theorem d_M_joined_31 : decode b_M_joined 31 = .ok (.invokevirtual 71, 3) := by decide +kernel
theorem d_M_joined_34 : decode b_M_joined 34 = .ok (.lxor, 1) := by decide +kernel
theorem d_M_joined_35 : decode b_M_joined 35 = .ok (.invokevirtual 58, 3) := by decide +kernel
theorem d_M_joined_38 : decode b_M_joined 38 = .ok (.lreturn, 1) := by decide +kernel
theorem d_M_register_0 : decode b_M_register 0 = .ok (.aload_n 0, 1) := by decide +kernel
theorem d_M_register_1 : decode b_M_register 1 = .ok (.lload_n 1, 1) := by decide +kernel
theorem d_M_register_2 : decode b_M_register 2 = .ok (.invokevirtual 42, 3) := by decide +kernel
theorem d_M_register_5 : decode b_M_register 5 = .ok (.aload_n 0, 1) := by decide +kernel
theorem d_M_register_6 : decode b_M_register 6 = .ok (.getfield 24, 3) := by decide +kernel
theorem d_M_register_9 : decode b_M_register 9 = .ok (.lxor, 1) := by decide +kernel
theorem d_M_register_10 : decode b_M_register 10 = .ok (.lstore_n 3, 1) := by decide +kernel
theorem d_M_register_11 : decode b_M_register 11 = .ok (.aload_n 0, 1) := by decide +kernel
theorem d_M_register_12 : decode b_M_register 12 = .ok (.getfield 31, 3) := by decide +kernel
theorem d_M_register_15 : decode b_M_register 15 = .ok (.ifCond .eq 11, 3) := by decide +kernel
theorem d_M_register_18 : decode b_M_register 18 = .ok (.aload_n 0, 1) := by decide +kernel
theorem d_M_register_19 : decode b_M_register 19 = .ok (.lload_n 3, 1) := by decide +kernel
theorem d_M_register_20 : decode b_M_register 20 = .ok (.invokevirtual 52, 3) := by decide +kernel
theorem d_M_register_23 : decode b_M_register 23 = .ok (.goto 4, 3) := by decide +kernel
theorem d_M_register_26 : decode b_M_register 26 = .ok (.lload_n 3, 1) := by decide +kernel
theorem d_M_register_27 : decode b_M_register 27 = .ok (.lreturn, 1) := by decide +kernel
theorem d_M_behind_0 : decode b_M_behind 0 = .ok (.lload_n 1, 1) := by decide +kernel
theorem d_M_behind_1 : decode b_M_behind 1 = .ok (.lstore 5, 2) := by decide +kernel
theorem d_M_behind_3 : decode b_M_behind 3 = .ok (.aload_n 0, 1) := by decide +kernel
theorem d_M_behind_4 : decode b_M_behind 4 = .ok (.lconst 1, 1) := by decide +kernel
theorem d_M_behind_5 : decode b_M_behind 5 = .ok (.iconst 0, 1) := by decide +kernel
theorem d_M_behind_6 : decode b_M_behind 6 = .ok (.invokevirtual 49, 3) := by decide +kernel
theorem d_M_behind_9 : decode b_M_behind 9 = .ok (.lstore 7, 2) := by decide +kernel
theorem d_M_behind_11 : decode b_M_behind 11 = .ok (.lload_n 3, 1) := by decide +kernel
theorem d_M_behind_12 : decode b_M_behind 12 = .ok (.lstore 9, 2) := by decide +kernel
theorem d_M_behind_14 : decode b_M_behind 14 = .ok (.lload 9, 2) := by decide +kernel
theorem d_M_behind_16 : decode b_M_behind 16 = .ok (.lconst 0, 1) := by decide +kernel
theorem d_M_behind_17 : decode b_M_behind 17 = .ok (.lcmp, 1) := by decide +kernel
theorem d_M_behind_18 : decode b_M_behind 18 = .ok (.ifCond .le 50, 3) := by decide +kernel
theorem d_M_behind_21 : decode b_M_behind 21 = .ok (.lload 9, 2) := by decide +kernel
theorem d_M_behind_23 : decode b_M_behind 23 = .ok (.ldc2_w 65, 3) := by decide +kernel
theorem d_M_behind_26 : decode b_M_behind 26 = .ok (.lrem, 1) := by decide +kernel
theorem d_M_behind_27 : decode b_M_behind 27 = .ok (.lconst 1, 1) := by decide +kernel
theorem d_M_behind_28 : decode b_M_behind 28 = .ok (.lcmp, 1) := by decide +kernel
theorem d_M_behind_29 : decode b_M_behind 29 = .ok (.ifCond .ne 14, 3) := by decide +kernel
theorem d_M_behind_32 : decode b_M_behind 32 = .ok (.aload_n 0, 1) := by decide +kernel
theorem d_M_behind_33 : decode b_M_behind 33 = .ok (.lload 5, 2) := by decide +kernel
theorem d_M_behind_35 : decode b_M_behind 35 = .ok (.lload 7, 2) := by decide +kernel
theorem d_M_behind_37 : decode b_M_behind 37 = .ok (.invokevirtual 67, 3) := by decide +kernel
theorem d_M_behind_40 : decode b_M_behind 40 = .ok (.goto 5, 3) := by decide +kernel
theorem d_M_behind_43 : decode b_M_behind 43 = .ok (.lload 5, 2) := by decide +kernel
theorem d_M_behind_45 : decode b_M_behind 45 = .ok (.lstore 5, 2) := by decide +kernel
theorem d_M_behind_47 : decode b_M_behind 47 = .ok (.aload_n 0, 1) := by decide +kernel
theorem d_M_behind_48 : decode b_M_behind 48 = .ok (.lload 7, 2) := by decide +kernel
theorem d_M_behind_50 : decode b_M_behind 50 = .ok (.lload 7, 2) := by decide +kernel
theorem d_M_behind_52 : decode b_M_behind 52 = .ok (.invokevirtual 67, 3) := by decide +kernel
theorem d_M_behind_55 : decode b_M_behind 55 = .ok (.lstore 7, 2) := by decide +kernel
theorem d_M_behind_57 : decode b_M_behind 57 = .ok (.lload 9, 2) := by decide +kernel
theorem d_M_behind_59 : decode b_M_behind 59 = .ok (.ldc2_w 65, 3) := by decide +kernel
theorem d_M_behind_62 : decode b_M_behind 62 = .ok (.ldiv, 1) := by decide +kernel
theorem d_M_behind_63 : decode b_M_behind 63 = .ok (.lstore 9, 2) := by decide +kernel
theorem d_M_behind_65 : decode b_M_behind 65 = .ok (.goto (-51), 3) := by decide +kernel
theorem d_M_behind_68 : decode b_M_behind 68 = .ok (.lload 5, 2) := by decide +kernel
theorem d_M_behind_70 : decode b_M_behind 70 = .ok (.lreturn, 1) := by decide +kernel
theorem d_M_times_0 : decode b_M_times 0 = .ok (.lconst 0, 1) := by decide +kernel
theorem d_M_times_1 : decode b_M_times 1 = .ok (.lstore 5, 2) := by decide +kernel
theorem d_M_times_3 : decode b_M_times 3 = .ok (.aload_n 0, 1) := by decide +kernel
theorem d_M_times_4 : decode b_M_times 4 = .ok (.getfield 7, 3) := by decide +kernel
theorem d_M_times_7 : decode b_M_times 7 = .ok (.iconst 1, 1) := by decide +kernel
theorem d_M_times_8 : decode b_M_times 8 = .ok (.isub, 1) := by decide +kernel
theorem d_M_times_9 : decode b_M_times 9 = .ok (.istore 7, 2) := by decide +kernel
theorem d_M_times_11 : decode b_M_times 11 = .ok (.iload 7, 2) := by decide +kernel
theorem d_M_times_13 : decode b_M_times 13 = .ok (.ifCond .lt 39, 3) := by decide +kernel
theorem d_M_times_16 : decode b_M_times 16 = .ok (.aload_n 0, 1) := by decide +kernel
theorem d_M_times_17 : decode b_M_times 17 = .ok (.lload 5, 2) := by decide +kernel
theorem d_M_times_19 : decode b_M_times 19 = .ok (.iconst 0, 1) := by decide +kernel
theorem d_M_times_20 : decode b_M_times 20 = .ok (.invokevirtual 49, 3) := by decide +kernel
theorem d_M_times_23 : decode b_M_times 23 = .ok (.lstore 5, 2) := by decide +kernel
theorem d_M_times_25 : decode b_M_times 25 = .ok (.lload 5, 2) := by decide +kernel
theorem d_M_times_27 : decode b_M_times 27 = .ok (.lload_n 3, 1) := by decide +kernel
theorem d_M_times_28 : decode b_M_times 28 = .ok (.iload 7, 2) := by decide +kernel
theorem d_M_times_30 : decode b_M_times 30 = .ok (.lushr, 1) := by decide +kernel
theorem d_M_times_31 : decode b_M_times 31 = .ok (.lconst 1, 1) := by decide +kernel
theorem d_M_times_32 : decode b_M_times 32 = .ok (.land, 1) := by decide +kernel
theorem d_M_times_33 : decode b_M_times 33 = .ok (.lconst 1, 1) := by decide +kernel
theorem d_M_times_34 : decode b_M_times 34 = .ok (.lcmp, 1) := by decide +kernel
theorem d_M_times_35 : decode b_M_times 35 = .ok (.ifCond .ne 7, 3) := by decide +kernel
theorem d_M_times_38 : decode b_M_times 38 = .ok (.lload_n 1, 1) := by decide +kernel
theorem d_M_times_39 : decode b_M_times 39 = .ok (.goto 4, 3) := by decide +kernel
theorem d_M_times_42 : decode b_M_times 42 = .ok (.lconst 0, 1) := by decide +kernel
theorem d_M_times_43 : decode b_M_times 43 = .ok (.lxor, 1) := by decide +kernel
theorem d_M_times_44 : decode b_M_times 44 = .ok (.lstore 5, 2) := by decide +kernel
theorem d_M_times_46 : decode b_M_times 46 = .ok (.iinc 7 (-1), 3) := by decide +kernel
theorem d_M_times_49 : decode b_M_times 49 = .ok (.goto (-38), 3) := by decide +kernel
theorem d_M_times_52 : decode b_M_times 52 = .ok (.lload 5, 2) := by decide +kernel
theorem d_M_times_54 : decode b_M_times 54 = .ok (.lreturn, 1) := by decide +kernel
theorem d_M_entry_0 : decode b_M_entry 0 = .ok (.iload_n 1, 1) := by decide +kernel
theorem d_M_entry_1 : decode b_M_entry 1 = .ok (.ifCond .lt 20, 3) := by decide +kernel
theorem d_M_entry_4 : decode b_M_entry 4 = .ok (.iload_n 1, 1) := by decide +kernel
theorem d_M_entry_5 : decode b_M_entry 5 = .ok (.bipush 7, 2) := by decide +kernel
theorem d_M_entry_7 : decode b_M_entry 7 = .ok (.if_icmp .gt 14, 3) := by decide +kernel
theorem d_M_entry_10 : decode b_M_entry 10 = .ok (.iload_n 2, 1) := by decide +kernel
theorem d_M_entry_11 : decode b_M_entry 11 = .ok (.ifCond .lt 10, 3) := by decide +kernel
theorem d_M_entry_14 : decode b_M_entry 14 = .ok (.iload_n 2, 1) := by decide +kernel
theorem d_M_entry_15 : decode b_M_entry 15 = .ok (.sipush 255, 3) := by decide +kernel
theorem d_M_entry_18 : decode b_M_entry 18 = .ok (.if_icmp .le 5, 3) := by decide +kernel
theorem d_M_entry_21 : decode b_M_entry 21 = .ok (.lconst 0, 1) := by decide +kernel
theorem d_M_entry_22 : decode b_M_entry 22 = .ok (.lreturn, 1) := by decide +kernel
theorem d_M_entry_23 : decode b_M_entry 23 = .ok (.aload_n 0, 1) := by decide +kernel
theorem d_M_entry_24 : decode b_M_entry 24 = .ok (.aload_n 0, 1) := by decide +kernel
theorem d_M_entry_25 : decode b_M_entry 25 = .ok (.lconst 0, 1) := by decide +kernel
theorem d_M_entry_26 : decode b_M_entry 26 = .ok (.iload_n 2, 1) := by decide +kernel
theorem d_M_entry_27 : decode b_M_entry 27 = .ok (.invokevirtual 55, 3) := by decide +kernel
theorem d_M_entry_30 : decode b_M_entry 30 = .ok (.ldc2_w 74, 3) := by decide +kernel
theorem d_M_entry_33 : decode b_M_entry 33 = .ok (.iload_n 1, 1) := by decide +kernel
theorem d_M_entry_34 : decode b_M_entry 34 = .ok (.i2l, 1) := by decide +kernel
theorem d_M_entry_35 : decode b_M_entry 35 = .ok (.lmul, 1) := by decide +kernel
theorem d_M_entry_36 : decode b_M_entry 36 = .ok (.invokevirtual 76, 3) := by decide +kernel
theorem d_M_entry_39 : decode b_M_entry 39 = .ok (.lreturn, 1) := by decide +kernel
theorem d_M_zeros_0 : decode b_M_zeros 0 = .ok (.iload_n 3, 1) := by decide +kernel
theorem d_M_zeros_1 : decode b_M_zeros 1 = .ok (.ifCond .lt 9, 3) := by decide +kernel
theorem d_M_zeros_4 : decode b_M_zeros 4 = .ok (.iload_n 3, 1) := by decide +kernel
theorem d_M_zeros_5 : decode b_M_zeros 5 = .ok (.ldc 79, 2) := by decide +kernel
theorem d_M_zeros_7 : decode b_M_zeros 7 = .ok (.if_icmp .le 7, 3) := by decide +kernel
theorem d_M_zeros_10 : decode b_M_zeros 10 = .ok (.lconst 0, 1) := by decide +kernel
theorem d_M_zeros_11 : decode b_M_zeros 11 = .ok (.goto 14, 3) := by decide +kernel
theorem d_M_zeros_14 : decode b_M_zeros 14 = .ok (.aload_n 0, 1) := by decide +kernel
theorem d_M_zeros_15 : decode b_M_zeros 15 = .ok (.aload_n 0, 1) := by decide +kernel
theorem d_M_zeros_16 : decode b_M_zeros 16 = .ok (.lload_n 1, 1) := by decide +kernel
theorem d_M_zeros_17 : decode b_M_zeros 17 = .ok (.invokevirtual 42, 3) := by decide +kernel
theorem d_M_zeros_20 : decode b_M_zeros 20 = .ok (.iload_n 3, 1) := by decide +kernel
theorem d_M_zeros_21 : decode b_M_zeros 21 = .ok (.i2l, 1) := by decide +kernel
theorem d_M_zeros_22 : decode b_M_zeros 22 = .ok (.invokevirtual 76, 3) := by decide +kernel
theorem d_M_zeros_25 : decode b_M_zeros 25 = .ok (.lreturn, 1) := by decide +kernel
theorem d_M_round_0 : decode b_M_round 0 = .ok (.lconst 1, 1) := by decide +kernel
theorem d_M_round_1 : decode b_M_round 1 = .ok (.lstore_n 1, 1) := by decide +kernel
theorem d_M_round_2 : decode b_M_round 2 = .ok (.iconst 1, 1) := by decide +kernel
theorem d_M_round_3 : decode b_M_round 3 = .ok (.istore_n 3, 1) := by decide +kernel
theorem d_M_round_4 : decode b_M_round 4 = .ok (.iload_n 3, 1) := by decide +kernel
theorem d_M_round_5 : decode b_M_round 5 = .ok (.sipush 4096, 3) := by decide +kernel
theorem d_M_round_8 : decode b_M_round 8 = .ok (.if_icmp .gt 24, 3) := by decide +kernel
theorem d_M_round_11 : decode b_M_round 11 = .ok (.aload_n 0, 1) := by decide +kernel
theorem d_M_round_12 : decode b_M_round 12 = .ok (.lload_n 1, 1) := by decide +kernel
theorem d_M_round_13 : decode b_M_round 13 = .ok (.iconst 0, 1) := by decide +kernel
theorem d_M_round_14 : decode b_M_round 14 = .ok (.invokevirtual 49, 3) := by decide +kernel
theorem d_M_round_17 : decode b_M_round 17 = .ok (.lstore_n 1, 1) := by decide +kernel
theorem d_M_round_18 : decode b_M_round 18 = .ok (.lload_n 1, 1) := by decide +kernel
theorem d_M_round_19 : decode b_M_round 19 = .ok (.lconst 1, 1) := by decide +kernel
theorem d_M_round_20 : decode b_M_round 20 = .ok (.lcmp, 1) := by decide +kernel
theorem d_M_round_21 : decode b_M_round 21 = .ok (.ifCond .ne 5, 3) := by decide +kernel
theorem d_M_round_24 : decode b_M_round 24 = .ok (.iload_n 3, 1) := by decide +kernel
theorem d_M_round_25 : decode b_M_round 25 = .ok (.ireturn, 1) := by decide +kernel
theorem d_M_round_26 : decode b_M_round 26 = .ok (.iinc 3 1, 3) := by decide +kernel
theorem d_M_round_29 : decode b_M_round 29 = .ok (.goto (-25), 3) := by decide +kernel
theorem d_M_round_32 : decode b_M_round 32 = .ok (.iconst (-1), 1) := by decide +kernel
theorem d_M_round_33 : decode b_M_round 33 = .ok (.ireturn, 1) := by decide +kernel
theorem d_M_holds_0 : decode b_M_holds 0 = .ok (.iconst 1, 1) := by decide +kernel
theorem d_M_holds_1 : decode b_M_holds 1 = .ok (.ireturn, 1) := by decide +kernel
theorem d_M_count_0 : decode b_M_count 0 = .ok (.iload_n 1, 1) := by decide +kernel
theorem d_M_count_1 : decode b_M_count 1 = .ok (.tableswitch 67 0 3 #[31, 36, 41, 54], 31) := by decide +kernel
theorem d_M_count_32 : decode b_M_count 32 = .ok (.aload_n 0, 1) := by decide +kernel
theorem d_M_count_33 : decode b_M_count 33 = .ok (.getfield 46, 3) := by decide +kernel
theorem d_M_count_36 : decode b_M_count 36 = .ok (.ireturn, 1) := by decide +kernel
theorem d_M_count_37 : decode b_M_count 37 = .ok (.aload_n 0, 1) := by decide +kernel
theorem d_M_count_38 : decode b_M_count 38 = .ok (.getfield 7, 3) := by decide +kernel
theorem d_M_count_41 : decode b_M_count 41 = .ok (.ireturn, 1) := by decide +kernel
theorem d_M_count_42 : decode b_M_count 42 = .ok (.aload_n 0, 1) := by decide +kernel
theorem d_M_count_43 : decode b_M_count 43 = .ok (.getfield 27, 3) := by decide +kernel
theorem d_M_count_46 : decode b_M_count 46 = .ok (.ifCond .eq 7, 3) := by decide +kernel
theorem d_M_count_49 : decode b_M_count 49 = .ok (.iconst 1, 1) := by decide +kernel
theorem d_M_count_50 : decode b_M_count 50 = .ok (.goto 4, 3) := by decide +kernel
theorem d_M_count_53 : decode b_M_count 53 = .ok (.iconst 0, 1) := by decide +kernel
theorem d_M_count_54 : decode b_M_count 54 = .ok (.ireturn, 1) := by decide +kernel
theorem d_M_count_55 : decode b_M_count 55 = .ok (.aload_n 0, 1) := by decide +kernel
theorem d_M_count_56 : decode b_M_count 56 = .ok (.getfield 31, 3) := by decide +kernel
theorem d_M_count_59 : decode b_M_count 59 = .ok (.ifCond .eq 7, 3) := by decide +kernel
theorem d_M_count_62 : decode b_M_count 62 = .ok (.iconst 1, 1) := by decide +kernel
theorem d_M_count_63 : decode b_M_count 63 = .ok (.goto 4, 3) := by decide +kernel
theorem d_M_count_66 : decode b_M_count 66 = .ok (.iconst 0, 1) := by decide +kernel
theorem d_M_count_67 : decode b_M_count 67 = .ok (.ireturn, 1) := by decide +kernel
theorem d_M_count_68 : decode b_M_count 68 = .ok (.iconst (-1), 1) := by decide +kernel
theorem d_M_count_69 : decode b_M_count 69 = .ok (.ireturn, 1) := by decide +kernel
theorem d_M_toldI_0 : decode b_M_toldI 0 = .ok (.iload_n 1, 1) := by decide +kernel
theorem d_M_toldI_1 : decode b_M_toldI 1 = .ok (.ifCond .ne 10, 3) := by decide +kernel
theorem d_M_toldI_4 : decode b_M_toldI 4 = .ok (.aload_n 0, 1) := by decide +kernel
theorem d_M_toldI_5 : decode b_M_toldI 5 = .ok (.getfield 15, 3) := by decide +kernel
theorem d_M_toldI_8 : decode b_M_toldI 8 = .ok (.goto 28, 3) := by decide +kernel
theorem d_M_toldI_11 : decode b_M_toldI 11 = .ok (.iload_n 1, 1) := by decide +kernel
theorem d_M_toldI_12 : decode b_M_toldI 12 = .ok (.iconst 1, 1) := by decide +kernel
theorem d_M_toldI_13 : decode b_M_toldI 13 = .ok (.if_icmp .ne 10, 3) := by decide +kernel
theorem d_M_toldI_16 : decode b_M_toldI 16 = .ok (.aload_n 0, 1) := by decide +kernel
theorem d_M_toldI_17 : decode b_M_toldI 17 = .ok (.getfield 21, 3) := by decide +kernel
theorem d_M_toldI_20 : decode b_M_toldI 20 = .ok (.goto 16, 3) := by decide +kernel
theorem d_M_toldI_23 : decode b_M_toldI 23 = .ok (.iload_n 1, 1) := by decide +kernel
theorem d_M_toldI_24 : decode b_M_toldI 24 = .ok (.iconst 2, 1) := by decide +kernel
theorem d_M_toldI_25 : decode b_M_toldI 25 = .ok (.if_icmp .ne 10, 3) := by decide +kernel
theorem d_M_toldI_28 : decode b_M_toldI 28 = .ok (.aload_n 0, 1) := by decide +kernel
theorem d_M_toldI_29 : decode b_M_toldI 29 = .ok (.getfield 24, 3) := by decide +kernel
theorem d_M_toldI_32 : decode b_M_toldI 32 = .ok (.goto 4, 3) := by decide +kernel
theorem d_M_toldI_35 : decode b_M_toldI 35 = .ok (.lconst 0, 1) := by decide +kernel
theorem d_M_toldI_36 : decode b_M_toldI 36 = .ok (.lreturn, 1) := by decide +kernel
end
section
theorem d_law_0 : decode code 0 = .ok (.new 7, 3) := by decide +kernel
theorem d_law_3 : decode code 3 = .ok (.dup, 1) := by decide +kernel
theorem d_law_4 : decode code 4 = .ok (.invokespecial 9, 3) := by decide +kernel
theorem d_law_7 : decode code 7 = .ok (.astore_n 1, 1) := by decide +kernel
theorem d_law_8 : decode code 8 = .ok (.new 10, 3) := by decide +kernel
theorem d_law_11 : decode code 11 = .ok (.dup, 1) := by decide +kernel
theorem d_law_12 : decode code 12 = .ok (.invokespecial 12, 3) := by decide +kernel
theorem d_law_15 : decode code 15 = .ok (.astore_n 2, 1) := by decide +kernel
theorem d_law_16 : decode code 16 = .ok (.iconst 0, 1) := by decide +kernel
theorem d_law_17 : decode code 17 = .ok (.istore_n 3, 1) := by decide +kernel
theorem d_law_18 : decode code 18 = .ok (.iload_n 3, 1) := by decide +kernel
theorem d_law_19 : decode code 19 = .ok (.aload_n 0, 1) := by decide +kernel
theorem d_law_20 : decode code 20 = .ok (.arraylength, 1) := by decide +kernel
theorem d_law_21 : decode code 21 = .ok (.bipush 10, 2) := by decide +kernel
theorem d_law_23 : decode code 23 = .ok (.isub, 1) := by decide +kernel
theorem d_law_24 : decode code 24 = .ok (.if_icmp .gt 685, 3) := by decide +kernel
theorem d_law_27 : decode code 27 = .ok (.aload_n 0, 1) := by decide +kernel
theorem d_law_28 : decode code 28 = .ok (.iload_n 3, 1) := by decide +kernel
theorem d_law_29 : decode code 29 = .ok (.iaload, 1) := by decide +kernel
theorem d_law_30 : decode code 30 = .ok (.bipush 15, 2) := by decide +kernel
theorem d_law_32 : decode code 32 = .ok (.iand, 1) := by decide +kernel
theorem d_law_33 : decode code 33 = .ok (.tableswitch 670 0 12 #[67, 270, 303, 314, 337, 361, 395, 499, 533, 597, 610, 623, 646], 67) := by decide +kernel
theorem d_law_100 : decode code 100 = .ok (.aload_n 1, 1) := by decide +kernel
theorem d_law_101 : decode code 101 = .ok (.aload_n 0, 1) := by decide +kernel
theorem d_law_102 : decode code 102 = .ok (.iload_n 3, 1) := by decide +kernel
theorem d_law_103 : decode code 103 = .ok (.iconst 1, 1) := by decide +kernel
theorem d_law_104 : decode code 104 = .ok (.iadd, 1) := by decide +kernel
theorem d_law_105 : decode code 105 = .ok (.iaload, 1) := by decide +kernel
theorem d_law_106 : decode code 106 = .ok (.aload_n 0, 1) := by decide +kernel
theorem d_law_107 : decode code 107 = .ok (.iload_n 3, 1) := by decide +kernel
theorem d_law_108 : decode code 108 = .ok (.iconst 2, 1) := by decide +kernel
theorem d_law_109 : decode code 109 = .ok (.iadd, 1) := by decide +kernel
theorem d_law_110 : decode code 110 = .ok (.iaload, 1) := by decide +kernel
theorem d_law_111 : decode code 111 = .ok (.i2l, 1) := by decide +kernel
theorem d_law_112 : decode code 112 = .ok (.bipush 32, 2) := by decide +kernel
theorem d_law_114 : decode code 114 = .ok (.lshl, 1) := by decide +kernel
theorem d_law_115 : decode code 115 = .ok (.aload_n 0, 1) := by decide +kernel
theorem d_law_116 : decode code 116 = .ok (.iload_n 3, 1) := by decide +kernel
theorem d_law_117 : decode code 117 = .ok (.iconst 3, 1) := by decide +kernel
theorem d_law_118 : decode code 118 = .ok (.iadd, 1) := by decide +kernel
theorem d_law_119 : decode code 119 = .ok (.iaload, 1) := by decide +kernel
theorem d_law_120 : decode code 120 = .ok (.i2l, 1) := by decide +kernel
theorem d_law_121 : decode code 121 = .ok (.ldc2_w 13, 3) := by decide +kernel
theorem d_law_124 : decode code 124 = .ok (.land, 1) := by decide +kernel
theorem d_law_125 : decode code 125 = .ok (.lor, 1) := by decide +kernel
theorem d_law_126 : decode code 126 = .ok (.aload_n 0, 1) := by decide +kernel
theorem d_law_127 : decode code 127 = .ok (.iload_n 3, 1) := by decide +kernel
theorem d_law_128 : decode code 128 = .ok (.iconst 4, 1) := by decide +kernel
theorem d_law_129 : decode code 129 = .ok (.iadd, 1) := by decide +kernel
theorem d_law_130 : decode code 130 = .ok (.iaload, 1) := by decide +kernel
theorem d_law_131 : decode code 131 = .ok (.i2l, 1) := by decide +kernel
theorem d_law_132 : decode code 132 = .ok (.bipush 32, 2) := by decide +kernel
theorem d_law_134 : decode code 134 = .ok (.lshl, 1) := by decide +kernel
theorem d_law_135 : decode code 135 = .ok (.aload_n 0, 1) := by decide +kernel
theorem d_law_136 : decode code 136 = .ok (.iload_n 3, 1) := by decide +kernel
theorem d_law_137 : decode code 137 = .ok (.iconst 5, 1) := by decide +kernel
theorem d_law_138 : decode code 138 = .ok (.iadd, 1) := by decide +kernel
theorem d_law_139 : decode code 139 = .ok (.iaload, 1) := by decide +kernel
theorem d_law_140 : decode code 140 = .ok (.i2l, 1) := by decide +kernel
theorem d_law_141 : decode code 141 = .ok (.ldc2_w 13, 3) := by decide +kernel
theorem d_law_144 : decode code 144 = .ok (.land, 1) := by decide +kernel
theorem d_law_145 : decode code 145 = .ok (.lor, 1) := by decide +kernel
theorem d_law_146 : decode code 146 = .ok (.aload_n 0, 1) := by decide +kernel
theorem d_law_147 : decode code 147 = .ok (.iload_n 3, 1) := by decide +kernel
theorem d_law_148 : decode code 148 = .ok (.bipush 6, 2) := by decide +kernel
theorem d_law_150 : decode code 150 = .ok (.iadd, 1) := by decide +kernel
theorem d_law_151 : decode code 151 = .ok (.iaload, 1) := by decide +kernel
theorem d_law_152 : decode code 152 = .ok (.ifCond .eq 7, 3) := by decide +kernel
theorem d_law_155 : decode code 155 = .ok (.iconst 1, 1) := by decide +kernel
theorem d_law_156 : decode code 156 = .ok (.goto 4, 3) := by decide +kernel
theorem d_law_159 : decode code 159 = .ok (.iconst 0, 1) := by decide +kernel
theorem d_law_160 : decode code 160 = .ok (.aload_n 0, 1) := by decide +kernel
theorem d_law_161 : decode code 161 = .ok (.iload_n 3, 1) := by decide +kernel
theorem d_law_162 : decode code 162 = .ok (.bipush 7, 2) := by decide +kernel
theorem d_law_164 : decode code 164 = .ok (.iadd, 1) := by decide +kernel
theorem d_law_165 : decode code 165 = .ok (.iaload, 1) := by decide +kernel
theorem d_law_166 : decode code 166 = .ok (.ifCond .eq 7, 3) := by decide +kernel
theorem d_law_169 : decode code 169 = .ok (.iconst 1, 1) := by decide +kernel
theorem d_law_170 : decode code 170 = .ok (.goto 4, 3) := by decide +kernel
theorem d_law_173 : decode code 173 = .ok (.iconst 0, 1) := by decide +kernel
theorem d_law_174 : decode code 174 = .ok (.aload_n 0, 1) := by decide +kernel
theorem d_law_175 : decode code 175 = .ok (.iload_n 3, 1) := by decide +kernel
theorem d_law_176 : decode code 176 = .ok (.bipush 8, 2) := by decide +kernel
theorem d_law_178 : decode code 178 = .ok (.iadd, 1) := by decide +kernel
theorem d_law_179 : decode code 179 = .ok (.iaload, 1) := by decide +kernel
theorem d_law_180 : decode code 180 = .ok (.i2l, 1) := by decide +kernel
theorem d_law_181 : decode code 181 = .ok (.bipush 32, 2) := by decide +kernel
theorem d_law_183 : decode code 183 = .ok (.lshl, 1) := by decide +kernel
theorem d_law_184 : decode code 184 = .ok (.aload_n 0, 1) := by decide +kernel
theorem d_law_185 : decode code 185 = .ok (.iload_n 3, 1) := by decide +kernel
theorem d_law_186 : decode code 186 = .ok (.bipush 9, 2) := by decide +kernel
theorem d_law_188 : decode code 188 = .ok (.iadd, 1) := by decide +kernel
theorem d_law_189 : decode code 189 = .ok (.iaload, 1) := by decide +kernel
theorem d_law_190 : decode code 190 = .ok (.i2l, 1) := by decide +kernel
theorem d_law_191 : decode code 191 = .ok (.ldc2_w 13, 3) := by decide +kernel
theorem d_law_194 : decode code 194 = .ok (.land, 1) := by decide +kernel
theorem d_law_195 : decode code 195 = .ok (.lor, 1) := by decide +kernel
theorem d_law_196 : decode code 196 = .ok (.invokevirtual 15, 3) := by decide +kernel
theorem d_law_199 : decode code 199 = .ok (.aload_n 2, 1) := by decide +kernel
theorem d_law_200 : decode code 200 = .ok (.aload_n 0, 1) := by decide +kernel
theorem d_law_201 : decode code 201 = .ok (.iload_n 3, 1) := by decide +kernel
theorem d_law_202 : decode code 202 = .ok (.iconst 1, 1) := by decide +kernel
theorem d_law_203 : decode code 203 = .ok (.iadd, 1) := by decide +kernel
theorem d_law_204 : decode code 204 = .ok (.iaload, 1) := by decide +kernel
theorem d_law_205 : decode code 205 = .ok (.aload_n 0, 1) := by decide +kernel
theorem d_law_206 : decode code 206 = .ok (.iload_n 3, 1) := by decide +kernel
theorem d_law_207 : decode code 207 = .ok (.iconst 2, 1) := by decide +kernel
theorem d_law_208 : decode code 208 = .ok (.iadd, 1) := by decide +kernel
theorem d_law_209 : decode code 209 = .ok (.iaload, 1) := by decide +kernel
theorem d_law_210 : decode code 210 = .ok (.i2l, 1) := by decide +kernel
theorem d_law_211 : decode code 211 = .ok (.bipush 32, 2) := by decide +kernel
theorem d_law_213 : decode code 213 = .ok (.lshl, 1) := by decide +kernel
theorem d_law_214 : decode code 214 = .ok (.aload_n 0, 1) := by decide +kernel
theorem d_law_215 : decode code 215 = .ok (.iload_n 3, 1) := by decide +kernel
theorem d_law_216 : decode code 216 = .ok (.iconst 3, 1) := by decide +kernel
theorem d_law_217 : decode code 217 = .ok (.iadd, 1) := by decide +kernel
theorem d_law_218 : decode code 218 = .ok (.iaload, 1) := by decide +kernel
theorem d_law_219 : decode code 219 = .ok (.i2l, 1) := by decide +kernel
theorem d_law_220 : decode code 220 = .ok (.ldc2_w 13, 3) := by decide +kernel
theorem d_law_223 : decode code 223 = .ok (.land, 1) := by decide +kernel
theorem d_law_224 : decode code 224 = .ok (.lor, 1) := by decide +kernel
theorem d_law_225 : decode code 225 = .ok (.aload_n 0, 1) := by decide +kernel
theorem d_law_226 : decode code 226 = .ok (.iload_n 3, 1) := by decide +kernel
theorem d_law_227 : decode code 227 = .ok (.iconst 4, 1) := by decide +kernel
theorem d_law_228 : decode code 228 = .ok (.iadd, 1) := by decide +kernel
theorem d_law_229 : decode code 229 = .ok (.iaload, 1) := by decide +kernel
theorem d_law_230 : decode code 230 = .ok (.i2l, 1) := by decide +kernel
theorem d_law_231 : decode code 231 = .ok (.bipush 32, 2) := by decide +kernel
theorem d_law_233 : decode code 233 = .ok (.lshl, 1) := by decide +kernel
theorem d_law_234 : decode code 234 = .ok (.aload_n 0, 1) := by decide +kernel
theorem d_law_235 : decode code 235 = .ok (.iload_n 3, 1) := by decide +kernel
theorem d_law_236 : decode code 236 = .ok (.iconst 5, 1) := by decide +kernel
theorem d_law_237 : decode code 237 = .ok (.iadd, 1) := by decide +kernel
theorem d_law_238 : decode code 238 = .ok (.iaload, 1) := by decide +kernel
theorem d_law_239 : decode code 239 = .ok (.i2l, 1) := by decide +kernel
theorem d_law_240 : decode code 240 = .ok (.ldc2_w 13, 3) := by decide +kernel
theorem d_law_243 : decode code 243 = .ok (.land, 1) := by decide +kernel
theorem d_law_244 : decode code 244 = .ok (.lor, 1) := by decide +kernel
theorem d_law_245 : decode code 245 = .ok (.aload_n 0, 1) := by decide +kernel
theorem d_law_246 : decode code 246 = .ok (.iload_n 3, 1) := by decide +kernel
theorem d_law_247 : decode code 247 = .ok (.bipush 6, 2) := by decide +kernel
theorem d_law_249 : decode code 249 = .ok (.iadd, 1) := by decide +kernel
theorem d_law_250 : decode code 250 = .ok (.iaload, 1) := by decide +kernel
theorem d_law_251 : decode code 251 = .ok (.ifCond .eq 7, 3) := by decide +kernel
theorem d_law_254 : decode code 254 = .ok (.iconst 1, 1) := by decide +kernel
theorem d_law_255 : decode code 255 = .ok (.goto 4, 3) := by decide +kernel
theorem d_law_258 : decode code 258 = .ok (.iconst 0, 1) := by decide +kernel
theorem d_law_259 : decode code 259 = .ok (.aload_n 0, 1) := by decide +kernel
theorem d_law_260 : decode code 260 = .ok (.iload_n 3, 1) := by decide +kernel
theorem d_law_261 : decode code 261 = .ok (.bipush 7, 2) := by decide +kernel
theorem d_law_263 : decode code 263 = .ok (.iadd, 1) := by decide +kernel
theorem d_law_264 : decode code 264 = .ok (.iaload, 1) := by decide +kernel
theorem d_law_265 : decode code 265 = .ok (.ifCond .eq 7, 3) := by decide +kernel
theorem d_law_268 : decode code 268 = .ok (.iconst 1, 1) := by decide +kernel
theorem d_law_269 : decode code 269 = .ok (.goto 4, 3) := by decide +kernel
theorem d_law_272 : decode code 272 = .ok (.iconst 0, 1) := by decide +kernel
theorem d_law_273 : decode code 273 = .ok (.aload_n 0, 1) := by decide +kernel
theorem d_law_274 : decode code 274 = .ok (.iload_n 3, 1) := by decide +kernel
theorem d_law_275 : decode code 275 = .ok (.bipush 8, 2) := by decide +kernel
theorem d_law_277 : decode code 277 = .ok (.iadd, 1) := by decide +kernel
theorem d_law_278 : decode code 278 = .ok (.iaload, 1) := by decide +kernel
theorem d_law_279 : decode code 279 = .ok (.i2l, 1) := by decide +kernel
theorem d_law_280 : decode code 280 = .ok (.bipush 32, 2) := by decide +kernel
theorem d_law_282 : decode code 282 = .ok (.lshl, 1) := by decide +kernel
theorem d_law_283 : decode code 283 = .ok (.aload_n 0, 1) := by decide +kernel
theorem d_law_284 : decode code 284 = .ok (.iload_n 3, 1) := by decide +kernel
theorem d_law_285 : decode code 285 = .ok (.bipush 9, 2) := by decide +kernel
theorem d_law_287 : decode code 287 = .ok (.iadd, 1) := by decide +kernel
theorem d_law_288 : decode code 288 = .ok (.iaload, 1) := by decide +kernel
theorem d_law_289 : decode code 289 = .ok (.i2l, 1) := by decide +kernel
theorem d_law_290 : decode code 290 = .ok (.ldc2_w 13, 3) := by decide +kernel
theorem d_law_293 : decode code 293 = .ok (.land, 1) := by decide +kernel
theorem d_law_294 : decode code 294 = .ok (.lor, 1) := by decide +kernel
theorem d_law_295 : decode code 295 = .ok (.invokevirtual 19, 3) := by decide +kernel
theorem d_law_298 : decode code 298 = .ok (.if_icmp .eq 405, 3) := by decide +kernel
theorem d_law_301 : decode code 301 = .ok (.iconst 0, 1) := by decide +kernel
theorem d_law_302 : decode code 302 = .ok (.ireturn, 1) := by decide +kernel
theorem d_law_303 : decode code 303 = .ok (.aload_n 1, 1) := by decide +kernel
theorem d_law_304 : decode code 304 = .ok (.aload_n 0, 1) := by decide +kernel
theorem d_law_305 : decode code 305 = .ok (.iload_n 3, 1) := by decide +kernel
theorem d_law_306 : decode code 306 = .ok (.iconst 1, 1) := by decide +kernel
theorem d_law_307 : decode code 307 = .ok (.iadd, 1) := by decide +kernel
theorem d_law_308 : decode code 308 = .ok (.iaload, 1) := by decide +kernel
theorem d_law_309 : decode code 309 = .ok (.aload_n 0, 1) := by decide +kernel
theorem d_law_310 : decode code 310 = .ok (.iload_n 3, 1) := by decide +kernel
theorem d_law_311 : decode code 311 = .ok (.iconst 2, 1) := by decide +kernel
theorem d_law_312 : decode code 312 = .ok (.iadd, 1) := by decide +kernel
theorem d_law_313 : decode code 313 = .ok (.iaload, 1) := by decide +kernel
theorem d_law_314 : decode code 314 = .ok (.invokevirtual 20, 3) := by decide +kernel
theorem d_law_317 : decode code 317 = .ok (.aload_n 2, 1) := by decide +kernel
theorem d_law_318 : decode code 318 = .ok (.aload_n 0, 1) := by decide +kernel
theorem d_law_319 : decode code 319 = .ok (.iload_n 3, 1) := by decide +kernel
theorem d_law_320 : decode code 320 = .ok (.iconst 1, 1) := by decide +kernel
theorem d_law_321 : decode code 321 = .ok (.iadd, 1) := by decide +kernel
theorem d_law_322 : decode code 322 = .ok (.iaload, 1) := by decide +kernel
theorem d_law_323 : decode code 323 = .ok (.aload_n 0, 1) := by decide +kernel
theorem d_law_324 : decode code 324 = .ok (.iload_n 3, 1) := by decide +kernel
theorem d_law_325 : decode code 325 = .ok (.iconst 2, 1) := by decide +kernel
theorem d_law_326 : decode code 326 = .ok (.iadd, 1) := by decide +kernel
theorem d_law_327 : decode code 327 = .ok (.iaload, 1) := by decide +kernel
theorem d_law_328 : decode code 328 = .ok (.invokevirtual 24, 3) := by decide +kernel
theorem d_law_331 : decode code 331 = .ok (.if_icmp .eq 372, 3) := by decide +kernel
theorem d_law_334 : decode code 334 = .ok (.iconst 0, 1) := by decide +kernel
theorem d_law_335 : decode code 335 = .ok (.ireturn, 1) := by decide +kernel
theorem d_law_336 : decode code 336 = .ok (.aload_n 1, 1) := by decide +kernel
theorem d_law_337 : decode code 337 = .ok (.invokevirtual 25, 3) := by decide +kernel
theorem d_law_340 : decode code 340 = .ok (.aload_n 2, 1) := by decide +kernel
theorem d_law_341 : decode code 341 = .ok (.invokevirtual 28, 3) := by decide +kernel
theorem d_law_344 : decode code 344 = .ok (.goto 359, 3) := by decide +kernel
theorem d_law_347 : decode code 347 = .ok (.aload_n 1, 1) := by decide +kernel
theorem d_law_348 : decode code 348 = .ok (.aload_n 0, 1) := by decide +kernel
theorem d_law_349 : decode code 349 = .ok (.iload_n 3, 1) := by decide +kernel
theorem d_law_350 : decode code 350 = .ok (.iconst 1, 1) := by decide +kernel
theorem d_law_351 : decode code 351 = .ok (.iadd, 1) := by decide +kernel
theorem d_law_352 : decode code 352 = .ok (.iaload, 1) := by decide +kernel
theorem d_law_353 : decode code 353 = .ok (.invokevirtual 29, 3) := by decide +kernel
theorem d_law_356 : decode code 356 = .ok (.aload_n 2, 1) := by decide +kernel
theorem d_law_357 : decode code 357 = .ok (.aload_n 0, 1) := by decide +kernel
theorem d_law_358 : decode code 358 = .ok (.iload_n 3, 1) := by decide +kernel
theorem d_law_359 : decode code 359 = .ok (.iconst 1, 1) := by decide +kernel
theorem d_law_360 : decode code 360 = .ok (.iadd, 1) := by decide +kernel
theorem d_law_361 : decode code 361 = .ok (.iaload, 1) := by decide +kernel
theorem d_law_362 : decode code 362 = .ok (.invokevirtual 33, 3) := by decide +kernel
theorem d_law_365 : decode code 365 = .ok (.if_icmp .eq 338, 3) := by decide +kernel
theorem d_law_368 : decode code 368 = .ok (.iconst 0, 1) := by decide +kernel
theorem d_law_369 : decode code 369 = .ok (.ireturn, 1) := by decide +kernel
theorem d_law_370 : decode code 370 = .ok (.aload_n 1, 1) := by decide +kernel
theorem d_law_371 : decode code 371 = .ok (.aload_n 0, 1) := by decide +kernel
theorem d_law_372 : decode code 372 = .ok (.iload_n 3, 1) := by decide +kernel
theorem d_law_373 : decode code 373 = .ok (.iconst 1, 1) := by decide +kernel
theorem d_law_374 : decode code 374 = .ok (.iadd, 1) := by decide +kernel
theorem d_law_375 : decode code 375 = .ok (.iaload, 1) := by decide +kernel
theorem d_law_376 : decode code 376 = .ok (.invokevirtual 34, 3) := by decide +kernel
theorem d_law_379 : decode code 379 = .ok (.aload_n 2, 1) := by decide +kernel
theorem d_law_380 : decode code 380 = .ok (.aload_n 0, 1) := by decide +kernel
theorem d_law_381 : decode code 381 = .ok (.iload_n 3, 1) := by decide +kernel
theorem d_law_382 : decode code 382 = .ok (.iconst 1, 1) := by decide +kernel
theorem d_law_383 : decode code 383 = .ok (.iadd, 1) := by decide +kernel
theorem d_law_384 : decode code 384 = .ok (.iaload, 1) := by decide +kernel
theorem d_law_385 : decode code 385 = .ok (.invokevirtual 38, 3) := by decide +kernel
theorem d_law_388 : decode code 388 = .ok (.lcmp, 1) := by decide +kernel
theorem d_law_389 : decode code 389 = .ok (.ifCond .eq 314, 3) := by decide +kernel
theorem d_law_392 : decode code 392 = .ok (.iconst 0, 1) := by decide +kernel
theorem d_law_393 : decode code 393 = .ok (.ireturn, 1) := by decide +kernel
theorem d_law_394 : decode code 394 = .ok (.aload_n 1, 1) := by decide +kernel
theorem d_law_395 : decode code 395 = .ok (.aload_n 0, 1) := by decide +kernel
theorem d_law_396 : decode code 396 = .ok (.iload_n 3, 1) := by decide +kernel
theorem d_law_397 : decode code 397 = .ok (.iconst 1, 1) := by decide +kernel
theorem d_law_398 : decode code 398 = .ok (.iadd, 1) := by decide +kernel
theorem d_law_399 : decode code 399 = .ok (.iaload, 1) := by decide +kernel
theorem d_law_400 : decode code 400 = .ok (.aload_n 0, 1) := by decide +kernel
theorem d_law_401 : decode code 401 = .ok (.iload_n 3, 1) := by decide +kernel
theorem d_law_402 : decode code 402 = .ok (.iconst 2, 1) := by decide +kernel
theorem d_law_403 : decode code 403 = .ok (.iadd, 1) := by decide +kernel
theorem d_law_404 : decode code 404 = .ok (.iaload, 1) := by decide +kernel
theorem d_law_405 : decode code 405 = .ok (.invokevirtual 39, 3) := by decide +kernel
theorem d_law_408 : decode code 408 = .ok (.aload_n 2, 1) := by decide +kernel
theorem d_law_409 : decode code 409 = .ok (.aload_n 0, 1) := by decide +kernel
theorem d_law_410 : decode code 410 = .ok (.iload_n 3, 1) := by decide +kernel
theorem d_law_411 : decode code 411 = .ok (.iconst 1, 1) := by decide +kernel
theorem d_law_412 : decode code 412 = .ok (.iadd, 1) := by decide +kernel
theorem d_law_413 : decode code 413 = .ok (.iaload, 1) := by decide +kernel
theorem d_law_414 : decode code 414 = .ok (.aload_n 0, 1) := by decide +kernel
theorem d_law_415 : decode code 415 = .ok (.iload_n 3, 1) := by decide +kernel
theorem d_law_416 : decode code 416 = .ok (.iconst 2, 1) := by decide +kernel
theorem d_law_417 : decode code 417 = .ok (.iadd, 1) := by decide +kernel
theorem d_law_418 : decode code 418 = .ok (.iaload, 1) := by decide +kernel
theorem d_law_419 : decode code 419 = .ok (.invokevirtual 43, 3) := by decide +kernel
theorem d_law_422 : decode code 422 = .ok (.lcmp, 1) := by decide +kernel
theorem d_law_423 : decode code 423 = .ok (.ifCond .eq 280, 3) := by decide +kernel
theorem d_law_426 : decode code 426 = .ok (.iconst 0, 1) := by decide +kernel
theorem d_law_427 : decode code 427 = .ok (.ireturn, 1) := by decide +kernel
theorem d_law_428 : decode code 428 = .ok (.aload_n 1, 1) := by decide +kernel
theorem d_law_429 : decode code 429 = .ok (.aload_n 0, 1) := by decide +kernel
theorem d_law_430 : decode code 430 = .ok (.iload_n 3, 1) := by decide +kernel
theorem d_law_431 : decode code 431 = .ok (.iconst 1, 1) := by decide +kernel
theorem d_law_432 : decode code 432 = .ok (.iadd, 1) := by decide +kernel
theorem d_law_433 : decode code 433 = .ok (.iaload, 1) := by decide +kernel
theorem d_law_434 : decode code 434 = .ok (.i2l, 1) := by decide +kernel
theorem d_law_435 : decode code 435 = .ok (.bipush 32, 2) := by decide +kernel
theorem d_law_437 : decode code 437 = .ok (.lshl, 1) := by decide +kernel
theorem d_law_438 : decode code 438 = .ok (.aload_n 0, 1) := by decide +kernel
theorem d_law_439 : decode code 439 = .ok (.iload_n 3, 1) := by decide +kernel
theorem d_law_440 : decode code 440 = .ok (.iconst 2, 1) := by decide +kernel
theorem d_law_441 : decode code 441 = .ok (.iadd, 1) := by decide +kernel
theorem d_law_442 : decode code 442 = .ok (.iaload, 1) := by decide +kernel
theorem d_law_443 : decode code 443 = .ok (.i2l, 1) := by decide +kernel
theorem d_law_444 : decode code 444 = .ok (.ldc2_w 13, 3) := by decide +kernel
theorem d_law_447 : decode code 447 = .ok (.land, 1) := by decide +kernel
theorem d_law_448 : decode code 448 = .ok (.lor, 1) := by decide +kernel
theorem d_law_449 : decode code 449 = .ok (.aload_n 0, 1) := by decide +kernel
theorem d_law_450 : decode code 450 = .ok (.iload_n 3, 1) := by decide +kernel
theorem d_law_451 : decode code 451 = .ok (.iconst 3, 1) := by decide +kernel
theorem d_law_452 : decode code 452 = .ok (.iadd, 1) := by decide +kernel
theorem d_law_453 : decode code 453 = .ok (.iaload, 1) := by decide +kernel
theorem d_law_454 : decode code 454 = .ok (.i2l, 1) := by decide +kernel
theorem d_law_455 : decode code 455 = .ok (.bipush 32, 2) := by decide +kernel
theorem d_law_457 : decode code 457 = .ok (.lshl, 1) := by decide +kernel
theorem d_law_458 : decode code 458 = .ok (.aload_n 0, 1) := by decide +kernel
theorem d_law_459 : decode code 459 = .ok (.iload_n 3, 1) := by decide +kernel
theorem d_law_460 : decode code 460 = .ok (.iconst 4, 1) := by decide +kernel
theorem d_law_461 : decode code 461 = .ok (.iadd, 1) := by decide +kernel
theorem d_law_462 : decode code 462 = .ok (.iaload, 1) := by decide +kernel
theorem d_law_463 : decode code 463 = .ok (.i2l, 1) := by decide +kernel
theorem d_law_464 : decode code 464 = .ok (.ldc2_w 13, 3) := by decide +kernel
theorem d_law_467 : decode code 467 = .ok (.land, 1) := by decide +kernel
theorem d_law_468 : decode code 468 = .ok (.lor, 1) := by decide +kernel
theorem d_law_469 : decode code 469 = .ok (.aload_n 0, 1) := by decide +kernel
theorem d_law_470 : decode code 470 = .ok (.iload_n 3, 1) := by decide +kernel
theorem d_law_471 : decode code 471 = .ok (.iconst 5, 1) := by decide +kernel
theorem d_law_472 : decode code 472 = .ok (.iadd, 1) := by decide +kernel
theorem d_law_473 : decode code 473 = .ok (.iaload, 1) := by decide +kernel
theorem d_law_474 : decode code 474 = .ok (.invokevirtual 44, 3) := by decide +kernel
theorem d_law_477 : decode code 477 = .ok (.aload_n 2, 1) := by decide +kernel
theorem d_law_478 : decode code 478 = .ok (.aload_n 0, 1) := by decide +kernel
theorem d_law_479 : decode code 479 = .ok (.iload_n 3, 1) := by decide +kernel
theorem d_law_480 : decode code 480 = .ok (.iconst 1, 1) := by decide +kernel
theorem d_law_481 : decode code 481 = .ok (.iadd, 1) := by decide +kernel
theorem d_law_482 : decode code 482 = .ok (.iaload, 1) := by decide +kernel
theorem d_law_483 : decode code 483 = .ok (.i2l, 1) := by decide +kernel
theorem d_law_484 : decode code 484 = .ok (.bipush 32, 2) := by decide +kernel
theorem d_law_486 : decode code 486 = .ok (.lshl, 1) := by decide +kernel
theorem d_law_487 : decode code 487 = .ok (.aload_n 0, 1) := by decide +kernel
theorem d_law_488 : decode code 488 = .ok (.iload_n 3, 1) := by decide +kernel
theorem d_law_489 : decode code 489 = .ok (.iconst 2, 1) := by decide +kernel
theorem d_law_490 : decode code 490 = .ok (.iadd, 1) := by decide +kernel
theorem d_law_491 : decode code 491 = .ok (.iaload, 1) := by decide +kernel
theorem d_law_492 : decode code 492 = .ok (.i2l, 1) := by decide +kernel
theorem d_law_493 : decode code 493 = .ok (.ldc2_w 13, 3) := by decide +kernel
theorem d_law_496 : decode code 496 = .ok (.land, 1) := by decide +kernel
theorem d_law_497 : decode code 497 = .ok (.lor, 1) := by decide +kernel
theorem d_law_498 : decode code 498 = .ok (.aload_n 0, 1) := by decide +kernel
theorem d_law_499 : decode code 499 = .ok (.iload_n 3, 1) := by decide +kernel
theorem d_law_500 : decode code 500 = .ok (.iconst 3, 1) := by decide +kernel
theorem d_law_501 : decode code 501 = .ok (.iadd, 1) := by decide +kernel
theorem d_law_502 : decode code 502 = .ok (.iaload, 1) := by decide +kernel
theorem d_law_503 : decode code 503 = .ok (.i2l, 1) := by decide +kernel
theorem d_law_504 : decode code 504 = .ok (.bipush 32, 2) := by decide +kernel
theorem d_law_506 : decode code 506 = .ok (.lshl, 1) := by decide +kernel
theorem d_law_507 : decode code 507 = .ok (.aload_n 0, 1) := by decide +kernel
theorem d_law_508 : decode code 508 = .ok (.iload_n 3, 1) := by decide +kernel
theorem d_law_509 : decode code 509 = .ok (.iconst 4, 1) := by decide +kernel
theorem d_law_510 : decode code 510 = .ok (.iadd, 1) := by decide +kernel
theorem d_law_511 : decode code 511 = .ok (.iaload, 1) := by decide +kernel
theorem d_law_512 : decode code 512 = .ok (.i2l, 1) := by decide +kernel
theorem d_law_513 : decode code 513 = .ok (.ldc2_w 13, 3) := by decide +kernel
theorem d_law_516 : decode code 516 = .ok (.land, 1) := by decide +kernel
theorem d_law_517 : decode code 517 = .ok (.lor, 1) := by decide +kernel
theorem d_law_518 : decode code 518 = .ok (.aload_n 0, 1) := by decide +kernel
theorem d_law_519 : decode code 519 = .ok (.iload_n 3, 1) := by decide +kernel
theorem d_law_520 : decode code 520 = .ok (.iconst 5, 1) := by decide +kernel
theorem d_law_521 : decode code 521 = .ok (.iadd, 1) := by decide +kernel
theorem d_law_522 : decode code 522 = .ok (.iaload, 1) := by decide +kernel
theorem d_law_523 : decode code 523 = .ok (.invokevirtual 48, 3) := by decide +kernel
theorem d_law_526 : decode code 526 = .ok (.lcmp, 1) := by decide +kernel
theorem d_law_527 : decode code 527 = .ok (.ifCond .eq 176, 3) := by decide +kernel
theorem d_law_530 : decode code 530 = .ok (.iconst 0, 1) := by decide +kernel
theorem d_law_531 : decode code 531 = .ok (.ireturn, 1) := by decide +kernel
theorem d_law_532 : decode code 532 = .ok (.aload_n 1, 1) := by decide +kernel
theorem d_law_533 : decode code 533 = .ok (.aload_n 0, 1) := by decide +kernel
theorem d_law_534 : decode code 534 = .ok (.iload_n 3, 1) := by decide +kernel
theorem d_law_535 : decode code 535 = .ok (.iconst 1, 1) := by decide +kernel
theorem d_law_536 : decode code 536 = .ok (.iadd, 1) := by decide +kernel
theorem d_law_537 : decode code 537 = .ok (.iaload, 1) := by decide +kernel
theorem d_law_538 : decode code 538 = .ok (.aload_n 0, 1) := by decide +kernel
theorem d_law_539 : decode code 539 = .ok (.iload_n 3, 1) := by decide +kernel
theorem d_law_540 : decode code 540 = .ok (.iconst 2, 1) := by decide +kernel
theorem d_law_541 : decode code 541 = .ok (.iadd, 1) := by decide +kernel
theorem d_law_542 : decode code 542 = .ok (.iaload, 1) := by decide +kernel
theorem d_law_543 : decode code 543 = .ok (.invokevirtual 49, 3) := by decide +kernel
theorem d_law_546 : decode code 546 = .ok (.aload_n 2, 1) := by decide +kernel
theorem d_law_547 : decode code 547 = .ok (.aload_n 0, 1) := by decide +kernel
theorem d_law_548 : decode code 548 = .ok (.iload_n 3, 1) := by decide +kernel
theorem d_law_549 : decode code 549 = .ok (.iconst 1, 1) := by decide +kernel
theorem d_law_550 : decode code 550 = .ok (.iadd, 1) := by decide +kernel
theorem d_law_551 : decode code 551 = .ok (.iaload, 1) := by decide +kernel
theorem d_law_552 : decode code 552 = .ok (.aload_n 0, 1) := by decide +kernel
theorem d_law_553 : decode code 553 = .ok (.iload_n 3, 1) := by decide +kernel
theorem d_law_554 : decode code 554 = .ok (.iconst 2, 1) := by decide +kernel
theorem d_law_555 : decode code 555 = .ok (.iadd, 1) := by decide +kernel
theorem d_law_556 : decode code 556 = .ok (.iaload, 1) := by decide +kernel
theorem d_law_557 : decode code 557 = .ok (.invokevirtual 52, 3) := by decide +kernel
theorem d_law_560 : decode code 560 = .ok (.lcmp, 1) := by decide +kernel
theorem d_law_561 : decode code 561 = .ok (.ifCond .eq 142, 3) := by decide +kernel
theorem d_law_564 : decode code 564 = .ok (.iconst 0, 1) := by decide +kernel
theorem d_law_565 : decode code 565 = .ok (.ireturn, 1) := by decide +kernel
theorem d_law_566 : decode code 566 = .ok (.aload_n 1, 1) := by decide +kernel
theorem d_law_567 : decode code 567 = .ok (.aload_n 0, 1) := by decide +kernel
theorem d_law_568 : decode code 568 = .ok (.iload_n 3, 1) := by decide +kernel
theorem d_law_569 : decode code 569 = .ok (.iconst 1, 1) := by decide +kernel
theorem d_law_570 : decode code 570 = .ok (.iadd, 1) := by decide +kernel
theorem d_law_571 : decode code 571 = .ok (.iaload, 1) := by decide +kernel
theorem d_law_572 : decode code 572 = .ok (.i2l, 1) := by decide +kernel
theorem d_law_573 : decode code 573 = .ok (.bipush 32, 2) := by decide +kernel
theorem d_law_575 : decode code 575 = .ok (.lshl, 1) := by decide +kernel
theorem d_law_576 : decode code 576 = .ok (.aload_n 0, 1) := by decide +kernel
theorem d_law_577 : decode code 577 = .ok (.iload_n 3, 1) := by decide +kernel
theorem d_law_578 : decode code 578 = .ok (.iconst 2, 1) := by decide +kernel
theorem d_law_579 : decode code 579 = .ok (.iadd, 1) := by decide +kernel
theorem d_law_580 : decode code 580 = .ok (.iaload, 1) := by decide +kernel
theorem d_law_581 : decode code 581 = .ok (.i2l, 1) := by decide +kernel
theorem d_law_582 : decode code 582 = .ok (.ldc2_w 13, 3) := by decide +kernel
theorem d_law_585 : decode code 585 = .ok (.land, 1) := by decide +kernel
theorem d_law_586 : decode code 586 = .ok (.lor, 1) := by decide +kernel
theorem d_law_587 : decode code 587 = .ok (.aload_n 0, 1) := by decide +kernel
theorem d_law_588 : decode code 588 = .ok (.iload_n 3, 1) := by decide +kernel
theorem d_law_589 : decode code 589 = .ok (.iconst 3, 1) := by decide +kernel
theorem d_law_590 : decode code 590 = .ok (.iadd, 1) := by decide +kernel
theorem d_law_591 : decode code 591 = .ok (.iaload, 1) := by decide +kernel
theorem d_law_592 : decode code 592 = .ok (.invokevirtual 53, 3) := by decide +kernel
theorem d_law_595 : decode code 595 = .ok (.aload_n 2, 1) := by decide +kernel
theorem d_law_596 : decode code 596 = .ok (.aload_n 0, 1) := by decide +kernel
theorem d_law_597 : decode code 597 = .ok (.iload_n 3, 1) := by decide +kernel
theorem d_law_598 : decode code 598 = .ok (.iconst 1, 1) := by decide +kernel
theorem d_law_599 : decode code 599 = .ok (.iadd, 1) := by decide +kernel
theorem d_law_600 : decode code 600 = .ok (.iaload, 1) := by decide +kernel
theorem d_law_601 : decode code 601 = .ok (.i2l, 1) := by decide +kernel
theorem d_law_602 : decode code 602 = .ok (.bipush 32, 2) := by decide +kernel
theorem d_law_604 : decode code 604 = .ok (.lshl, 1) := by decide +kernel
theorem d_law_605 : decode code 605 = .ok (.aload_n 0, 1) := by decide +kernel
theorem d_law_606 : decode code 606 = .ok (.iload_n 3, 1) := by decide +kernel
theorem d_law_607 : decode code 607 = .ok (.iconst 2, 1) := by decide +kernel
theorem d_law_608 : decode code 608 = .ok (.iadd, 1) := by decide +kernel
theorem d_law_609 : decode code 609 = .ok (.iaload, 1) := by decide +kernel
theorem d_law_610 : decode code 610 = .ok (.i2l, 1) := by decide +kernel
theorem d_law_611 : decode code 611 = .ok (.ldc2_w 13, 3) := by decide +kernel
theorem d_law_614 : decode code 614 = .ok (.land, 1) := by decide +kernel
theorem d_law_615 : decode code 615 = .ok (.lor, 1) := by decide +kernel
theorem d_law_616 : decode code 616 = .ok (.aload_n 0, 1) := by decide +kernel
theorem d_law_617 : decode code 617 = .ok (.iload_n 3, 1) := by decide +kernel
theorem d_law_618 : decode code 618 = .ok (.iconst 3, 1) := by decide +kernel
theorem d_law_619 : decode code 619 = .ok (.iadd, 1) := by decide +kernel
theorem d_law_620 : decode code 620 = .ok (.iaload, 1) := by decide +kernel
theorem d_law_621 : decode code 621 = .ok (.invokevirtual 57, 3) := by decide +kernel
theorem d_law_624 : decode code 624 = .ok (.lcmp, 1) := by decide +kernel
theorem d_law_625 : decode code 625 = .ok (.ifCond .eq 78, 3) := by decide +kernel
theorem d_law_628 : decode code 628 = .ok (.iconst 0, 1) := by decide +kernel
theorem d_law_629 : decode code 629 = .ok (.ireturn, 1) := by decide +kernel
theorem d_law_630 : decode code 630 = .ok (.aload_n 1, 1) := by decide +kernel
theorem d_law_631 : decode code 631 = .ok (.invokevirtual 58, 3) := by decide +kernel
theorem d_law_634 : decode code 634 = .ok (.aload_n 2, 1) := by decide +kernel
theorem d_law_635 : decode code 635 = .ok (.invokevirtual 62, 3) := by decide +kernel
theorem d_law_638 : decode code 638 = .ok (.if_icmp .eq 65, 3) := by decide +kernel
theorem d_law_641 : decode code 641 = .ok (.iconst 0, 1) := by decide +kernel
theorem d_law_642 : decode code 642 = .ok (.ireturn, 1) := by decide +kernel
theorem d_law_643 : decode code 643 = .ok (.aload_n 1, 1) := by decide +kernel
theorem d_law_644 : decode code 644 = .ok (.invokevirtual 63, 3) := by decide +kernel
theorem d_law_647 : decode code 647 = .ok (.aload_n 2, 1) := by decide +kernel
theorem d_law_648 : decode code 648 = .ok (.invokevirtual 67, 3) := by decide +kernel
theorem d_law_651 : decode code 651 = .ok (.if_icmp .eq 52, 3) := by decide +kernel
theorem d_law_654 : decode code 654 = .ok (.iconst 0, 1) := by decide +kernel
theorem d_law_655 : decode code 655 = .ok (.ireturn, 1) := by decide +kernel
theorem d_law_656 : decode code 656 = .ok (.aload_n 1, 1) := by decide +kernel
theorem d_law_657 : decode code 657 = .ok (.aload_n 0, 1) := by decide +kernel
theorem d_law_658 : decode code 658 = .ok (.iload_n 3, 1) := by decide +kernel
theorem d_law_659 : decode code 659 = .ok (.iconst 1, 1) := by decide +kernel
theorem d_law_660 : decode code 660 = .ok (.iadd, 1) := by decide +kernel
theorem d_law_661 : decode code 661 = .ok (.iaload, 1) := by decide +kernel
theorem d_law_662 : decode code 662 = .ok (.invokevirtual 68, 3) := by decide +kernel
theorem d_law_665 : decode code 665 = .ok (.aload_n 2, 1) := by decide +kernel
theorem d_law_666 : decode code 666 = .ok (.aload_n 0, 1) := by decide +kernel
theorem d_law_667 : decode code 667 = .ok (.iload_n 3, 1) := by decide +kernel
theorem d_law_668 : decode code 668 = .ok (.iconst 1, 1) := by decide +kernel
theorem d_law_669 : decode code 669 = .ok (.iadd, 1) := by decide +kernel
theorem d_law_670 : decode code 670 = .ok (.iaload, 1) := by decide +kernel
theorem d_law_671 : decode code 671 = .ok (.invokevirtual 72, 3) := by decide +kernel
theorem d_law_674 : decode code 674 = .ok (.if_icmp .eq 29, 3) := by decide +kernel
theorem d_law_677 : decode code 677 = .ok (.iconst 0, 1) := by decide +kernel
theorem d_law_678 : decode code 678 = .ok (.ireturn, 1) := by decide +kernel
theorem d_law_679 : decode code 679 = .ok (.aload_n 1, 1) := by decide +kernel
theorem d_law_680 : decode code 680 = .ok (.aload_n 0, 1) := by decide +kernel
theorem d_law_681 : decode code 681 = .ok (.iload_n 3, 1) := by decide +kernel
theorem d_law_682 : decode code 682 = .ok (.iconst 1, 1) := by decide +kernel
theorem d_law_683 : decode code 683 = .ok (.iadd, 1) := by decide +kernel
theorem d_law_684 : decode code 684 = .ok (.iaload, 1) := by decide +kernel
theorem d_law_685 : decode code 685 = .ok (.invokevirtual 73, 3) := by decide +kernel
theorem d_law_688 : decode code 688 = .ok (.aload_n 2, 1) := by decide +kernel
theorem d_law_689 : decode code 689 = .ok (.aload_n 0, 1) := by decide +kernel
theorem d_law_690 : decode code 690 = .ok (.iload_n 3, 1) := by decide +kernel
theorem d_law_691 : decode code 691 = .ok (.iconst 1, 1) := by decide +kernel
theorem d_law_692 : decode code 692 = .ok (.iadd, 1) := by decide +kernel
theorem d_law_693 : decode code 693 = .ok (.iaload, 1) := by decide +kernel
theorem d_law_694 : decode code 694 = .ok (.invokevirtual 76, 3) := by decide +kernel
theorem d_law_697 : decode code 697 = .ok (.lcmp, 1) := by decide +kernel
theorem d_law_698 : decode code 698 = .ok (.ifCond .eq 5, 3) := by decide +kernel
theorem d_law_701 : decode code 701 = .ok (.iconst 0, 1) := by decide +kernel
theorem d_law_702 : decode code 702 = .ok (.ireturn, 1) := by decide +kernel
theorem d_law_703 : decode code 703 = .ok (.iinc 3 10, 3) := by decide +kernel
theorem d_law_706 : decode code 706 = .ok (.goto (-688), 3) := by decide +kernel
theorem d_law_709 : decode code 709 = .ok (.iconst 1, 1) := by decide +kernel
theorem d_law_710 : decode code 710 = .ok (.ireturn, 1) := by decide +kernel
end
section
/-! ===== values: a long by its bits, an int by its number, a boolean ===== -/
def lB (b : BitVec 64) : Int64 := Int64.ofBitVec b
theorem lB_bv (b : BitVec 64) : (lB b).toBitVec = b := rfl
theorem lB_of (x : Int64) : lB x.toBitVec = x := Int64.toBitVec_inj.mp rfl
theorem lB_inj {a b : BitVec 64} (h : lB a = lB b) : a = b := congrArg Int64.toBitVec h
theorem lB_and (a b : BitVec 64) : lB a &&& lB b = lB (a &&& b) := Int64.toBitVec_inj.mp rfl
theorem lB_or (a b : BitVec 64) : lB a ||| lB b = lB (a ||| b) := Int64.toBitVec_inj.mp rfl
theorem lB_xor (a b : BitVec 64) : lB a ^^^ lB b = lB (a ^^^ b) := Int64.toBitVec_inj.mp rfl
theorem lB_sub (a b : BitVec 64) : lB a - lB b = lB (a - b) := Int64.toBitVec_inj.mp rfl
theorem lB_c : ∀ k, k < 64 → ((nI k).toInt64 &&& 63) = lN k := by decide +kernel
theorem lB_cu : ∀ k, k < 64 → ((nI k).toInt64.toUInt64 &&& Int64.toUInt64 63) = UInt64.ofNat k := by decide +kernel
theorem lB_sm : ∀ k, k < 64 → (BitVec.ofNat 64 k).smod 64 = BitVec.ofNat 64 k := by decide +kernel
theorem lB_ushr {a : BitVec 64} {k : Nat} (hk : k < 64) : ((lB a).toUInt64 >>> ((nI k).toInt64.toUInt64 &&& Int64.toUInt64 63)).toInt64 = lB (a >>> k) := by
  rw [lB_cu k hk]
  apply Int64.toBitVec_inj.mp
  show ((lB a).toUInt64 >>> UInt64.ofNat k).toBitVec = a >>> k
  have h1 : (UInt64.ofNat k).toBitVec = BitVec.ofNat 64 k := rfl
  have h3 : (BitVec.ofNat 64 k % 64#64).toNat = k := by
    rw [BitVec.toNat_umod, BitVec.toNat_ofNat, Nat.mod_eq_of_lt (show k < 2 ^ 64 by omega)]
    exact Nat.mod_eq_of_lt hk
  rw [UInt64.toBitVec_shiftRight, h1]
  show a >>> (BitVec.ofNat 64 k % 64#64).toNat = _
  rw [h3]
theorem lB_shl {a : BitVec 64} {k : Nat} (hk : k < 64) : lB a <<< ((nI k).toInt64 &&& 63) = lB (a <<< k) := by
  rw [lB_c k hk]
  apply Int64.toBitVec_inj.mp
  rw [Int64.toBitVec_shiftLeft]
  show a <<< ((BitVec.ofNat 64 k).smod 64) = a <<< k
  rw [lB_sm k hk, BitVec.shiftLeft_eq', BitVec.toNat_ofNat, Nat.mod_eq_of_lt (show k < 2 ^ 64 by omega)]
theorem lB_lN (n : Nat) : lN n = lB (BitVec.ofNat 64 n) := rfl
theorem lB_eq_iff {a b : BitVec 64} : lB a = lB b ↔ a = b := ⟨lB_inj, fun h => by rw [h]⟩
def bz (b : Bool) : Int32 := if b then 1 else 0
theorem bz_0 {b : Bool} (h : bz b = 0) : b = false := by cases b <;> first | rfl | (exact absurd h (by decide))
theorem bz_1 {b : Bool} (h : ¬ bz b = 0) : b = true := by cases b <;> first | rfl | (exact absurd rfl h)
theorem bz_nz (b : Bool) : narrow .boolean (.int (bz b)) = .int (bz b) := by cases b <;> rfl
theorem bz_fit (b : Bool) : fits .boolean (.int (bz b)) = true := by cases b <;> rfl
theorem bz_inj {a b : Bool} (h : bz a = bz b) : a = b := by cases a <;> cases b <;> first | rfl | (exact absurd h (by decide))
/-- an int literal as a number -/
theorem nI_lit (n : Nat) : (OfNat.ofNat n : Int32) = nI n := rfl
theorem nI_mul (a b : Nat) : nI a * nI b = nI (a * b) := pk_mul a b
theorem nI_sub {a b : Nat} (h : b ≤ a) : nI a - nI b = nI (a - b) := pk_sub h
theorem nI_and31 : ∀ k, k < 32 → ((nI k &&& 31).toBitVec.smod 32).toNat = k := by decide +kernel
theorem nI_shl {n k : Nat} (hk : k < 32) (h : n * 2 ^ k < 2 ^ 32) : nI n <<< (nI k &&& 31) = nI (n * 2 ^ k) := pk_shlN _ k (nI_and31 k hk) h
theorem nI_shr {n k : Nat} (hn : n < 2 ^ 31) (hk : k < 32) : nI n >>> (nI k &&& 31) = nI (n / 2 ^ k) := pk_shrN hn _ k (nI_and31 k hk)
theorem nI_andN (a b : Nat) : nI a &&& nI b = nI (a &&& b) := by
  apply Int32.toBitVec_inj.mp
  apply BitVec.eq_of_toNat_eq
  show (BitVec.ofNat 32 a &&& BitVec.ofNat 32 b).toNat = (BitVec.ofNat 32 (a &&& b)).toNat
  rw [BitVec.toNat_and, BitVec.toNat_ofNat, BitVec.toNat_ofNat, BitVec.toNat_ofNat, Nat.and_mod_two_pow]
theorem nI_xorN (a b : Nat) : nI a ^^^ nI b = nI (a ^^^ b) := by
  apply Int32.toBitVec_inj.mp
  apply BitVec.eq_of_toNat_eq
  show (BitVec.ofNat 32 a ^^^ BitVec.ofNat 32 b).toNat = (BitVec.ofNat 32 (a ^^^ b)).toNat
  rw [BitVec.toNat_xor, BitVec.toNat_ofNat, BitVec.toNat_ofNat, BitVec.toNat_ofNat, Nat.xor_mod_two_pow]
theorem nI_bit {n k : Nat} (hn : n < 2 ^ 31) (hk : k < 32) : nI n >>> (nI k &&& 31) &&& nI 1 = bz (n.testBit k) := by
  rw [nI_shr hn hk, nI_andN, Nat.and_comm, show (1 : Nat) = 2 ^ 1 - 1 by rfl, Nat.and_comm, Nat.and_two_pow_sub_one_eq_mod]
  have h2 : n.testBit k = decide (n / 2 ^ k % 2 = 1) := Nat.testBit_eq_decide_div_mod_eq
  rw [h2]
  rcases Nat.mod_two_eq_zero_or_one (n / 2 ^ k) with h | h
  · rw [show (2 : Nat) ^ 1 = 2 by rfl, h]; rfl
  · rw [show (2 : Nat) ^ 1 = 2 by rfl, h]; rfl
theorem bz_l (b : Bool) : (bz b).toInt64 = lB (if b then 1#64 else 0#64) := by cases b <;> rfl
theorem bv_lsb (a : BitVec 64) : a &&& 1#64 = if a.getLsbD 0 then 1#64 else 0#64 := by
  apply BitVec.eq_of_getLsbD_eq
  intro i hi
  rw [BitVec.getLsbD_and]
  by_cases h0 : i = 0
  · subst h0
    cases a.getLsbD 0 <;> simp
  · have : (1#64).getLsbD i = false := by
      rw [BitVec.getLsbD_one]; simp [h0]
    rw [this]
    cases a.getLsbD 0 <;> simp [h0]
theorem bv_bit (a : BitVec 64) (k : Nat) : (a >>> k) &&& 1#64 = if a.getLsbD k then 1#64 else 0#64 := by
  rw [bv_lsb, BitVec.getLsbD_ushiftRight]; simp
theorem bv_ite_eq {b c : Bool} : ((if b then 1#64 else 0#64) = (if c then 1#64 else 0#64)) ↔ b = c := by cases b <;> cases c <;> decide
theorem bv_ite_1 {b : Bool} : ((if b then 1#64 else 0#64) = 1#64) ↔ b = true := by cases b <;> decide
/-- a byte of a byte array, as the number that it was made of -/
def sb (n : Nat) : Int32 := (nI n).toInt8.toInt32
theorem sb_255 {n : Nat} (h : n < 256) : sb n &&& 255 = nI n := (show ∀ n, n < 256 → sb n &&& 255 = nI n by decide +kernel) n h
theorem sb_0 : (0 : Int32) = sb 0 := rfl
theorem sb_nar (n : Nat) : vp_nar .byte (sb n) = sb n := pk_vb _
theorem clampN {n : Nat} (h : n < 2 ^ 31) : (nI n).toNatClampNeg = n := nI_clamp h
end
section
/-! ===== the words beside the tables: nest mates' links; the array types ===== -/
abbrev TY (cL cB cI : ClassId) : List (ClassId × FieldType) := [(cL, .long), (cB, .byte), (cI, .int)]
def NW (U : State) : Prop := ∀ w ∈ n_tbl, va_Nw w U
def KN (D : va_G) (cL cB cI : ClassId) (U : State) : Prop := va_K D classes (TY cL cB cI) U ∧ NW U
theorem nest_on {w : Cond} (h : isNest w = true) : w.onTables = true := by
  cases w <;> first | rfl | (cases h)
theorem NW.warm {s U : State} (hW : s.WarmedH U.vm) (h : NW s) : NW U := by
  intro w hw
  have h1 := h w hw
  have h2 := (List.mem_filter.mp hw).2
  cases w <;> first | exact va_Nw.warmF hW h1 | exact va_Nw.warmM hW h1 | (cases h2)
theorem KN.warm {D : va_G} {cL cB cI : ClassId} {s U : State} (h : KN D cL cB cI s) (hW : s.WarmedH U.vm) : KN D cL cB cI U := ⟨va_K.moved hW.alike h.1, NW.warm hW h.2⟩
theorem KN.call {D : va_G} {cL cB cI : ClassId} {U : State} (g : JFrame) (mk : MethodId) (a : Array Value) (h : KN D cL cB cI U) : KN D cL cB cI (U.calling g mk a) := ⟨va_K.moved (u := U) (U := U.calling g mk a) (Vm.Alike.refl U.vm) h.1, fun w hw => va_Nw.same (nest_on (List.mem_filter.mp hw).2) (show U.vm = (U.calling g mk a).vm from rfl) (h.2 w hw)⟩
theorem RA_inj {s : State} {ty : FieldType} {a b : ClassId} (h1 : va_RA s a ty) (h2 : va_RA s b ty) : a = b := by
  cases ty <;> first | exact Option.some.inj (h1.symm.trans h2) | (obtain ⟨_, _, _, _, _, g1⟩ := h1; obtain ⟨_, _, _, _, _, g2⟩ := h2; exact Option.some.inj (g1.symm.trans g2))
/-! ===== contracts' shapes ===== -/
/-- a method that only reads: its start -/
def RoP (D : va_G) (cL cB cI : ClassId) (ws : va_W) (av : List Value) : Array Value → State → Prop := va_Pc av (fun U => va_P D classes ws U.heap ∧ KN D cL cB cI U)
abbrev RoL (v : Int64) : Array Value → State → Outcome → State → Prop := va_Ql (fun r (_ : Unit) => r = v) (fun _ _ => True) (fun _ => False)
abbrev RoI (v : Int32) : Array Value → State → Outcome → State → Prop := va_Qi (fun r (_ : Unit) => r = v) (fun _ _ => True) (fun _ => False)
/-- a method that writes: its start, the world behind it -/
def MuP (D : va_G) (cL cB cI : ClassId) (ws : va_W) (sz : Nat) (av : List Value) : Array Value → State → Prop := va_Pc av (fun U => U.heap.size = sz ∧ va_P D classes ws U.heap ∧ KN D cL cB cI U ∧ va_D (fun _ => True) ws)
def MuB {S : Type} (D : va_G) (ws : va_W) (sz : Nat) (w1 : S → va_W) : S → State → Prop := fun u t => va_P D classes (w1 u) t.heap ∧ va_D (va_A ws sz) (w1 u)
theorem RoP.blind {D : va_G} {cL cB cI : ClassId} {ws : va_W} {av : List Value} : FrameBlind (RoP D cL cB cI ws av) := fun a U g mk q => ⟨q.1, q.2.1, q.2.2.call g mk a⟩
theorem MuP.blind {D : va_G} {cL cB cI : ClassId} {ws : va_W} {sz : Nat} {av : List Value} : FrameBlind (MuP D cL cB cI ws sz av) := fun a U g mk q => ⟨q.1, q.2.1, q.2.2.1, q.2.2.2.1.call g mk a, q.2.2.2.2⟩
abbrev rmO (f n : Nat) : Room := { frames := f, cells := 0, slots := 0, locals := n }
abbrev rmA (f cl sl n : Nat) : Room := { frames := f, cells := cl, slots := sl, locals := n }
theorem good_c {y : MethodName} {bytes : ByteArray} {maxL : Nat} {ret : Option FieldType} (h : Cond.code y bytes maxL ret ∈ g_tbl) : GoodIn g_tbl (Cond.code y bytes maxL ret :: g_tbl) := by
  intro w hw
  rcases List.mem_cons.mp hw with rfl | hw
  · exact ⟨h, tb_good _ h⟩
  · exact ⟨hw, tb_good _ hw⟩
section RWA
variable {p : Program} {l : Launch} {e : Env} {R : Room} {s : State} {m : MethodId} {args : Array Value} {below : List Frame} {meth : Method} {c : Code} {H : Heap} {locs : List Loc} {cells slots : Nat} {Q : State → Prop}
variable {cc : ByteArray} {pc nL : Nat} {ls : Array Slot} {rest : List Value} {D : va_G} {cL cB cI : ClassId} {ws : va_W} {H0 : Heap} {A : Nat → Prop} {a : Nat}
variable {y : MethodName} {bytes : ByteArray} {maxL index n mc ms : Nat} {ret : Option FieldType} {rm : Room} {own : String}
theorem cw_V (hT : ∀ w ∈ g_tbl, w.before args s = true) (hc : CalV y bytes maxL ret n) (hl : Cond.methodLink own index y ∈ g_tbl) (hrm : rm.cells = mc ∧ rm.slots = ms ∧ rm.frames + 1 ≤ R.frames ∧ 8 + (maxL + 11) + rm.locals ≤ R.locals) : CallW R s args own y.cls index y bytes maxL ret (Cond.code y bytes maxL ret :: g_tbl) rm mc ms n :=
  ⟨callB_of n hT (good_c hc.1.2.2.2) rfl hrm.1 hrm.2.1 (hT _ hc.1.2.2.1) (hT _ hl) hc.2 hrm.2.2, hT _ hc.1.1, hT _ hc.1.2.1⟩
theorem cw_S (hT : ∀ w ∈ g_tbl, w.before args s = true) (hc : CalS y bytes maxL ret n) (hl : Cond.methodLink own index y ∈ g_tbl) (hrm : rm.cells = mc ∧ rm.slots = ms ∧ rm.frames + 1 ≤ R.frames ∧ 8 + (maxL + 11) + rm.locals ≤ R.locals) : CallB R s args own index y bytes maxL ret (Cond.code y bytes maxL ret :: g_tbl) rm mc ms n ∧ (Cond.static y).before args s = true :=
  ⟨callB_of n hT (good_c hc.1.2.2) rfl hrm.1 hrm.2.1 (hT _ hc.1.2.1) (hT _ hl) hc.2 hrm.2.2, hT _ hc.1.1⟩
theorem cw_I (hT : ∀ w ∈ g_tbl, w.before args s = true) (hc : CalI y bytes maxL n) (hl : Cond.methodLink own index y ∈ g_tbl) (hrm : rm.cells = mc ∧ rm.slots = ms ∧ rm.frames + 1 ≤ R.frames ∧ 8 + (maxL + 11) + rm.locals ≤ R.locals) : CallB R s args own index y bytes maxL none (Cond.code y bytes maxL none :: g_tbl) rm mc ms n ∧ y.name = "<init>" ∧ (Cond.instanceMethod y).before args s = true :=
  ⟨callB_of n hT (good_c hc.1.2.2.1) rfl hrm.1 hrm.2.1 (hT _ hc.1.2.1) (hT _ hl) hc.2 hrm.2.2, hc.1.2.2.2, hT _ hc.1.1⟩
theorem rm_ok {st : List Value} (h : (rest.map fun v => v.category).sum ≤ 8) : 2 * (F0 m pc ls st).monitorRoom + (rest.map fun v => v.category).sum ≤ 8 := lv_room h
variable {st As : List Value} {b ci : Nat} {wc : va_W} {Qc : Array Value → State → Outcome → State → Prop} {free : Addr → Prop} {q : vw_C} {fs : List Value}
theorem run_roV (F : CallFix p m c cc nL s args g_tbl own) (hM : Met l y (Cond.code y bytes maxL ret :: g_tbl) rm (RoP D cL cB cI wc (.ref b :: As)) Qc 0 0 free) (hc : CalV y bytes maxL ret n) (hl : Cond.methodLink own index y ∈ g_tbl) (hrm : rm.cells = 0 ∧ rm.slots = 0 ∧ rm.frames + 1 ≤ R.frames ∧ 8 + (maxL + 11) + rm.locals ≤ R.locals) (hK : KN D cL cB cI s) (hPc : va_P D classes wc H) (hcl : classes[ci]? = some q) (hq : q.1 = y.cls) (he : wc[0]? = some (b, .inr (ci, fs))) (hn : As.length = n) (hsz : ls.size = nL) (hst : st = As.reverse ++ .ref b :: rest) (hW : (rest.map fun v => v.category).sum ≤ 8) (hdg : decode cc pc = .ok (.invokevirtual index, 3)) (hcap : cells ≤ R.cells ∧ slots ≤ R.slots) : va_Run p l e R s m args below meth c H locs cells slots 0 0 (F0 m pc ls st) rest (Qc (Value.ref b :: As).toArray) free :=
  va_runV (As := As) (rest := rest) F hM (cw_V F.2.2.2.2 hc hl hrm) ⟨RoP.blind, (by rw [← hq]; exact va_recv hK.1 hPc hcl he), fun U hU hW => ⟨rfl, by rw [hU]; exact hPc, hK.warm hW⟩⟩ rfl hn hsz hst (rm_ok hW) hdg hcap
theorem run_roS (F : CallFix p m c cc nL s args g_tbl own) (hM : Met l y (Cond.code y bytes maxL ret :: g_tbl) rm (RoP D cL cB cI wc As) Qc 0 0 free) (hc : CalS y bytes maxL ret n) (hl : Cond.methodLink own index y ∈ g_tbl) (hrm : rm.cells = 0 ∧ rm.slots = 0 ∧ rm.frames + 1 ≤ R.frames ∧ 8 + (maxL + 11) + rm.locals ≤ R.locals) (hK : KN D cL cB cI s) (hPc : va_P D classes wc H) (hn : As.length = n) (hsz : ls.size = nL) (hst : st = As.reverse ++ rest) (hW : (rest.map fun v => v.category).sum ≤ 8) (hdg : decode cc pc = .ok (.invokestatic index, 3)) (hcap : cells ≤ R.cells ∧ slots ≤ R.slots) : va_Run p l e R s m args below meth c H locs cells slots 0 0 (F0 m pc ls st) rest (Qc As.toArray) free :=
  va_runS (As := As) (rest := rest) F hM (cw_S F.2.2.2.2 hc hl hrm) ⟨RoP.blind, fun U hU hW => ⟨rfl, by rw [hU]; exact hPc, hK.warm hW⟩⟩ rfl hn hsz hst (rm_ok hW) hdg hcap
theorem kk_roL {v : Int64} {av : Array Value} (hr : va_Run p l e R s m args below meth c H locs cells slots 0 0 (F0 m pc ls st) rest (RoL v av) (fun _ => False)) (hS : va_S A H0 H locs) (hP : va_P D classes ws H) (kk : ∀ (H1 : Heap) (locs1 : List Loc), va_P D classes ws H1 → va_S A H0 H1 locs1 → W p l e R s m args below meth c H1 locs1 cells slots Q (F0 m (pc + 3) ls (.long v :: rest))) : W p l e R s m args below meth c H locs cells slots Q (F0 m pc ls st) :=
  va_calll hr hS (fun _ _ h => h.elim) (fun _ h => h.elim) (fun r u t H1 locs1 ht hvm hw hB hz1 hk1 hS => by
    have hw : r = v := hw
    subst hw
    exact kk H1 locs1 (hP.kept (fun k q hq => hk1 q.1 (hP k q hq).lt (fun h => h))) hS)
theorem kk_roI {v : Int32} {av : Array Value} (hr : va_Run p l e R s m args below meth c H locs cells slots 0 0 (F0 m pc ls st) rest (RoI v av) (fun _ => False)) (hS : va_S A H0 H locs) (hP : va_P D classes ws H) (kk : ∀ (H1 : Heap) (locs1 : List Loc), va_P D classes ws H1 → va_S A H0 H1 locs1 → W p l e R s m args below meth c H1 locs1 cells slots Q (F0 m (pc + 3) ls (.int v :: rest))) : W p l e R s m args below meth c H locs cells slots Q (F0 m pc ls st) :=
  va_calli hr hS (fun _ _ h => h.elim) (fun _ h => h.elim) (fun r u t H1 locs1 ht hvm hw hB hz1 hk1 hS => by
    have hw : r = v := hw
    subst hw
    exact kk H1 locs1 (hP.kept (fun k q hq => hk1 q.1 (hP k q hq).lt (fun h => h))) hS)
/-- a call of a method that only reads -/
theorem roVL {v : Int64} (F : CallFix p m c cc nL s args g_tbl own) (hM : Met l y (Cond.code y bytes maxL ret :: g_tbl) rm (RoP D cL cB cI wc (.ref b :: As)) (RoL v) 0 0 (fun _ => False)) (hc : CalV y bytes maxL ret n) (hl : Cond.methodLink own index y ∈ g_tbl) (hrm : rm.cells = 0 ∧ rm.slots = 0 ∧ rm.frames + 1 ≤ R.frames ∧ 8 + (maxL + 11) + rm.locals ≤ R.locals) (hK : KN D cL cB cI s) (hP : va_P D classes ws H) (hS : va_S A H0 H locs) (hPc : va_P D classes wc H) (hcl : classes[ci]? = some q) (hq : q.1 = y.cls) (he : wc[0]? = some (b, .inr (ci, fs))) (hn : As.length = n) (hsz : ls.size = nL) (hst : st = As.reverse ++ .ref b :: rest) (hW : (rest.map fun v => v.category).sum ≤ 8) (hdg : decode cc pc = .ok (.invokevirtual index, 3)) (hcap : cells ≤ R.cells ∧ slots ≤ R.slots) (kk : ∀ (H1 : Heap) (locs1 : List Loc), va_P D classes ws H1 → va_S A H0 H1 locs1 → W p l e R s m args below meth c H1 locs1 cells slots Q (F0 m (pc + 3) ls (.long v :: rest))) : W p l e R s m args below meth c H locs cells slots Q (F0 m pc ls st) :=
  kk_roL (run_roV (As := As) (rest := rest) F hM hc hl hrm hK hPc hcl hq he hn hsz hst hW hdg hcap) hS hP kk
/-- a call of a method that only reads -/
theorem roVI {v : Int32} (F : CallFix p m c cc nL s args g_tbl own) (hM : Met l y (Cond.code y bytes maxL ret :: g_tbl) rm (RoP D cL cB cI wc (.ref b :: As)) (RoI v) 0 0 (fun _ => False)) (hc : CalV y bytes maxL ret n) (hl : Cond.methodLink own index y ∈ g_tbl) (hrm : rm.cells = 0 ∧ rm.slots = 0 ∧ rm.frames + 1 ≤ R.frames ∧ 8 + (maxL + 11) + rm.locals ≤ R.locals) (hK : KN D cL cB cI s) (hP : va_P D classes ws H) (hS : va_S A H0 H locs) (hPc : va_P D classes wc H) (hcl : classes[ci]? = some q) (hq : q.1 = y.cls) (he : wc[0]? = some (b, .inr (ci, fs))) (hn : As.length = n) (hsz : ls.size = nL) (hst : st = As.reverse ++ .ref b :: rest) (hW : (rest.map fun v => v.category).sum ≤ 8) (hdg : decode cc pc = .ok (.invokevirtual index, 3)) (hcap : cells ≤ R.cells ∧ slots ≤ R.slots) (kk : ∀ (H1 : Heap) (locs1 : List Loc), va_P D classes ws H1 → va_S A H0 H1 locs1 → W p l e R s m args below meth c H1 locs1 cells slots Q (F0 m (pc + 3) ls (.int v :: rest))) : W p l e R s m args below meth c H locs cells slots Q (F0 m pc ls st) :=
  kk_roI (run_roV (As := As) (rest := rest) F hM hc hl hrm hK hPc hcl hq he hn hsz hst hW hdg hcap) hS hP kk
/-- a call of a method that only reads -/
theorem roSL {v : Int64} (F : CallFix p m c cc nL s args g_tbl own) (hM : Met l y (Cond.code y bytes maxL ret :: g_tbl) rm (RoP D cL cB cI wc As) (RoL v) 0 0 (fun _ => False)) (hc : CalS y bytes maxL ret n) (hl : Cond.methodLink own index y ∈ g_tbl) (hrm : rm.cells = 0 ∧ rm.slots = 0 ∧ rm.frames + 1 ≤ R.frames ∧ 8 + (maxL + 11) + rm.locals ≤ R.locals) (hK : KN D cL cB cI s) (hP : va_P D classes ws H) (hS : va_S A H0 H locs) (hPc : va_P D classes wc H) (hn : As.length = n) (hsz : ls.size = nL) (hst : st = As.reverse ++ rest) (hW : (rest.map fun v => v.category).sum ≤ 8) (hdg : decode cc pc = .ok (.invokestatic index, 3)) (hcap : cells ≤ R.cells ∧ slots ≤ R.slots) (kk : ∀ (H1 : Heap) (locs1 : List Loc), va_P D classes ws H1 → va_S A H0 H1 locs1 → W p l e R s m args below meth c H1 locs1 cells slots Q (F0 m (pc + 3) ls (.long v :: rest))) : W p l e R s m args below meth c H locs cells slots Q (F0 m pc ls st) :=
  kk_roL (run_roS (As := As) (rest := rest) F hM hc hl hrm hK hPc hn hsz hst hW hdg hcap) hS hP kk
/-- a call of a method that only reads -/
theorem roSI {v : Int32} (F : CallFix p m c cc nL s args g_tbl own) (hM : Met l y (Cond.code y bytes maxL ret :: g_tbl) rm (RoP D cL cB cI wc As) (RoI v) 0 0 (fun _ => False)) (hc : CalS y bytes maxL ret n) (hl : Cond.methodLink own index y ∈ g_tbl) (hrm : rm.cells = 0 ∧ rm.slots = 0 ∧ rm.frames + 1 ≤ R.frames ∧ 8 + (maxL + 11) + rm.locals ≤ R.locals) (hK : KN D cL cB cI s) (hP : va_P D classes ws H) (hS : va_S A H0 H locs) (hPc : va_P D classes wc H) (hn : As.length = n) (hsz : ls.size = nL) (hst : st = As.reverse ++ rest) (hW : (rest.map fun v => v.category).sum ≤ 8) (hdg : decode cc pc = .ok (.invokestatic index, 3)) (hcap : cells ≤ R.cells ∧ slots ≤ R.slots) (kk : ∀ (H1 : Heap) (locs1 : List Loc), va_P D classes ws H1 → va_S A H0 H1 locs1 → W p l e R s m args below meth c H1 locs1 cells slots Q (F0 m (pc + 3) ls (.int v :: rest))) : W p l e R s m args below meth c H locs cells slots Q (F0 m pc ls st) :=
  kk_roI (run_roS (As := As) (rest := rest) F hM hc hl hrm hK hPc hn hsz hst hW hdg hcap) hS hP kk
theorem run_muV (F : CallFix p m c cc nL s args g_tbl own) (hM : Met l y (Cond.code y bytes maxL ret :: g_tbl) rm (MuP D cL cB cI wc H.size (.ref b :: As)) Qc mc ms free) (hc : CalV y bytes maxL ret n) (hl : Cond.methodLink own index y ∈ g_tbl) (hrm : rm.cells = mc ∧ rm.slots = ms ∧ rm.frames + 1 ≤ R.frames ∧ 8 + (maxL + 11) + rm.locals ≤ R.locals) (hK : KN D cL cB cI s) (hPc : va_P D classes wc H) (hDc : va_D A wc) (hcl : classes[ci]? = some q) (hq : q.1 = y.cls) (he : wc[0]? = some (b, .inr (ci, fs))) (hn : As.length = n) (hsz : ls.size = nL) (hst : st = As.reverse ++ .ref b :: rest) (hW : (rest.map fun v => v.category).sum ≤ 8) (hdg : decode cc pc = .ok (.invokevirtual index, 3)) (hcap : cells + mc ≤ R.cells ∧ slots + ms ≤ R.slots) : va_Run p l e R s m args below meth c H locs cells slots mc ms (F0 m pc ls st) rest (Qc (Value.ref b :: As).toArray) free :=
  va_runV (As := As) (rest := rest) F hM (cw_V F.2.2.2.2 hc hl hrm) ⟨MuP.blind, (by rw [← hq]; exact va_recv hK.1 hPc hcl he), fun U hU hW => ⟨rfl, by rw [hU], by rw [hU]; exact hPc, hK.warm hW, hDc.weaken (fun _ _ _ _ => trivial)⟩⟩ rfl hn hsz hst (rm_ok hW) hdg hcap
theorem run_muI (F : CallFix p m c cc nL s args g_tbl own) (hM : Met l y (Cond.code y bytes maxL none :: g_tbl) rm (MuP D cL cB cI wc H.size (.ref b :: As)) Qc mc ms free) (hc : CalI y bytes maxL n) (hl : Cond.methodLink own index y ∈ g_tbl) (hrm : rm.cells = mc ∧ rm.slots = ms ∧ rm.frames + 1 ≤ R.frames ∧ 8 + (maxL + 11) + rm.locals ≤ R.locals) (hK : KN D cL cB cI s) (hPc : va_P D classes wc H) (hDc : va_D A wc) (hn : As.length = n) (hsz : ls.size = nL) (hst : st = As.reverse ++ .ref b :: rest) (hW : (rest.map fun v => v.category).sum ≤ 8) (hdg : decode cc pc = .ok (.invokespecial index, 3)) (hcap : cells + mc ≤ R.cells ∧ slots + ms ≤ R.slots) : va_Run p l e R s m args below meth c H locs cells slots mc ms (F0 m pc ls st) rest (Qc (Value.ref b :: As).toArray) free :=
  va_runI (As := As) (rest := rest) F hM (cw_I F.2.2.2.2 hc hl hrm) ⟨MuP.blind, fun U hU hW => ⟨rfl, by rw [hU], by rw [hU]; exact hPc, hK.warm hW, hDc.weaken (fun _ _ _ _ => trivial)⟩⟩ rfl hn hsz hst (rm_ok hW) hdg hcap
theorem run_muIN {host : String} (F : CallFix p m c cc nL s args g_tbl own) (hM : Met l y (Cond.code y bytes maxL none :: g_tbl) rm (MuP D cL cB cI wc H.size (.ref b :: As)) Qc mc ms free) (hc : CalI y bytes maxL n) (hl : Cond.methodLinkNest own index y host ∈ n_tbl) (hrm : rm.cells = mc ∧ rm.slots = ms ∧ rm.frames + 1 ≤ R.frames ∧ 8 + (maxL + 11) + rm.locals ≤ R.locals) (hK : KN D cL cB cI s) (hPc : va_P D classes wc H) (hDc : va_D A wc) (hn : As.length = n) (hsz : ls.size = nL) (hst : st = As.reverse ++ .ref b :: rest) (hW : (rest.map fun v => v.category).sum ≤ 8) (hdg : decode cc pc = .ok (.invokespecial index, 3)) (hcap : cells + mc ≤ R.cells ∧ slots + ms ≤ R.slots) : va_Run p l e R s m args below meth c H locs cells slots mc ms (F0 m pc ls st) rest (Qc (Value.ref b :: As).toArray) free :=
  va_runIN (host := host) (As := As) (rest := rest) F hM ⟨va_cnB n F.2.2.2.2 (good_c hc.1.2.2.1) rfl hrm.1 hrm.2.1 (hK.2 _ hl) (F.2.2.2.2 _ hc.1.2.1) hc.2 hrm.2.2, hc.1.2.2.2, F.2.2.2.2 _ hc.1.1⟩ ⟨MuP.blind, fun U hU hW => ⟨rfl, by rw [hU], by rw [hU]; exact hPc, hK.warm hW, hDc.weaken (fun _ _ _ _ => trivial)⟩⟩ rfl hn hsz hst (rm_ok hW) hdg hcap
theorem kk_muL {S : Type} {post : Int64 → S → Prop} {w1 : S → va_W} {wr : va_W} {av : Array Value} (hr : va_Run p l e R s m args below meth c H locs cells slots mc ms (F0 m pc ls st) rest (va_Ql post (MuB D wc H.size w1) (va_A wc H.size) av) (va_A wc H.size)) (hS : va_S A H0 H locs) (hP : va_P D classes ws H) (hD : va_D A ws) (hA : ∀ q, H0.size ≤ q → A q) (isC isR : List Nat) (hC : isC.map (fun i => ws[i]?) = wc.map some) (hR : isR.map (fun i => ws[i]?) = wr.map some) (hn : va_nd isR = true) (hdis : ∀ i ∈ isR, i ∉ isC) (kk : ∀ (r : Int64) (u : S) (H1 : Heap) (locs1 : List Loc), post r u → va_P D classes (wr ++ w1 u) H1 → va_D A (wr ++ w1 u) → va_S A H0 H1 locs1 → W p l e R s m args below meth c H1 locs1 (cells + mc) (slots + ms) Q (F0 m (pc + 3) ls (.long r :: rest))) : W p l e R s m args below meth c H locs cells slots Q (F0 m pc ls st) := by
  have hF := va_free (wc := wc) hD hS hA isC hC
  refine va_calll hr hS (fun q _ h => hF q h) hF (fun r u t H1 locs1 ht hvm hw hB hz hk hS1 => ?_)
  obtain ⟨hP1, hD1⟩ := hB
  rw [ht] at hP1
  obtain ⟨hP2, hD2⟩ := va_join hP hD isC isR hC hR hn hdis hk hF hP1 hD1
  exact kk r u H1 locs1 hw hP2 hD2 hS1
theorem kk_muI {S : Type} {post : Int32 → S → Prop} {w1 : S → va_W} {wr : va_W} {av : Array Value} (hr : va_Run p l e R s m args below meth c H locs cells slots mc ms (F0 m pc ls st) rest (va_Qi post (MuB D wc H.size w1) (va_A wc H.size) av) (va_A wc H.size)) (hS : va_S A H0 H locs) (hP : va_P D classes ws H) (hD : va_D A ws) (hA : ∀ q, H0.size ≤ q → A q) (isC isR : List Nat) (hC : isC.map (fun i => ws[i]?) = wc.map some) (hR : isR.map (fun i => ws[i]?) = wr.map some) (hn : va_nd isR = true) (hdis : ∀ i ∈ isR, i ∉ isC) (kk : ∀ (r : Int32) (u : S) (H1 : Heap) (locs1 : List Loc), post r u → va_P D classes (wr ++ w1 u) H1 → va_D A (wr ++ w1 u) → va_S A H0 H1 locs1 → W p l e R s m args below meth c H1 locs1 (cells + mc) (slots + ms) Q (F0 m (pc + 3) ls (.int r :: rest))) : W p l e R s m args below meth c H locs cells slots Q (F0 m pc ls st) := by
  have hF := va_free (wc := wc) hD hS hA isC hC
  refine va_calli hr hS (fun q _ h => hF q h) hF (fun r u t H1 locs1 ht hvm hw hB hz hk hS1 => ?_)
  obtain ⟨hP1, hD1⟩ := hB
  rw [ht] at hP1
  obtain ⟨hP2, hD2⟩ := va_join hP hD isC isR hC hR hn hdis hk hF hP1 hD1
  exact kk r u H1 locs1 hw hP2 hD2 hS1
theorem kk_muV {S : Type} {post : S → Prop} {w1 : S → va_W} {wr : va_W} {av : Array Value} (hr : va_Run p l e R s m args below meth c H locs cells slots mc ms (F0 m pc ls st) rest (va_Qv post (MuB D wc H.size w1) (va_A wc H.size) av) (va_A wc H.size)) (hS : va_S A H0 H locs) (hP : va_P D classes ws H) (hD : va_D A ws) (hA : ∀ q, H0.size ≤ q → A q) (isC isR : List Nat) (hC : isC.map (fun i => ws[i]?) = wc.map some) (hR : isR.map (fun i => ws[i]?) = wr.map some) (hn : va_nd isR = true) (hdis : ∀ i ∈ isR, i ∉ isC) (kk : ∀ (u : S) (H1 : Heap) (locs1 : List Loc), post u → va_P D classes (wr ++ w1 u) H1 → va_D A (wr ++ w1 u) → va_S A H0 H1 locs1 → W p l e R s m args below meth c H1 locs1 (cells + mc) (slots + ms) Q (F0 m (pc + 3) ls (rest))) : W p l e R s m args below meth c H locs cells slots Q (F0 m pc ls st) := by
  have hF := va_free (wc := wc) hD hS hA isC hC
  refine va_callv hr hS (fun q _ h => hF q h) hF (fun u t H1 locs1 ht hvm hw hB hz hk hS1 => ?_)
  obtain ⟨hP1, hD1⟩ := hB
  rw [ht] at hP1
  obtain ⟨hP2, hD2⟩ := va_join hP hD isC isR hC hR hn hdis hk hF hP1 hD1
  exact kk u H1 locs1 hw hP2 hD2 hS1
end RWA
section RWS
variable {l : Launch} {D : va_G} {cL cB cI : ClassId} {ws : va_W} {y : MethodName} {bytes : ByteArray} {maxL mc ms : Nat} {rm : Room} {av : List Value}
/-- the start of a method that only reads -/
theorem ro_startL {v : Int64} (hy : plainName y.cls = true) (hav : (lg_sl av).length ≤ maxL) (body : ∀ (p : Program) (e : Env) (s : State) (m : MethodId) (below : List Frame) (meth : Method) (c : Code) (ls : Array Slot) (Q : State → Prop), CallFix p m c bytes maxL s av.toArray g_tbl y.cls → va_P D classes ws s.heap → KN D cL cB cI s → lv_has ls maxL (lv_args 0 av) → (∀ (pc : Nat) (H : Heap) (locs : List Loc) (ls1 : Array Slot), decode bytes pc = .ok (.lreturn, 1) → va_S (fun _ => False) s.heap H locs → W p l e rm s m av.toArray below meth c  H locs 0 0 Q (F0 m pc ls1 [.long v])) → W p l e rm s m av.toArray below meth c  s.heap [] 0 0 Q (F0 m 0 ls [])) : Met l y (Cond.code y bytes maxL (some .long) :: g_tbl) rm (RoP D cL cB cI ws av) (RoL v) 0 0 (fun _ => False) := by
  refine Met.ofW (cc := bytes) (maxL := maxL) (ret := some .long) hy rfl ?_
  intro p e s m args below meth c s₁ B hml hv
  obtain ⟨rfl, hP, hK⟩ := hv
  have hts := atoms_spec (ws := Cond.code y bytes maxL (some .long) :: g_tbl) B.pre
  have hl := lv_entry av (n := maxL) hav
  rw [lg_entry_eq]
  exact body p e s m below meth c _ _ ⟨B.exec, B.bytes, hml, findClass_of_methodNamed B.named, fun w hw => hts w (List.mem_cons_of_mem _ hw)⟩ hP hK hl (fun pc H locs ls1 hd hS => W.lret B.exec B.bytes B.returns (fun t ht hW => ⟨⟨v, (), rfl, rfl, trivial⟩, hS.F ht⟩) hS.2.2 hd B.notSynchronized)
/-- the start of a method that only reads -/
theorem ro_startI {v : Int32} (hy : plainName y.cls = true) (hav : (lg_sl av).length ≤ maxL) (body : ∀ (p : Program) (e : Env) (s : State) (m : MethodId) (below : List Frame) (meth : Method) (c : Code) (ls : Array Slot) (Q : State → Prop), CallFix p m c bytes maxL s av.toArray g_tbl y.cls → va_P D classes ws s.heap → KN D cL cB cI s → lv_has ls maxL (lv_args 0 av) → (∀ (pc : Nat) (H : Heap) (locs : List Loc) (ls1 : Array Slot), decode bytes pc = .ok (.ireturn, 1) → va_S (fun _ => False) s.heap H locs → W p l e rm s m av.toArray below meth c  H locs 0 0 Q (F0 m pc ls1 [.int v])) → W p l e rm s m av.toArray below meth c  s.heap [] 0 0 Q (F0 m 0 ls [])) : Met l y (Cond.code y bytes maxL (some .int) :: g_tbl) rm (RoP D cL cB cI ws av) (RoI v) 0 0 (fun _ => False) := by
  refine Met.ofW (cc := bytes) (maxL := maxL) (ret := some .int) hy rfl ?_
  intro p e s m args below meth c s₁ B hml hv
  obtain ⟨rfl, hP, hK⟩ := hv
  have hts := atoms_spec (ws := Cond.code y bytes maxL (some .int) :: g_tbl) B.pre
  have hl := lv_entry av (n := maxL) hav
  rw [lg_entry_eq]
  exact body p e s m below meth c _ _ ⟨B.exec, B.bytes, hml, findClass_of_methodNamed B.named, fun w hw => hts w (List.mem_cons_of_mem _ hw)⟩ hP hK hl (fun pc H locs ls1 hd hS => W.iret B.exec B.bytes B.returns (fun t ht hW => ⟨⟨v, (), rfl, rfl, trivial⟩, hS.F ht⟩) hS.2.2 hd B.notSynchronized)
/-- the start of a method that only reads -/
theorem ro_startZ {v : Int32} (hy : plainName y.cls = true) (hav : (lg_sl av).length ≤ maxL) (hz : narrow .boolean (.int v) = .int v) (body : ∀ (p : Program) (e : Env) (s : State) (m : MethodId) (below : List Frame) (meth : Method) (c : Code) (ls : Array Slot) (Q : State → Prop), CallFix p m c bytes maxL s av.toArray g_tbl y.cls → va_P D classes ws s.heap → KN D cL cB cI s → lv_has ls maxL (lv_args 0 av) → (∀ (pc : Nat) (H : Heap) (locs : List Loc) (ls1 : Array Slot), decode bytes pc = .ok (.ireturn, 1) → va_S (fun _ => False) s.heap H locs → W p l e rm s m av.toArray below meth c  H locs 0 0 Q (F0 m pc ls1 [.int v])) → W p l e rm s m av.toArray below meth c  s.heap [] 0 0 Q (F0 m 0 ls [])) : Met l y (Cond.code y bytes maxL (some .boolean) :: g_tbl) rm (RoP D cL cB cI ws av) (RoI v) 0 0 (fun _ => False) := by
  refine Met.ofW (cc := bytes) (maxL := maxL) (ret := some .boolean) hy rfl ?_
  intro p e s m args below meth c s₁ B hml hv
  obtain ⟨rfl, hP, hK⟩ := hv
  have hts := atoms_spec (ws := Cond.code y bytes maxL (some .boolean) :: g_tbl) B.pre
  have hl := lv_entry av (n := maxL) hav
  rw [lg_entry_eq]
  exact body p e s m below meth c _ _ ⟨B.exec, B.bytes, hml, findClass_of_methodNamed B.named, fun w hw => hts w (List.mem_cons_of_mem _ hw)⟩ hP hK hl (fun pc H locs ls1 hd hS => W.zret B.exec B.bytes B.returns hz (fun t ht hW => ⟨⟨v, (), rfl, rfl, trivial⟩, hS.F ht⟩) hS.2.2 hd B.notSynchronized)
/-- the start of a method that writes -/
theorem mu_startL {S : Type} {post : Int64 → S → Prop} {w1 : S → va_W} (sz : Nat) (hy : plainName y.cls = true) (hav : (lg_sl av).length ≤ maxL) (body : ∀ (p : Program) (e : Env) (s : State) (m : MethodId) (below : List Frame) (meth : Method) (c : Code) (ls : Array Slot) (Q : State → Prop) (A : Nat → Prop), CallFix p m c bytes maxL s av.toArray g_tbl y.cls → meth.name = y.name → va_P D classes ws s.heap → KN D cL cB cI s → va_D A ws → (∀ q, s.heap.size ≤ q → A q) → lv_has ls maxL (lv_args 0 av) → (∀ (pc : Nat) (H : Heap) (locs : List Loc) (ls1 : Array Slot) (r : Int64) (u : S), decode bytes pc = .ok (.lreturn, 1) → post r u → va_P D classes (w1 u) H → va_D A (w1 u) → va_S A s.heap H locs → W p l e rm s m av.toArray below meth c  H locs mc ms Q (F0 m pc ls1 [.long r])) → W p l e rm s m av.toArray below meth c  s.heap [] 0 0 Q (F0 m 0 ls [])) : Met l y (Cond.code y bytes maxL (some .long) :: g_tbl) rm (MuP D cL cB cI ws sz av) (va_Ql post (MuB D ws sz w1) (va_A ws sz)) mc ms (va_A ws sz) := by
  refine Met.ofW (cc := bytes) (maxL := maxL) (ret := (some .long)) hy rfl ?_
  intro p e s m args below meth c s₁ B hml hv
  obtain ⟨rfl, hsz, hP, hK, hD0⟩ := hv
  subst hsz
  have hts := atoms_spec (ws := Cond.code y bytes maxL (some .long) :: g_tbl) B.pre
  have hl := lv_entry av (n := maxL) hav
  rw [lg_entry_eq]
  exact body p e s m below meth c _ _ (va_A ws s.heap.size) ⟨B.exec, B.bytes, hml, findClass_of_methodNamed B.named, fun w hw => hts w (List.mem_cons_of_mem _ hw)⟩ (name_of_methodNamed B.named B.method).1 hP hK hD0.self (fun q h => Or.inr h) hl (fun pc H locs ls1 r u hd hp hP hD hS => W.lret B.exec B.bytes B.returns (fun t ht hW => ⟨⟨r, u, rfl, hp, by rw [ht]; exact hP, hD⟩, hS.F ht⟩) hS.2.2 hd B.notSynchronized)
/-- the start of a method that writes -/
theorem mu_startI {S : Type} {post : Int32 → S → Prop} {w1 : S → va_W} (sz : Nat) (hy : plainName y.cls = true) (hav : (lg_sl av).length ≤ maxL) (body : ∀ (p : Program) (e : Env) (s : State) (m : MethodId) (below : List Frame) (meth : Method) (c : Code) (ls : Array Slot) (Q : State → Prop) (A : Nat → Prop), CallFix p m c bytes maxL s av.toArray g_tbl y.cls → meth.name = y.name → va_P D classes ws s.heap → KN D cL cB cI s → va_D A ws → (∀ q, s.heap.size ≤ q → A q) → lv_has ls maxL (lv_args 0 av) → (∀ (pc : Nat) (H : Heap) (locs : List Loc) (ls1 : Array Slot) (r : Int32) (u : S), decode bytes pc = .ok (.ireturn, 1) → post r u → va_P D classes (w1 u) H → va_D A (w1 u) → va_S A s.heap H locs → W p l e rm s m av.toArray below meth c  H locs mc ms Q (F0 m pc ls1 [.int r])) → W p l e rm s m av.toArray below meth c  s.heap [] 0 0 Q (F0 m 0 ls [])) : Met l y (Cond.code y bytes maxL (some .int) :: g_tbl) rm (MuP D cL cB cI ws sz av) (va_Qi post (MuB D ws sz w1) (va_A ws sz)) mc ms (va_A ws sz) := by
  refine Met.ofW (cc := bytes) (maxL := maxL) (ret := (some .int)) hy rfl ?_
  intro p e s m args below meth c s₁ B hml hv
  obtain ⟨rfl, hsz, hP, hK, hD0⟩ := hv
  subst hsz
  have hts := atoms_spec (ws := Cond.code y bytes maxL (some .int) :: g_tbl) B.pre
  have hl := lv_entry av (n := maxL) hav
  rw [lg_entry_eq]
  exact body p e s m below meth c _ _ (va_A ws s.heap.size) ⟨B.exec, B.bytes, hml, findClass_of_methodNamed B.named, fun w hw => hts w (List.mem_cons_of_mem _ hw)⟩ (name_of_methodNamed B.named B.method).1 hP hK hD0.self (fun q h => Or.inr h) hl (fun pc H locs ls1 r u hd hp hP hD hS => W.iret B.exec B.bytes B.returns (fun t ht hW => ⟨⟨r, u, rfl, hp, by rw [ht]; exact hP, hD⟩, hS.F ht⟩) hS.2.2 hd B.notSynchronized)
/-- the start of a method that writes -/
theorem mu_startZ {S : Type} {post : Int32 → S → Prop} {w1 : S → va_W} (sz : Nat) (hy : plainName y.cls = true) (hav : (lg_sl av).length ≤ maxL) (body : ∀ (p : Program) (e : Env) (s : State) (m : MethodId) (below : List Frame) (meth : Method) (c : Code) (ls : Array Slot) (Q : State → Prop) (A : Nat → Prop), CallFix p m c bytes maxL s av.toArray g_tbl y.cls → meth.name = y.name → va_P D classes ws s.heap → KN D cL cB cI s → va_D A ws → (∀ q, s.heap.size ≤ q → A q) → lv_has ls maxL (lv_args 0 av) → (∀ (pc : Nat) (H : Heap) (locs : List Loc) (ls1 : Array Slot) (r : Int32) (u : S), decode bytes pc = .ok (.ireturn, 1) → narrow .boolean (.int r) = .int r → post r u → va_P D classes (w1 u) H → va_D A (w1 u) → va_S A s.heap H locs → W p l e rm s m av.toArray below meth c  H locs mc ms Q (F0 m pc ls1 [.int r])) → W p l e rm s m av.toArray below meth c  s.heap [] 0 0 Q (F0 m 0 ls [])) : Met l y (Cond.code y bytes maxL (some .boolean) :: g_tbl) rm (MuP D cL cB cI ws sz av) (va_Qi post (MuB D ws sz w1) (va_A ws sz)) mc ms (va_A ws sz) := by
  refine Met.ofW (cc := bytes) (maxL := maxL) (ret := (some .boolean)) hy rfl ?_
  intro p e s m args below meth c s₁ B hml hv
  obtain ⟨rfl, hsz, hP, hK, hD0⟩ := hv
  subst hsz
  have hts := atoms_spec (ws := Cond.code y bytes maxL (some .boolean) :: g_tbl) B.pre
  have hl := lv_entry av (n := maxL) hav
  rw [lg_entry_eq]
  exact body p e s m below meth c _ _ (va_A ws s.heap.size) ⟨B.exec, B.bytes, hml, findClass_of_methodNamed B.named, fun w hw => hts w (List.mem_cons_of_mem _ hw)⟩ (name_of_methodNamed B.named B.method).1 hP hK hD0.self (fun q h => Or.inr h) hl (fun pc H locs ls1 r u hd hz hp hP hD hS => W.zret B.exec B.bytes B.returns hz (fun t ht hW => ⟨⟨r, u, rfl, hp, by rw [ht]; exact hP, hD⟩, hS.F ht⟩) hS.2.2 hd B.notSynchronized)
/-- the start of a method that writes -/
theorem mu_startV {S : Type} {post : S → Prop} {w1 : S → va_W} (sz : Nat) (hy : plainName y.cls = true) (hav : (lg_sl av).length ≤ maxL) (body : ∀ (p : Program) (e : Env) (s : State) (m : MethodId) (below : List Frame) (meth : Method) (c : Code) (ls : Array Slot) (Q : State → Prop) (A : Nat → Prop), CallFix p m c bytes maxL s av.toArray g_tbl y.cls → meth.name = y.name → va_P D classes ws s.heap → KN D cL cB cI s → va_D A ws → (∀ q, s.heap.size ≤ q → A q) → lv_has ls maxL (lv_args 0 av) → (∀ (pc : Nat) (H : Heap) (locs : List Loc) (ls1 : Array Slot) (u : S), decode bytes pc = .ok (.return_, 1) → post u → va_P D classes (w1 u) H → va_D A (w1 u) → va_S A s.heap H locs → W p l e rm s m av.toArray below meth c  H locs mc ms Q (F0 m pc ls1 [])) → W p l e rm s m av.toArray below meth c  s.heap [] 0 0 Q (F0 m 0 ls [])) : Met l y (Cond.code y bytes maxL none :: g_tbl) rm (MuP D cL cB cI ws sz av) (va_Qv post (MuB D ws sz w1) (va_A ws sz)) mc ms (va_A ws sz) := by
  refine Met.ofW (cc := bytes) (maxL := maxL) (ret := none) hy rfl ?_
  intro p e s m args below meth c s₁ B hml hv
  obtain ⟨rfl, hsz, hP, hK, hD0⟩ := hv
  subst hsz
  have hts := atoms_spec (ws := Cond.code y bytes maxL none :: g_tbl) B.pre
  have hl := lv_entry av (n := maxL) hav
  rw [lg_entry_eq]
  exact body p e s m below meth c _ _ (va_A ws s.heap.size) ⟨B.exec, B.bytes, hml, findClass_of_methodNamed B.named, fun w hw => hts w (List.mem_cons_of_mem _ hw)⟩ (name_of_methodNamed B.named B.method).1 hP hK hD0.self (fun q h => Or.inr h) hl (fun pc H locs ls1 u hd hp hP hD hS => W.vret B.exec B.bytes B.returns (fun t ht hW => ⟨⟨u, rfl, hp, by rw [ht]; exact hP, hD⟩, hS.F ht⟩) hS.2.2 hd B.notSynchronized)
end RWS
section RWB
variable {p : Program} {l : Launch} {e : Env} {R : Room} {s : State} {m : MethodId} {args : Array Value} {below : List Frame} {meth : Method} {c : Code} {H : Heap} {locs : List Loc} {cells slots : Nat} {Q : State → Prop}
variable {cc : ByteArray} {pc nL : Nat} {ls : Array Slot} {rest : List Value} {D : va_G} {cL cB cI : ClassId} {ws : va_W} {H0 : Heap} {A : Nat → Prop} {a : Nat}
theorem tpi {x z : Int32} (h : x = z) (k : W p l e R s m args below meth c H locs cells slots Q (F0 m pc ls (.int z :: rest))) : W p l e R s m args below meth c H locs cells slots Q (F0 m pc ls (.int x :: rest)) := h ▸ k
theorem tpl {x z : Int64} (h : x = z) (k : W p l e R s m args below meth c H locs cells slots Q (F0 m pc ls (.long z :: rest))) : W p l e R s m args below meth c H locs cells slots Q (F0 m pc ls (.long x :: rest)) := h ▸ k
theorem nt_icmp_eq (hx : p.tables.exec = Jvm.exec) (hb : c.code = cc) {a b : Nat} {off : Int} {tgt : Nat} (ha : a < 2 ^ 31) (hb2 : b < 2 ^ 31) (hdg : decode cc pc = .ok (.if_icmp .eq off, 3)) (ht : (pc : Int) + off = (tgt : Int)) (kt : a = b → W p l e R s m args below meth c H locs cells slots Q (F0 m tgt ls rest)) (kf : ¬ a = b → W p l e R s m args below meth c H locs cells slots Q (F0 m (pc + 3) ls rest)) : W p l e R s m args below meth c H locs cells slots Q (F0 m pc ls (.int (nI b) :: .int (nI a) :: rest)) :=
  lv_icmp_eq hx hb hdg ht (fun h => kt ((nI_eq ha hb2).mp h)) (fun h => kf (fun q => h ((nI_eq ha hb2).mpr q)))
theorem nt_icmp_ne (hx : p.tables.exec = Jvm.exec) (hb : c.code = cc) {a b : Nat} {off : Int} {tgt : Nat} (ha : a < 2 ^ 31) (hb2 : b < 2 ^ 31) (hdg : decode cc pc = .ok (.if_icmp .ne off, 3)) (ht : (pc : Int) + off = (tgt : Int)) (kt : ¬ a = b → W p l e R s m args below meth c H locs cells slots Q (F0 m tgt ls rest)) (kf : a = b → W p l e R s m args below meth c H locs cells slots Q (F0 m (pc + 3) ls rest)) : W p l e R s m args below meth c H locs cells slots Q (F0 m pc ls (.int (nI b) :: .int (nI a) :: rest)) :=
  lv_icmp_ne hx hb hdg ht (fun h => kt (fun q => h ((nI_eq ha hb2).mpr q))) (fun h => kf ((nI_eq ha hb2).mp h))
theorem nt_icmp_lt (hx : p.tables.exec = Jvm.exec) (hb : c.code = cc) {a b : Nat} {off : Int} {tgt : Nat} (ha : a < 2 ^ 31) (hb2 : b < 2 ^ 31) (hdg : decode cc pc = .ok (.if_icmp .lt off, 3)) (ht : (pc : Int) + off = (tgt : Int)) (kt : a < b → W p l e R s m args below meth c H locs cells slots Q (F0 m tgt ls rest)) (kf : b ≤ a → W p l e R s m args below meth c H locs cells slots Q (F0 m (pc + 3) ls rest)) : W p l e R s m args below meth c H locs cells slots Q (F0 m pc ls (.int (nI b) :: .int (nI a) :: rest)) :=
  lv_icmp_lt hx hb hdg ht (fun h => kt ((nI_ltI ha hb2).mp h)) (fun h => kf (Nat.not_lt.mp (fun q => h ((nI_ltI ha hb2).mpr q))))
theorem nt_icmp_ge (hx : p.tables.exec = Jvm.exec) (hb : c.code = cc) {a b : Nat} {off : Int} {tgt : Nat} (ha : a < 2 ^ 31) (hb2 : b < 2 ^ 31) (hdg : decode cc pc = .ok (.if_icmp .ge off, 3)) (ht : (pc : Int) + off = (tgt : Int)) (kt : b ≤ a → W p l e R s m args below meth c H locs cells slots Q (F0 m tgt ls rest)) (kf : a < b → W p l e R s m args below meth c H locs cells slots Q (F0 m (pc + 3) ls rest)) : W p l e R s m args below meth c H locs cells slots Q (F0 m pc ls (.int (nI b) :: .int (nI a) :: rest)) :=
  lv_icmp_ge hx hb hdg ht (fun h => kt ((nI_leI hb2 ha).mp h)) (fun h => kf (Nat.not_le.mp (fun q => h ((nI_leI hb2 ha).mpr q))))
theorem nt_icmp_gt (hx : p.tables.exec = Jvm.exec) (hb : c.code = cc) {a b : Nat} {off : Int} {tgt : Nat} (ha : a < 2 ^ 31) (hb2 : b < 2 ^ 31) (hdg : decode cc pc = .ok (.if_icmp .gt off, 3)) (ht : (pc : Int) + off = (tgt : Int)) (kt : b < a → W p l e R s m args below meth c H locs cells slots Q (F0 m tgt ls rest)) (kf : a ≤ b → W p l e R s m args below meth c H locs cells slots Q (F0 m (pc + 3) ls rest)) : W p l e R s m args below meth c H locs cells slots Q (F0 m pc ls (.int (nI b) :: .int (nI a) :: rest)) :=
  lv_icmp_gt hx hb hdg ht (fun h => kt ((nI_ltI hb2 ha).mp h)) (fun h => kf (Nat.not_lt.mp (fun q => h ((nI_ltI hb2 ha).mpr q))))
theorem nt_icmp_le (hx : p.tables.exec = Jvm.exec) (hb : c.code = cc) {a b : Nat} {off : Int} {tgt : Nat} (ha : a < 2 ^ 31) (hb2 : b < 2 ^ 31) (hdg : decode cc pc = .ok (.if_icmp .le off, 3)) (ht : (pc : Int) + off = (tgt : Int)) (kt : a ≤ b → W p l e R s m args below meth c H locs cells slots Q (F0 m tgt ls rest)) (kf : b < a → W p l e R s m args below meth c H locs cells slots Q (F0 m (pc + 3) ls rest)) : W p l e R s m args below meth c H locs cells slots Q (F0 m pc ls (.int (nI b) :: .int (nI a) :: rest)) :=
  lv_icmp_le hx hb hdg ht (fun h => kt ((nI_leI ha hb2).mp h)) (fun h => kf (Nat.not_le.mp (fun q => h ((nI_leI ha hb2).mpr q))))
/-- two longs compared, then ifeq -/
theorem bl_eq (hx : p.tables.exec = Jvm.exec) (hb : c.code = cc) {a b : BitVec 64} {off : Int} {tgt : Nat} (hd1 : decode cc pc = .ok (.lcmp, 1)) (hd2 : decode cc (pc + 1) = .ok (.ifCond .eq off, 3)) (ht : ((pc + 1 : Nat) : Int) + off = (tgt : Int)) (kt : a = b → W p l e R s m args below meth c H locs cells slots Q (F0 m tgt ls rest)) (kf : ¬ a = b → W p l e R s m args below meth c H locs cells slots Q (F0 m (pc + 1 + 3) ls rest)) : W p l e R s m args below meth c H locs cells slots Q (F0 m pc ls (.long (lB b) :: .long (lB a) :: rest)) :=
  W.lcmp hx hb hd1 (lv_if_eq hx hb hd2 ht (fun h => kt (lB_inj ((lg_cmp_eq _ _).mp h))) (fun h => kf (fun q => h ((lg_cmp_eq _ _).mpr (by rw [q])))))
/-- two longs compared, then ifne -/
theorem bl_ne (hx : p.tables.exec = Jvm.exec) (hb : c.code = cc) {a b : BitVec 64} {off : Int} {tgt : Nat} (hd1 : decode cc pc = .ok (.lcmp, 1)) (hd2 : decode cc (pc + 1) = .ok (.ifCond .ne off, 3)) (ht : ((pc + 1 : Nat) : Int) + off = (tgt : Int)) (kt : ¬ a = b → W p l e R s m args below meth c H locs cells slots Q (F0 m tgt ls rest)) (kf : a = b → W p l e R s m args below meth c H locs cells slots Q (F0 m (pc + 1 + 3) ls rest)) : W p l e R s m args below meth c H locs cells slots Q (F0 m pc ls (.long (lB b) :: .long (lB a) :: rest)) :=
  W.lcmp hx hb hd1 (lv_if_ne hx hb hd2 ht (fun h => kt (fun q => h ((lg_cmp_eq _ _).mpr (by rw [q])))) (fun h => kf (lB_inj ((lg_cmp_eq _ _).mp h))))
theorem bl_le (hx : p.tables.exec = Jvm.exec) (hb : c.code = cc) {a b : Int64} {off : Int} {tgt : Nat} (hd1 : decode cc pc = .ok (.lcmp, 1)) (hd2 : decode cc (pc + 1) = .ok (.ifCond .le off, 3)) (ht : ((pc + 1 : Nat) : Int) + off = (tgt : Int)) (kt : a ≤ b → W p l e R s m args below meth c H locs cells slots Q (F0 m tgt ls rest)) (kf : ¬ a ≤ b → W p l e R s m args below meth c H locs cells slots Q (F0 m (pc + 1 + 3) ls rest)) : W p l e R s m args below meth c H locs cells slots Q (F0 m pc ls (.long b :: .long a :: rest)) :=
  W.lcmp hx hb hd1 (lv_if_le hx hb hd2 ht (fun h => kt ((lg_cmp_le _ _).mp h)) (fun h => kf (fun q => h ((lg_cmp_le _ _).mpr q))))
theorem bz_ifeq (hx : p.tables.exec = Jvm.exec) (hb : c.code = cc) {b : Bool} {off : Int} {tgt : Nat} (hdg : decode cc pc = .ok (.ifCond .eq off, 3)) (ht : (pc : Int) + off = (tgt : Int)) (kt : b = false → W p l e R s m args below meth c H locs cells slots Q (F0 m tgt ls rest)) (kf : b = true → W p l e R s m args below meth c H locs cells slots Q (F0 m (pc + 3) ls rest)) : W p l e R s m args below meth c H locs cells slots Q (F0 m pc ls (.int (bz b) :: rest)) :=
  lv_if_eq hx hb hdg ht (fun h => kt (bz_0 h)) (fun h => kf (bz_1 h))
theorem bz_ifne (hx : p.tables.exec = Jvm.exec) (hb : c.code = cc) {b : Bool} {off : Int} {tgt : Nat} (hdg : decode cc pc = .ok (.ifCond .ne off, 3)) (ht : (pc : Int) + off = (tgt : Int)) (kt : b = true → W p l e R s m args below meth c H locs cells slots Q (F0 m tgt ls rest)) (kf : b = false → W p l e R s m args below meth c H locs cells slots Q (F0 m (pc + 3) ls rest)) : W p l e R s m args below meth c H locs cells slots Q (F0 m pc ls (.int (bz b) :: rest)) :=
  lv_if_ne hx hb hdg ht (fun h => kt (bz_1 h)) (fun h => kf (bz_0 h))
theorem bv_land (hx : p.tables.exec = Jvm.exec) (hb : c.code = cc) {x z : BitVec 64} (hdg : decode cc pc = .ok (.land, 1)) (k : W p l e R s m args below meth c H locs cells slots Q (F0 m (pc + 1) ls (.long (lB (x &&& z)) :: rest))) : W p l e R s m args below meth c H locs cells slots Q (F0 m pc ls (.long (lB z) :: .long (lB x) :: rest)) := lv_land hx hb hdg (tpl (lB_and x z) k)
theorem bv_lor (hx : p.tables.exec = Jvm.exec) (hb : c.code = cc) {x z : BitVec 64} (hdg : decode cc pc = .ok (.lor, 1)) (k : W p l e R s m args below meth c H locs cells slots Q (F0 m (pc + 1) ls (.long (lB (x ||| z)) :: rest))) : W p l e R s m args below meth c H locs cells slots Q (F0 m pc ls (.long (lB z) :: .long (lB x) :: rest)) := lv_lor hx hb hdg (tpl (lB_or x z) k)
theorem bv_lxor (hx : p.tables.exec = Jvm.exec) (hb : c.code = cc) {x z : BitVec 64} (hdg : decode cc pc = .ok (.lxor, 1)) (k : W p l e R s m args below meth c H locs cells slots Q (F0 m (pc + 1) ls (.long (lB (x ^^^ z)) :: rest))) : W p l e R s m args below meth c H locs cells slots Q (F0 m pc ls (.long (lB z) :: .long (lB x) :: rest)) := lv_lxor hx hb hdg (tpl (lB_xor x z) k)
theorem bv_lsub (hx : p.tables.exec = Jvm.exec) (hb : c.code = cc) {x z : BitVec 64} (hdg : decode cc pc = .ok (.lsub, 1)) (k : W p l e R s m args below meth c H locs cells slots Q (F0 m (pc + 1) ls (.long (lB (x - z)) :: rest))) : W p l e R s m args below meth c H locs cells slots Q (F0 m pc ls (.long (lB z) :: .long (lB x) :: rest)) := lv_lsub hx hb hdg (tpl (lB_sub x z) k)
theorem bv_lushr (hx : p.tables.exec = Jvm.exec) (hb : c.code = cc) {x : BitVec 64} {j : Nat} (hj : j < 64) (hdg : decode cc pc = .ok (.lushr, 1)) (k : W p l e R s m args below meth c H locs cells slots Q (F0 m (pc + 1) ls (.long (lB (x >>> j)) :: rest))) : W p l e R s m args below meth c H locs cells slots Q (F0 m pc ls (.int (nI j) :: .long (lB x) :: rest)) := lv_lushr hx hb hdg (lB_ushr hj) k
theorem bv_lshl (hx : p.tables.exec = Jvm.exec) (hb : c.code = cc) {x : BitVec 64} {j : Nat} (hj : j < 64) (hdg : decode cc pc = .ok (.lshl, 1)) (k : W p l e R s m args below meth c H locs cells slots Q (F0 m (pc + 1) ls (.long (lB (x <<< j)) :: rest))) : W p l e R s m args below meth c H locs cells slots Q (F0 m pc ls (.int (nI j) :: .long (lB x) :: rest)) := lv_lshl hx hb hdg (lB_shl hj) k
theorem nt_iadd (hx : p.tables.exec = Jvm.exec) (hb : c.code = cc) {x z : Nat} (hdg : decode cc pc = .ok (.iadd, 1)) (k : W p l e R s m args below meth c H locs cells slots Q (F0 m (pc + 1) ls (.int (nI (x + z)) :: rest))) : W p l e R s m args below meth c H locs cells slots Q (F0 m pc ls (.int (nI z) :: .int (nI x) :: rest)) := lv_iadd hx hb hdg (tpi (nI_add x z) k)
theorem nt_isub (hx : p.tables.exec = Jvm.exec) (hb : c.code = cc) {x z : Nat} (h : z ≤ x) (hdg : decode cc pc = .ok (.isub, 1)) (k : W p l e R s m args below meth c H locs cells slots Q (F0 m (pc + 1) ls (.int (nI (x - z)) :: rest))) : W p l e R s m args below meth c H locs cells slots Q (F0 m pc ls (.int (nI z) :: .int (nI x) :: rest)) := lv_isub hx hb hdg (tpi (nI_sub h) k)
theorem nt_imul (hx : p.tables.exec = Jvm.exec) (hb : c.code = cc) {x z : Nat} (hdg : decode cc pc = .ok (.imul, 1)) (k : W p l e R s m args below meth c H locs cells slots Q (F0 m (pc + 1) ls (.int (nI (x * z)) :: rest))) : W p l e R s m args below meth c H locs cells slots Q (F0 m pc ls (.int (nI z) :: .int (nI x) :: rest)) := lv_imul hx hb hdg (tpi (nI_mul x z) k)
theorem nt_iand (hx : p.tables.exec = Jvm.exec) (hb : c.code = cc) {x z : Nat} (hdg : decode cc pc = .ok (.iand, 1)) (k : W p l e R s m args below meth c H locs cells slots Q (F0 m (pc + 1) ls (.int (nI (x &&& z)) :: rest))) : W p l e R s m args below meth c H locs cells slots Q (F0 m pc ls (.int (nI z) :: .int (nI x) :: rest)) := lv_iand hx hb hdg (tpi (nI_andN x z) k)
theorem nt_ixor (hx : p.tables.exec = Jvm.exec) (hb : c.code = cc) {x z : Nat} (hdg : decode cc pc = .ok (.ixor, 1)) (k : W p l e R s m args below meth c H locs cells slots Q (F0 m (pc + 1) ls (.int (nI (x ^^^ z)) :: rest))) : W p l e R s m args below meth c H locs cells slots Q (F0 m pc ls (.int (nI z) :: .int (nI x) :: rest)) := lv_ixor hx hb hdg (tpi (nI_xorN x z) k)
theorem nt_ishl (hx : p.tables.exec = Jvm.exec) (hb : c.code = cc) {x j : Nat} (hj : j < 32) (h : x * 2 ^ j < 2 ^ 32) (hdg : decode cc pc = .ok (.ishl, 1)) (k : W p l e R s m args below meth c H locs cells slots Q (F0 m (pc + 1) ls (.int (nI (x * 2 ^ j)) :: rest))) : W p l e R s m args below meth c H locs cells slots Q (F0 m pc ls (.int (nI j) :: .int (nI x) :: rest)) := lv_ishl hx hb hdg (tpi (nI_shl hj h) k)
theorem nt_ishr (hx : p.tables.exec = Jvm.exec) (hb : c.code = cc) {x j : Nat} (hx2 : x < 2 ^ 31) (hj : j < 32) (hdg : decode cc pc = .ok (.ishr, 1)) (k : W p l e R s m args below meth c H locs cells slots Q (F0 m (pc + 1) ls (.int (nI (x / 2 ^ j)) :: rest))) : W p l e R s m args below meth c H locs cells slots Q (F0 m pc ls (.int (nI j) :: .int (nI x) :: rest)) := lv_ishr hx hb hdg (tpi (nI_shr hx2 hj) k)
/-- a new array of one of the three types, filled with 0 -/
theorem nw_arr (hx : p.tables.exec = Jvm.exec) (hb : c.code = cc) (hT : ∀ w ∈ g_tbl, w.before args s = true) {atype : ArrayType} {ty : FieldType} {cA : ClassId} (t0 : Nat) (ht : (TY cL cB cI)[t0]? = some (cA, ty)) (hty : newarray.typeOf atype = ty) (harr : Cond.arrayClass ty ∈ g_tbl) (hK : KN D cL cB cI s) (hP : va_P D classes ws H) (hD : va_D A ws) (hS : va_S A H0 H locs) (hA : ∀ q, H0.size ≤ q → A q)
    {n : Int32} {N : Nat} {a0 : vp_A} (ha : ∀ cA : ClassId, vp_cell cA a0 = arrV cA N (fun _ => defaultValue ty)) (hn : ¬ n < 0) (hN : n.toNatClampNeg = N) (hbytes : N * componentBytes ty ≤ 536870912) (hcells : cells + 1 ≤ R.cells) (hslots : slots + N ≤ R.slots) (hdg : decode cc pc = .ok (.newarray atype, 2))
    (kk : ∀ (q : Nat) (H1 : Heap), va_P D classes (ws ++ [(q, .inl (cA, a0))]) H1 → va_D A (ws ++ [(q, .inl (cA, a0))]) → va_S A H0 H1 locs → W p l e R s m args below meth c H1 locs (cells + 1) (slots + N) Q (F0 m (pc + 2) ls (.ref q :: rest))) : W p l e R s m args below meth c H locs cells slots Q (F0 m pc ls (.int n :: rest)) := by
  subst hty
  refine va_newa hx hb (hT _ harr) rfl hK.1 hP hD hS hA ha hn hN hbytes hcells hslots hdg (fun q cA' H1 hK' hP' hD' hS' => ?_)
  have e1 : cA' = cA := RA_inj (hK'.2 3 (cA', newarray.typeOf atype) rfl).2 (hK.1.2 t0 _ ht).2
  subst e1
  exact kk q H1 hP' hD' hS'
theorem gf_K_15 (F : CallFix p m c cc nL s args g_tbl R_K) (hK : KN D cL cB cI s) (hP : va_P D classes ws H) (q0 : Nat) {fs : List Value} (he : ws[q0]? = some (a, .inr (0, fs))) {v : Value} (hv : fs[0]? = some v) (hdg : decode cc pc = .ok (.getfield 15, 3)) (kk : W p l e R s m args below meth c H locs cells slots Q (F0 m (pc + 3) ls (v :: rest))) : W p l e R s m args below meth c H locs cells slots Q (F0 m pc ls (.ref a :: rest)) :=
  va_get F.1 F.2.1 F.2.2.2.2 i_K F.2.2.2.1 hK.1 hP q0 he rfl 0 (by decide) (F.2.2.2.2 _ fl_K_15) (fun _ h9 => h9) hv hdg kk
theorem pf_K_15 (F : CallFix p m c cc nL s args g_tbl R_K) (hin2 : meth.name = "<init>") (hK : KN D cL cB cI s) (hP : va_P D classes ws H) (hD : va_D A ws) (hS : va_S A H0 H locs) (q0 : Nat) {fs : List Value} (he : ws[q0]? = some (a, .inr (0, fs))) {v : Value} (hn : narrow (.int) v = v) (hfit : fits (.int) v = true) (hl : 0 < fs.length) (hdg : decode cc pc = .ok (.putfield 15, 3)) (kk : ∀ (H1 : Heap) (locs1 : List Loc), va_P D classes (ws.set q0 (a, .inr (0, fs.set 0 v))) H1 → va_D A (ws.set q0 (a, .inr (0, fs.set 0 v))) → va_S A H0 H1 locs1 → W p l e R s m args below meth c H1 locs1 cells slots Q (F0 m (pc + 3) ls rest)) : W p l e R s m args below meth c H locs cells slots Q (F0 m pc ls (v :: .ref a :: rest)) :=
  va_putF F.1 F.2.1 F.2.2.2.2 i_K t_K t_K_ok n_K F.2.2.2.1 hK.1 hP hD hS q0 he rfl 0 (by decide) (F.2.2.2.2 _ fl_K_15) (fun _ h9 => h9) rfl hin2 rfl (by decide +kernel) hn hfit hl hdg kk
theorem gf_P_18 (F : CallFix p m c cc nL s args g_tbl R_P) (hK : KN D cL cB cI s) (hP : va_P D classes ws H) (q0 : Nat) {fs : List Value} (he : ws[q0]? = some (a, .inr (0, fs))) {v : Value} (hv : fs[0]? = some v) (hdg : decode cc pc = .ok (.getfield 18, 3)) (kk : W p l e R s m args below meth c H locs cells slots Q (F0 m (pc + 3) ls (v :: rest))) : W p l e R s m args below meth c H locs cells slots Q (F0 m pc ls (.ref a :: rest)) :=
  va_getN F.1 F.2.1 F.2.2.2.2 i_K F.2.2.2.1 hK.1 hP q0 he rfl 0 (by decide) (va_Nw.use rfl (hK.2 _ fln_P_18)) (fun _ h9 => h9) hv hdg kk
theorem gf_X_80 (F : CallFix p m c cc nL s args g_tbl R_X) (hK : KN D cL cB cI s) (hP : va_P D classes ws H) (q0 : Nat) {fs : List Value} (he : ws[q0]? = some (a, .inr (0, fs))) {v : Value} (hv : fs[0]? = some v) (hdg : decode cc pc = .ok (.getfield 80, 3)) (kk : W p l e R s m args below meth c H locs cells slots Q (F0 m (pc + 3) ls (v :: rest))) : W p l e R s m args below meth c H locs cells slots Q (F0 m pc ls (.ref a :: rest)) :=
  va_getN F.1 F.2.1 F.2.2.2.2 i_K F.2.2.2.1 hK.1 hP q0 he rfl 0 (by decide) (va_Nw.use rfl (hK.2 _ fln_X_80)) (fun _ h9 => h9) hv hdg kk
theorem gf_K_21 (F : CallFix p m c cc nL s args g_tbl R_K) (hK : KN D cL cB cI s) (hP : va_P D classes ws H) (q0 : Nat) {fs : List Value} (he : ws[q0]? = some (a, .inr (0, fs))) {v : Value} (hv : fs[1]? = some v) (hdg : decode cc pc = .ok (.getfield 21, 3)) (kk : W p l e R s m args below meth c H locs cells slots Q (F0 m (pc + 3) ls (v :: rest))) : W p l e R s m args below meth c H locs cells slots Q (F0 m pc ls (.ref a :: rest)) :=
  va_get F.1 F.2.1 F.2.2.2.2 i_K F.2.2.2.1 hK.1 hP q0 he rfl 1 (by decide) (F.2.2.2.2 _ fl_K_21) (fun _ h9 => h9) hv hdg kk
theorem pf_K_21 (F : CallFix p m c cc nL s args g_tbl R_K) (hin2 : meth.name = "<init>") (hK : KN D cL cB cI s) (hP : va_P D classes ws H) (hD : va_D A ws) (hS : va_S A H0 H locs) (q0 : Nat) {fs : List Value} (he : ws[q0]? = some (a, .inr (0, fs))) {v : Value} (hn : narrow (.long) v = v) (hfit : fits (.long) v = true) (hl : 1 < fs.length) (hdg : decode cc pc = .ok (.putfield 21, 3)) (kk : ∀ (H1 : Heap) (locs1 : List Loc), va_P D classes (ws.set q0 (a, .inr (0, fs.set 1 v))) H1 → va_D A (ws.set q0 (a, .inr (0, fs.set 1 v))) → va_S A H0 H1 locs1 → W p l e R s m args below meth c H1 locs1 cells slots Q (F0 m (pc + 3) ls rest)) : W p l e R s m args below meth c H locs cells slots Q (F0 m pc ls (v :: .ref a :: rest)) :=
  va_putF F.1 F.2.1 F.2.2.2.2 i_K t_K t_K_ok n_K F.2.2.2.1 hK.1 hP hD hS q0 he rfl 1 (by decide) (F.2.2.2.2 _ fl_K_21) (fun _ h9 => h9) rfl hin2 rfl (by decide +kernel) hn hfit hl hdg kk
theorem gf_P_35 (F : CallFix p m c cc nL s args g_tbl R_P) (hK : KN D cL cB cI s) (hP : va_P D classes ws H) (q0 : Nat) {fs : List Value} (he : ws[q0]? = some (a, .inr (0, fs))) {v : Value} (hv : fs[1]? = some v) (hdg : decode cc pc = .ok (.getfield 35, 3)) (kk : W p l e R s m args below meth c H locs cells slots Q (F0 m (pc + 3) ls (v :: rest))) : W p l e R s m args below meth c H locs cells slots Q (F0 m pc ls (.ref a :: rest)) :=
  va_getN F.1 F.2.1 F.2.2.2.2 i_K F.2.2.2.1 hK.1 hP q0 he rfl 1 (by decide) (va_Nw.use rfl (hK.2 _ fln_P_35)) (fun _ h9 => h9) hv hdg kk
theorem gf_K_25 (F : CallFix p m c cc nL s args g_tbl R_K) (hK : KN D cL cB cI s) (hP : va_P D classes ws H) (q0 : Nat) {fs : List Value} (he : ws[q0]? = some (a, .inr (0, fs))) {v : Value} (hv : fs[2]? = some v) (hdg : decode cc pc = .ok (.getfield 25, 3)) (kk : W p l e R s m args below meth c H locs cells slots Q (F0 m (pc + 3) ls (v :: rest))) : W p l e R s m args below meth c H locs cells slots Q (F0 m pc ls (.ref a :: rest)) :=
  va_get F.1 F.2.1 F.2.2.2.2 i_K F.2.2.2.1 hK.1 hP q0 he rfl 2 (by decide) (F.2.2.2.2 _ fl_K_25) (fun _ h9 => h9) hv hdg kk
theorem pf_K_25 (F : CallFix p m c cc nL s args g_tbl R_K) (hin2 : meth.name = "<init>") (hK : KN D cL cB cI s) (hP : va_P D classes ws H) (hD : va_D A ws) (hS : va_S A H0 H locs) (q0 : Nat) {fs : List Value} (he : ws[q0]? = some (a, .inr (0, fs))) {v : Value} (hn : narrow (.long) v = v) (hfit : fits (.long) v = true) (hl : 2 < fs.length) (hdg : decode cc pc = .ok (.putfield 25, 3)) (kk : ∀ (H1 : Heap) (locs1 : List Loc), va_P D classes (ws.set q0 (a, .inr (0, fs.set 2 v))) H1 → va_D A (ws.set q0 (a, .inr (0, fs.set 2 v))) → va_S A H0 H1 locs1 → W p l e R s m args below meth c H1 locs1 cells slots Q (F0 m (pc + 3) ls rest)) : W p l e R s m args below meth c H locs cells slots Q (F0 m pc ls (v :: .ref a :: rest)) :=
  va_putF F.1 F.2.1 F.2.2.2.2 i_K t_K t_K_ok n_K F.2.2.2.1 hK.1 hP hD hS q0 he rfl 2 (by decide) (F.2.2.2.2 _ fl_K_25) (fun _ h9 => h9) rfl hin2 rfl (by decide +kernel) hn hfit hl hdg kk
theorem gf_X_86 (F : CallFix p m c cc nL s args g_tbl R_X) (hK : KN D cL cB cI s) (hP : va_P D classes ws H) (q0 : Nat) {fs : List Value} (he : ws[q0]? = some (a, .inr (0, fs))) {v : Value} (hv : fs[2]? = some v) (hdg : decode cc pc = .ok (.getfield 86, 3)) (kk : W p l e R s m args below meth c H locs cells slots Q (F0 m (pc + 3) ls (v :: rest))) : W p l e R s m args below meth c H locs cells slots Q (F0 m pc ls (.ref a :: rest)) :=
  va_getN F.1 F.2.1 F.2.2.2.2 i_K F.2.2.2.1 hK.1 hP q0 he rfl 2 (by decide) (va_Nw.use rfl (hK.2 _ fln_X_86)) (fun _ h9 => h9) hv hdg kk
theorem gf_K_28 (F : CallFix p m c cc nL s args g_tbl R_K) (hK : KN D cL cB cI s) (hP : va_P D classes ws H) (q0 : Nat) {fs : List Value} (he : ws[q0]? = some (a, .inr (0, fs))) {v : Value} (hv : fs[3]? = some v) (hdg : decode cc pc = .ok (.getfield 28, 3)) (kk : W p l e R s m args below meth c H locs cells slots Q (F0 m (pc + 3) ls (v :: rest))) : W p l e R s m args below meth c H locs cells slots Q (F0 m pc ls (.ref a :: rest)) :=
  va_get F.1 F.2.1 F.2.2.2.2 i_K F.2.2.2.1 hK.1 hP q0 he rfl 3 (by decide) (F.2.2.2.2 _ fl_K_28) (fun _ h9 => h9) hv hdg kk
theorem pf_K_28 (F : CallFix p m c cc nL s args g_tbl R_K) (hin2 : meth.name = "<init>") (hK : KN D cL cB cI s) (hP : va_P D classes ws H) (hD : va_D A ws) (hS : va_S A H0 H locs) (q0 : Nat) {fs : List Value} (he : ws[q0]? = some (a, .inr (0, fs))) {v : Value} (hn : narrow (.long) v = v) (hfit : fits (.long) v = true) (hl : 3 < fs.length) (hdg : decode cc pc = .ok (.putfield 28, 3)) (kk : ∀ (H1 : Heap) (locs1 : List Loc), va_P D classes (ws.set q0 (a, .inr (0, fs.set 3 v))) H1 → va_D A (ws.set q0 (a, .inr (0, fs.set 3 v))) → va_S A H0 H1 locs1 → W p l e R s m args below meth c H1 locs1 cells slots Q (F0 m (pc + 3) ls rest)) : W p l e R s m args below meth c H locs cells slots Q (F0 m pc ls (v :: .ref a :: rest)) :=
  va_putF F.1 F.2.1 F.2.2.2.2 i_K t_K t_K_ok n_K F.2.2.2.1 hK.1 hP hD hS q0 he rfl 3 (by decide) (F.2.2.2.2 _ fl_K_28) (fun _ h9 => h9) rfl hin2 rfl (by decide +kernel) hn hfit hl hdg kk
theorem gf_X_53 (F : CallFix p m c cc nL s args g_tbl R_X) (hK : KN D cL cB cI s) (hP : va_P D classes ws H) (q0 : Nat) {fs : List Value} (he : ws[q0]? = some (a, .inr (0, fs))) {v : Value} (hv : fs[3]? = some v) (hdg : decode cc pc = .ok (.getfield 53, 3)) (kk : W p l e R s m args below meth c H locs cells slots Q (F0 m (pc + 3) ls (v :: rest))) : W p l e R s m args below meth c H locs cells slots Q (F0 m pc ls (.ref a :: rest)) :=
  va_getN F.1 F.2.1 F.2.2.2.2 i_K F.2.2.2.1 hK.1 hP q0 he rfl 3 (by decide) (va_Nw.use rfl (hK.2 _ fln_X_53)) (fun _ h9 => h9) hv hdg kk
theorem gf_K_31 (F : CallFix p m c cc nL s args g_tbl R_K) (hK : KN D cL cB cI s) (hP : va_P D classes ws H) (q0 : Nat) {fs : List Value} (he : ws[q0]? = some (a, .inr (0, fs))) {v : Value} (hv : fs[4]? = some v) (hdg : decode cc pc = .ok (.getfield 31, 3)) (kk : W p l e R s m args below meth c H locs cells slots Q (F0 m (pc + 3) ls (v :: rest))) : W p l e R s m args below meth c H locs cells slots Q (F0 m pc ls (.ref a :: rest)) :=
  va_get F.1 F.2.1 F.2.2.2.2 i_K F.2.2.2.1 hK.1 hP q0 he rfl 4 (by decide) (F.2.2.2.2 _ fl_K_31) (fun _ h9 => h9) hv hdg kk
theorem pf_K_31 (F : CallFix p m c cc nL s args g_tbl R_K) (hin2 : meth.name = "<init>") (hK : KN D cL cB cI s) (hP : va_P D classes ws H) (hD : va_D A ws) (hS : va_S A H0 H locs) (q0 : Nat) {fs : List Value} (he : ws[q0]? = some (a, .inr (0, fs))) {v : Value} (hn : narrow (.long) v = v) (hfit : fits (.long) v = true) (hl : 4 < fs.length) (hdg : decode cc pc = .ok (.putfield 31, 3)) (kk : ∀ (H1 : Heap) (locs1 : List Loc), va_P D classes (ws.set q0 (a, .inr (0, fs.set 4 v))) H1 → va_D A (ws.set q0 (a, .inr (0, fs.set 4 v))) → va_S A H0 H1 locs1 → W p l e R s m args below meth c H1 locs1 cells slots Q (F0 m (pc + 3) ls rest)) : W p l e R s m args below meth c H locs cells slots Q (F0 m pc ls (v :: .ref a :: rest)) :=
  va_putF F.1 F.2.1 F.2.2.2.2 i_K t_K t_K_ok n_K F.2.2.2.1 hK.1 hP hD hS q0 he rfl 4 (by decide) (F.2.2.2.2 _ fl_K_31) (fun _ h9 => h9) rfl hin2 rfl (by decide +kernel) hn hfit hl hdg kk
theorem gf_X_133 (F : CallFix p m c cc nL s args g_tbl R_X) (hK : KN D cL cB cI s) (hP : va_P D classes ws H) (q0 : Nat) {fs : List Value} (he : ws[q0]? = some (a, .inr (0, fs))) {v : Value} (hv : fs[4]? = some v) (hdg : decode cc pc = .ok (.getfield 133, 3)) (kk : W p l e R s m args below meth c H locs cells slots Q (F0 m (pc + 3) ls (v :: rest))) : W p l e R s m args below meth c H locs cells slots Q (F0 m pc ls (.ref a :: rest)) :=
  va_getN F.1 F.2.1 F.2.2.2.2 i_K F.2.2.2.1 hK.1 hP q0 he rfl 4 (by decide) (va_Nw.use rfl (hK.2 _ fln_X_133)) (fun _ h9 => h9) hv hdg kk
theorem gf_K_34 (F : CallFix p m c cc nL s args g_tbl R_K) (hK : KN D cL cB cI s) (hP : va_P D classes ws H) (q0 : Nat) {fs : List Value} (he : ws[q0]? = some (a, .inr (0, fs))) {v : Value} (hv : fs[5]? = some v) (hdg : decode cc pc = .ok (.getfield 34, 3)) (kk : W p l e R s m args below meth c H locs cells slots Q (F0 m (pc + 3) ls (v :: rest))) : W p l e R s m args below meth c H locs cells slots Q (F0 m pc ls (.ref a :: rest)) :=
  va_get F.1 F.2.1 F.2.2.2.2 i_K F.2.2.2.1 hK.1 hP q0 he rfl 5 (by decide) (F.2.2.2.2 _ fl_K_34) (fun _ h9 => h9) hv hdg kk
theorem pf_K_34 (F : CallFix p m c cc nL s args g_tbl R_K) (hin2 : meth.name = "<init>") (hK : KN D cL cB cI s) (hP : va_P D classes ws H) (hD : va_D A ws) (hS : va_S A H0 H locs) (q0 : Nat) {fs : List Value} (he : ws[q0]? = some (a, .inr (0, fs))) {v : Value} (hn : narrow (.boolean) v = v) (hfit : fits (.boolean) v = true) (hl : 5 < fs.length) (hdg : decode cc pc = .ok (.putfield 34, 3)) (kk : ∀ (H1 : Heap) (locs1 : List Loc), va_P D classes (ws.set q0 (a, .inr (0, fs.set 5 v))) H1 → va_D A (ws.set q0 (a, .inr (0, fs.set 5 v))) → va_S A H0 H1 locs1 → W p l e R s m args below meth c H1 locs1 cells slots Q (F0 m (pc + 3) ls rest)) : W p l e R s m args below meth c H locs cells slots Q (F0 m pc ls (v :: .ref a :: rest)) :=
  va_putF F.1 F.2.1 F.2.2.2.2 i_K t_K t_K_ok n_K F.2.2.2.1 hK.1 hP hD hS q0 he rfl 5 (by decide) (F.2.2.2.2 _ fl_K_34) (fun _ h9 => h9) rfl hin2 rfl (by decide +kernel) hn hfit hl hdg kk
theorem gf_X_45 (F : CallFix p m c cc nL s args g_tbl R_X) (hK : KN D cL cB cI s) (hP : va_P D classes ws H) (q0 : Nat) {fs : List Value} (he : ws[q0]? = some (a, .inr (0, fs))) {v : Value} (hv : fs[5]? = some v) (hdg : decode cc pc = .ok (.getfield 45, 3)) (kk : W p l e R s m args below meth c H locs cells slots Q (F0 m (pc + 3) ls (v :: rest))) : W p l e R s m args below meth c H locs cells slots Q (F0 m pc ls (.ref a :: rest)) :=
  va_getN F.1 F.2.1 F.2.2.2.2 i_K F.2.2.2.1 hK.1 hP q0 he rfl 5 (by decide) (va_Nw.use rfl (hK.2 _ fln_X_45)) (fun _ h9 => h9) hv hdg kk
theorem gf_K_38 (F : CallFix p m c cc nL s args g_tbl R_K) (hK : KN D cL cB cI s) (hP : va_P D classes ws H) (q0 : Nat) {fs : List Value} (he : ws[q0]? = some (a, .inr (0, fs))) {v : Value} (hv : fs[6]? = some v) (hdg : decode cc pc = .ok (.getfield 38, 3)) (kk : W p l e R s m args below meth c H locs cells slots Q (F0 m (pc + 3) ls (v :: rest))) : W p l e R s m args below meth c H locs cells slots Q (F0 m pc ls (.ref a :: rest)) :=
  va_get F.1 F.2.1 F.2.2.2.2 i_K F.2.2.2.1 hK.1 hP q0 he rfl 6 (by decide) (F.2.2.2.2 _ fl_K_38) (fun _ h9 => h9) hv hdg kk
theorem pf_K_38 (F : CallFix p m c cc nL s args g_tbl R_K) (hin2 : meth.name = "<init>") (hK : KN D cL cB cI s) (hP : va_P D classes ws H) (hD : va_D A ws) (hS : va_S A H0 H locs) (q0 : Nat) {fs : List Value} (he : ws[q0]? = some (a, .inr (0, fs))) {v : Value} (hn : narrow (.boolean) v = v) (hfit : fits (.boolean) v = true) (hl : 6 < fs.length) (hdg : decode cc pc = .ok (.putfield 38, 3)) (kk : ∀ (H1 : Heap) (locs1 : List Loc), va_P D classes (ws.set q0 (a, .inr (0, fs.set 6 v))) H1 → va_D A (ws.set q0 (a, .inr (0, fs.set 6 v))) → va_S A H0 H1 locs1 → W p l e R s m args below meth c H1 locs1 cells slots Q (F0 m (pc + 3) ls rest)) : W p l e R s m args below meth c H locs cells slots Q (F0 m pc ls (v :: .ref a :: rest)) :=
  va_putF F.1 F.2.1 F.2.2.2.2 i_K t_K t_K_ok n_K F.2.2.2.1 hK.1 hP hD hS q0 he rfl 6 (by decide) (F.2.2.2.2 _ fl_K_38) (fun _ h9 => h9) rfl hin2 rfl (by decide +kernel) hn hfit hl hdg kk
theorem gf_X_130 (F : CallFix p m c cc nL s args g_tbl R_X) (hK : KN D cL cB cI s) (hP : va_P D classes ws H) (q0 : Nat) {fs : List Value} (he : ws[q0]? = some (a, .inr (0, fs))) {v : Value} (hv : fs[6]? = some v) (hdg : decode cc pc = .ok (.getfield 130, 3)) (kk : W p l e R s m args below meth c H locs cells slots Q (F0 m (pc + 3) ls (v :: rest))) : W p l e R s m args below meth c H locs cells slots Q (F0 m pc ls (.ref a :: rest)) :=
  va_getN F.1 F.2.1 F.2.2.2.2 i_K F.2.2.2.1 hK.1 hP q0 he rfl 6 (by decide) (va_Nw.use rfl (hK.2 _ fln_X_130)) (fun _ h9 => h9) hv hdg kk
theorem gf_K_9 (F : CallFix p m c cc nL s args g_tbl R_K) (hK : KN D cL cB cI s) (hP : va_P D classes ws H) (q0 : Nat) {fs : List Value} (he : ws[q0]? = some (a, .inr (0, fs))) {v : Value} (hv : fs[7]? = some v) (hdg : decode cc pc = .ok (.getfield 9, 3)) (kk : W p l e R s m args below meth c H locs cells slots Q (F0 m (pc + 3) ls (v :: rest))) : W p l e R s m args below meth c H locs cells slots Q (F0 m pc ls (.ref a :: rest)) :=
  va_get F.1 F.2.1 F.2.2.2.2 i_K F.2.2.2.1 hK.1 hP q0 he rfl 7 (by decide) (F.2.2.2.2 _ fl_K_9) (fun _ h9 => h9) hv hdg kk
theorem pf_K_9 (F : CallFix p m c cc nL s args g_tbl R_K) (hin2 : meth.name = "<init>") (hK : KN D cL cB cI s) (hP : va_P D classes ws H) (hD : va_D A ws) (hS : va_S A H0 H locs) (q0 : Nat) {fs : List Value} (he : ws[q0]? = some (a, .inr (0, fs))) {v : Value} (hn : narrow (.array .long) v = v) (hfit : fits (.array .long) v = true) (hl : 7 < fs.length) (hdg : decode cc pc = .ok (.putfield 9, 3)) (kk : ∀ (H1 : Heap) (locs1 : List Loc), va_P D classes (ws.set q0 (a, .inr (0, fs.set 7 v))) H1 → va_D A (ws.set q0 (a, .inr (0, fs.set 7 v))) → va_S A H0 H1 locs1 → W p l e R s m args below meth c H1 locs1 cells slots Q (F0 m (pc + 3) ls rest)) : W p l e R s m args below meth c H locs cells slots Q (F0 m pc ls (v :: .ref a :: rest)) :=
  va_putF F.1 F.2.1 F.2.2.2.2 i_K t_K t_K_ok n_K F.2.2.2.1 hK.1 hP hD hS q0 he rfl 7 (by decide) (F.2.2.2.2 _ fl_K_9) (fun _ h9 => h9) rfl hin2 rfl (by decide +kernel) hn hfit hl hdg kk
theorem gf_X_115 (F : CallFix p m c cc nL s args g_tbl R_X) (hK : KN D cL cB cI s) (hP : va_P D classes ws H) (q0 : Nat) {fs : List Value} (he : ws[q0]? = some (a, .inr (0, fs))) {v : Value} (hv : fs[7]? = some v) (hdg : decode cc pc = .ok (.getfield 115, 3)) (kk : W p l e R s m args below meth c H locs cells slots Q (F0 m (pc + 3) ls (v :: rest))) : W p l e R s m args below meth c H locs cells slots Q (F0 m pc ls (.ref a :: rest)) :=
  va_getN F.1 F.2.1 F.2.2.2.2 i_K F.2.2.2.1 hK.1 hP q0 he rfl 7 (by decide) (va_Nw.use rfl (hK.2 _ fln_X_115)) (fun _ h9 => h9) hv hdg kk
theorem gf_P_9 (F : CallFix p m c cc nL s args g_tbl R_P) (hK : KN D cL cB cI s) (hP : va_P D classes ws H) (q0 : Nat) {fs : List Value} (he : ws[q0]? = some (a, .inr (1, fs))) {v : Value} (hv : fs[0]? = some v) (hdg : decode cc pc = .ok (.getfield 9, 3)) (kk : W p l e R s m args below meth c H locs cells slots Q (F0 m (pc + 3) ls (v :: rest))) : W p l e R s m args below meth c H locs cells slots Q (F0 m pc ls (.ref a :: rest)) :=
  va_get F.1 F.2.1 F.2.2.2.2 i_P F.2.2.2.1 hK.1 hP q0 he rfl 0 (by decide) (F.2.2.2.2 _ fl_P_9) (fun _ h9 => h9) hv hdg kk
theorem pf_P_9 (F : CallFix p m c cc nL s args g_tbl R_P) (hin2 : meth.name = "<init>") (hK : KN D cL cB cI s) (hP : va_P D classes ws H) (hD : va_D A ws) (hS : va_S A H0 H locs) (q0 : Nat) {fs : List Value} (he : ws[q0]? = some (a, .inr (1, fs))) {v : Value} (hn : narrow (.array .long) v = v) (hfit : fits (.array .long) v = true) (hl : 0 < fs.length) (hdg : decode cc pc = .ok (.putfield 9, 3)) (kk : ∀ (H1 : Heap) (locs1 : List Loc), va_P D classes (ws.set q0 (a, .inr (1, fs.set 0 v))) H1 → va_D A (ws.set q0 (a, .inr (1, fs.set 0 v))) → va_S A H0 H1 locs1 → W p l e R s m args below meth c H1 locs1 cells slots Q (F0 m (pc + 3) ls rest)) : W p l e R s m args below meth c H locs cells slots Q (F0 m pc ls (v :: .ref a :: rest)) :=
  va_putF F.1 F.2.1 F.2.2.2.2 i_P t_P t_P_ok n_P F.2.2.2.1 hK.1 hP hD hS q0 he rfl 0 (by decide) (F.2.2.2.2 _ fl_P_9) (fun _ h9 => h9) rfl hin2 rfl (by decide +kernel) hn hfit hl hdg kk
theorem gf_P_15 (F : CallFix p m c cc nL s args g_tbl R_P) (hK : KN D cL cB cI s) (hP : va_P D classes ws H) (q0 : Nat) {fs : List Value} (he : ws[q0]? = some (a, .inr (1, fs))) {v : Value} (hv : fs[1]? = some v) (hdg : decode cc pc = .ok (.getfield 15, 3)) (kk : W p l e R s m args below meth c H locs cells slots Q (F0 m (pc + 3) ls (v :: rest))) : W p l e R s m args below meth c H locs cells slots Q (F0 m pc ls (.ref a :: rest)) :=
  va_get F.1 F.2.1 F.2.2.2.2 i_P F.2.2.2.1 hK.1 hP q0 he rfl 1 (by decide) (F.2.2.2.2 _ fl_P_15) (fun _ h9 => h9) hv hdg kk
theorem pf_P_15 (F : CallFix p m c cc nL s args g_tbl R_P) (hin2 : meth.name = "<init>") (hK : KN D cL cB cI s) (hP : va_P D classes ws H) (hD : va_D A ws) (hS : va_S A H0 H locs) (q0 : Nat) {fs : List Value} (he : ws[q0]? = some (a, .inr (1, fs))) {v : Value} (hn : narrow (.array .long) v = v) (hfit : fits (.array .long) v = true) (hl : 1 < fs.length) (hdg : decode cc pc = .ok (.putfield 15, 3)) (kk : ∀ (H1 : Heap) (locs1 : List Loc), va_P D classes (ws.set q0 (a, .inr (1, fs.set 1 v))) H1 → va_D A (ws.set q0 (a, .inr (1, fs.set 1 v))) → va_S A H0 H1 locs1 → W p l e R s m args below meth c H1 locs1 cells slots Q (F0 m (pc + 3) ls rest)) : W p l e R s m args below meth c H locs cells slots Q (F0 m pc ls (v :: .ref a :: rest)) :=
  va_putF F.1 F.2.1 F.2.2.2.2 i_P t_P t_P_ok n_P F.2.2.2.1 hK.1 hP hD hS q0 he rfl 1 (by decide) (F.2.2.2.2 _ fl_P_15) (fun _ h9 => h9) rfl hin2 rfl (by decide +kernel) hn hfit hl hdg kk
theorem gf_X_16 (F : CallFix p m c cc nL s args g_tbl R_X) (hK : KN D cL cB cI s) (hP : va_P D classes ws H) (q0 : Nat) {fs : List Value} (he : ws[q0]? = some (a, .inr (2, fs))) {v : Value} (hv : fs[0]? = some v) (hdg : decode cc pc = .ok (.getfield 16, 3)) (kk : W p l e R s m args below meth c H locs cells slots Q (F0 m (pc + 3) ls (v :: rest))) : W p l e R s m args below meth c H locs cells slots Q (F0 m pc ls (.ref a :: rest)) :=
  va_get F.1 F.2.1 F.2.2.2.2 i_X F.2.2.2.1 hK.1 hP q0 he rfl 0 (by decide) (F.2.2.2.2 _ fl_X_16) (fun _ h9 => h9) hv hdg kk
theorem pf_X_16 (F : CallFix p m c cc nL s args g_tbl R_X) (hK : KN D cL cB cI s) (hP : va_P D classes ws H) (hD : va_D A ws) (hS : va_S A H0 H locs) (q0 : Nat) {fs : List Value} (he : ws[q0]? = some (a, .inr (2, fs))) {v : Value} (hn : narrow (.object "SliceChecks$Kind") v = v) (hfit : fits (.object "SliceChecks$Kind") v = true) (hl : 0 < fs.length) (hdg : decode cc pc = .ok (.putfield 16, 3)) (kk : ∀ (H1 : Heap) (locs1 : List Loc), va_P D classes (ws.set q0 (a, .inr (2, fs.set 0 v))) H1 → va_D A (ws.set q0 (a, .inr (2, fs.set 0 v))) → va_S A H0 H1 locs1 → W p l e R s m args below meth c H1 locs1 cells slots Q (F0 m (pc + 3) ls rest)) : W p l e R s m args below meth c H locs cells slots Q (F0 m pc ls (v :: .ref a :: rest)) :=
  va_put F.1 F.2.1 F.2.2.2.2 i_X t_X t_X_ok n_X F.2.2.2.1 hK.1 hP hD hS q0 he rfl 0 (by decide) (F.2.2.2.2 _ fl_X_16) (fun _ h9 => h9) rfl (by decide +kernel) hn hfit hl hdg kk
theorem gf_X_25 (F : CallFix p m c cc nL s args g_tbl R_X) (hK : KN D cL cB cI s) (hP : va_P D classes ws H) (q0 : Nat) {fs : List Value} (he : ws[q0]? = some (a, .inr (2, fs))) {v : Value} (hv : fs[1]? = some v) (hdg : decode cc pc = .ok (.getfield 25, 3)) (kk : W p l e R s m args below meth c H locs cells slots Q (F0 m (pc + 3) ls (v :: rest))) : W p l e R s m args below meth c H locs cells slots Q (F0 m pc ls (.ref a :: rest)) :=
  va_get F.1 F.2.1 F.2.2.2.2 i_X F.2.2.2.1 hK.1 hP q0 he rfl 1 (by decide) (F.2.2.2.2 _ fl_X_25) (fun _ h9 => h9) hv hdg kk
theorem pf_X_25 (F : CallFix p m c cc nL s args g_tbl R_X) (hin2 : meth.name = "<init>") (hK : KN D cL cB cI s) (hP : va_P D classes ws H) (hD : va_D A ws) (hS : va_S A H0 H locs) (q0 : Nat) {fs : List Value} (he : ws[q0]? = some (a, .inr (2, fs))) {v : Value} (hn : narrow (.object "SliceChecks$Powers") v = v) (hfit : fits (.object "SliceChecks$Powers") v = true) (hl : 1 < fs.length) (hdg : decode cc pc = .ok (.putfield 25, 3)) (kk : ∀ (H1 : Heap) (locs1 : List Loc), va_P D classes (ws.set q0 (a, .inr (2, fs.set 1 v))) H1 → va_D A (ws.set q0 (a, .inr (2, fs.set 1 v))) → va_S A H0 H1 locs1 → W p l e R s m args below meth c H1 locs1 cells slots Q (F0 m (pc + 3) ls rest)) : W p l e R s m args below meth c H locs cells slots Q (F0 m pc ls (v :: .ref a :: rest)) :=
  va_putF F.1 F.2.1 F.2.2.2.2 i_X t_X t_X_ok n_X F.2.2.2.1 hK.1 hP hD hS q0 he rfl 1 (by decide) (F.2.2.2.2 _ fl_X_25) (fun _ h9 => h9) rfl hin2 rfl (by decide +kernel) hn hfit hl hdg kk
theorem gf_X_29 (F : CallFix p m c cc nL s args g_tbl R_X) (hK : KN D cL cB cI s) (hP : va_P D classes ws H) (q0 : Nat) {fs : List Value} (he : ws[q0]? = some (a, .inr (2, fs))) {v : Value} (hv : fs[2]? = some v) (hdg : decode cc pc = .ok (.getfield 29, 3)) (kk : W p l e R s m args below meth c H locs cells slots Q (F0 m (pc + 3) ls (v :: rest))) : W p l e R s m args below meth c H locs cells slots Q (F0 m pc ls (.ref a :: rest)) :=
  va_get F.1 F.2.1 F.2.2.2.2 i_X F.2.2.2.1 hK.1 hP q0 he rfl 2 (by decide) (F.2.2.2.2 _ fl_X_29) (fun _ h9 => h9) hv hdg kk
theorem pf_X_29 (F : CallFix p m c cc nL s args g_tbl R_X) (hin2 : meth.name = "<init>") (hK : KN D cL cB cI s) (hP : va_P D classes ws H) (hD : va_D A ws) (hS : va_S A H0 H locs) (q0 : Nat) {fs : List Value} (he : ws[q0]? = some (a, .inr (2, fs))) {v : Value} (hn : narrow (.array .byte) v = v) (hfit : fits (.array .byte) v = true) (hl : 2 < fs.length) (hdg : decode cc pc = .ok (.putfield 29, 3)) (kk : ∀ (H1 : Heap) (locs1 : List Loc), va_P D classes (ws.set q0 (a, .inr (2, fs.set 2 v))) H1 → va_D A (ws.set q0 (a, .inr (2, fs.set 2 v))) → va_S A H0 H1 locs1 → W p l e R s m args below meth c H1 locs1 cells slots Q (F0 m (pc + 3) ls rest)) : W p l e R s m args below meth c H locs cells slots Q (F0 m pc ls (v :: .ref a :: rest)) :=
  va_putF F.1 F.2.1 F.2.2.2.2 i_X t_X t_X_ok n_X F.2.2.2.1 hK.1 hP hD hS q0 he rfl 2 (by decide) (F.2.2.2.2 _ fl_X_29) (fun _ h9 => h9) rfl hin2 rfl (by decide +kernel) hn hfit hl hdg kk
theorem gf_X_34 (F : CallFix p m c cc nL s args g_tbl R_X) (hK : KN D cL cB cI s) (hP : va_P D classes ws H) (q0 : Nat) {fs : List Value} (he : ws[q0]? = some (a, .inr (2, fs))) {v : Value} (hv : fs[3]? = some v) (hdg : decode cc pc = .ok (.getfield 34, 3)) (kk : W p l e R s m args below meth c H locs cells slots Q (F0 m (pc + 3) ls (v :: rest))) : W p l e R s m args below meth c H locs cells slots Q (F0 m pc ls (.ref a :: rest)) :=
  va_get F.1 F.2.1 F.2.2.2.2 i_X F.2.2.2.1 hK.1 hP q0 he rfl 3 (by decide) (F.2.2.2.2 _ fl_X_34) (fun _ h9 => h9) hv hdg kk
theorem pf_X_34 (F : CallFix p m c cc nL s args g_tbl R_X) (hin2 : meth.name = "<init>") (hK : KN D cL cB cI s) (hP : va_P D classes ws H) (hD : va_D A ws) (hS : va_S A H0 H locs) (q0 : Nat) {fs : List Value} (he : ws[q0]? = some (a, .inr (2, fs))) {v : Value} (hn : narrow (.array .byte) v = v) (hfit : fits (.array .byte) v = true) (hl : 3 < fs.length) (hdg : decode cc pc = .ok (.putfield 34, 3)) (kk : ∀ (H1 : Heap) (locs1 : List Loc), va_P D classes (ws.set q0 (a, .inr (2, fs.set 3 v))) H1 → va_D A (ws.set q0 (a, .inr (2, fs.set 3 v))) → va_S A H0 H1 locs1 → W p l e R s m args below meth c H1 locs1 cells slots Q (F0 m (pc + 3) ls rest)) : W p l e R s m args below meth c H locs cells slots Q (F0 m pc ls (v :: .ref a :: rest)) :=
  va_putF F.1 F.2.1 F.2.2.2.2 i_X t_X t_X_ok n_X F.2.2.2.1 hK.1 hP hD hS q0 he rfl 3 (by decide) (F.2.2.2.2 _ fl_X_34) (fun _ h9 => h9) rfl hin2 rfl (by decide +kernel) hn hfit hl hdg kk
theorem gf_X_41 (F : CallFix p m c cc nL s args g_tbl R_X) (hK : KN D cL cB cI s) (hP : va_P D classes ws H) (q0 : Nat) {fs : List Value} (he : ws[q0]? = some (a, .inr (2, fs))) {v : Value} (hv : fs[4]? = some v) (hdg : decode cc pc = .ok (.getfield 41, 3)) (kk : W p l e R s m args below meth c H locs cells slots Q (F0 m (pc + 3) ls (v :: rest))) : W p l e R s m args below meth c H locs cells slots Q (F0 m pc ls (.ref a :: rest)) :=
  va_get F.1 F.2.1 F.2.2.2.2 i_X F.2.2.2.1 hK.1 hP q0 he rfl 4 (by decide) (F.2.2.2.2 _ fl_X_41) (fun _ h9 => h9) hv hdg kk
theorem pf_X_41 (F : CallFix p m c cc nL s args g_tbl R_X) (hK : KN D cL cB cI s) (hP : va_P D classes ws H) (hD : va_D A ws) (hS : va_S A H0 H locs) (q0 : Nat) {fs : List Value} (he : ws[q0]? = some (a, .inr (2, fs))) {v : Value} (hn : narrow (.int) v = v) (hfit : fits (.int) v = true) (hl : 4 < fs.length) (hdg : decode cc pc = .ok (.putfield 41, 3)) (kk : ∀ (H1 : Heap) (locs1 : List Loc), va_P D classes (ws.set q0 (a, .inr (2, fs.set 4 v))) H1 → va_D A (ws.set q0 (a, .inr (2, fs.set 4 v))) → va_S A H0 H1 locs1 → W p l e R s m args below meth c H1 locs1 cells slots Q (F0 m (pc + 3) ls rest)) : W p l e R s m args below meth c H locs cells slots Q (F0 m pc ls (v :: .ref a :: rest)) :=
  va_put F.1 F.2.1 F.2.2.2.2 i_X t_X t_X_ok n_X F.2.2.2.1 hK.1 hP hD hS q0 he rfl 4 (by decide) (F.2.2.2.2 _ fl_X_41) (fun _ h9 => h9) rfl (by decide +kernel) hn hfit hl hdg kk
theorem gf_M_7 (F : CallFix p m c cc nL s args g_tbl R_M) (hK : KN D cL cB cI s) (hP : va_P D classes ws H) (q0 : Nat) {fs : List Value} (he : ws[q0]? = some (a, .inr (3, fs))) {v : Value} (hv : fs[0]? = some v) (hdg : decode cc pc = .ok (.getfield 7, 3)) (kk : W p l e R s m args below meth c H locs cells slots Q (F0 m (pc + 3) ls (v :: rest))) : W p l e R s m args below meth c H locs cells slots Q (F0 m pc ls (.ref a :: rest)) :=
  va_get F.1 F.2.1 F.2.2.2.2 i_M F.2.2.2.1 hK.1 hP q0 he rfl 0 (by decide) (F.2.2.2.2 _ fl_M_7) (fun _ h9 => h9) hv hdg kk
theorem pf_M_7 (F : CallFix p m c cc nL s args g_tbl R_M) (hK : KN D cL cB cI s) (hP : va_P D classes ws H) (hD : va_D A ws) (hS : va_S A H0 H locs) (q0 : Nat) {fs : List Value} (he : ws[q0]? = some (a, .inr (3, fs))) {v : Value} (hn : narrow (.int) v = v) (hfit : fits (.int) v = true) (hl : 0 < fs.length) (hdg : decode cc pc = .ok (.putfield 7, 3)) (kk : ∀ (H1 : Heap) (locs1 : List Loc), va_P D classes (ws.set q0 (a, .inr (3, fs.set 0 v))) H1 → va_D A (ws.set q0 (a, .inr (3, fs.set 0 v))) → va_S A H0 H1 locs1 → W p l e R s m args below meth c H1 locs1 cells slots Q (F0 m (pc + 3) ls rest)) : W p l e R s m args below meth c H locs cells slots Q (F0 m pc ls (v :: .ref a :: rest)) :=
  va_put F.1 F.2.1 F.2.2.2.2 i_M t_M t_M_ok n_M F.2.2.2.1 hK.1 hP hD hS q0 he rfl 0 (by decide) (F.2.2.2.2 _ fl_M_7) (fun _ h9 => h9) rfl (by decide +kernel) hn hfit hl hdg kk
theorem gf_M_15 (F : CallFix p m c cc nL s args g_tbl R_M) (hK : KN D cL cB cI s) (hP : va_P D classes ws H) (q0 : Nat) {fs : List Value} (he : ws[q0]? = some (a, .inr (3, fs))) {v : Value} (hv : fs[1]? = some v) (hdg : decode cc pc = .ok (.getfield 15, 3)) (kk : W p l e R s m args below meth c H locs cells slots Q (F0 m (pc + 3) ls (v :: rest))) : W p l e R s m args below meth c H locs cells slots Q (F0 m pc ls (.ref a :: rest)) :=
  va_get F.1 F.2.1 F.2.2.2.2 i_M F.2.2.2.1 hK.1 hP q0 he rfl 1 (by decide) (F.2.2.2.2 _ fl_M_15) (fun _ h9 => h9) hv hdg kk
theorem pf_M_15 (F : CallFix p m c cc nL s args g_tbl R_M) (hK : KN D cL cB cI s) (hP : va_P D classes ws H) (hD : va_D A ws) (hS : va_S A H0 H locs) (q0 : Nat) {fs : List Value} (he : ws[q0]? = some (a, .inr (3, fs))) {v : Value} (hn : narrow (.long) v = v) (hfit : fits (.long) v = true) (hl : 1 < fs.length) (hdg : decode cc pc = .ok (.putfield 15, 3)) (kk : ∀ (H1 : Heap) (locs1 : List Loc), va_P D classes (ws.set q0 (a, .inr (3, fs.set 1 v))) H1 → va_D A (ws.set q0 (a, .inr (3, fs.set 1 v))) → va_S A H0 H1 locs1 → W p l e R s m args below meth c H1 locs1 cells slots Q (F0 m (pc + 3) ls rest)) : W p l e R s m args below meth c H locs cells slots Q (F0 m pc ls (v :: .ref a :: rest)) :=
  va_put F.1 F.2.1 F.2.2.2.2 i_M t_M t_M_ok n_M F.2.2.2.1 hK.1 hP hD hS q0 he rfl 1 (by decide) (F.2.2.2.2 _ fl_M_15) (fun _ h9 => h9) rfl (by decide +kernel) hn hfit hl hdg kk
theorem gf_M_21 (F : CallFix p m c cc nL s args g_tbl R_M) (hK : KN D cL cB cI s) (hP : va_P D classes ws H) (q0 : Nat) {fs : List Value} (he : ws[q0]? = some (a, .inr (3, fs))) {v : Value} (hv : fs[2]? = some v) (hdg : decode cc pc = .ok (.getfield 21, 3)) (kk : W p l e R s m args below meth c H locs cells slots Q (F0 m (pc + 3) ls (v :: rest))) : W p l e R s m args below meth c H locs cells slots Q (F0 m pc ls (.ref a :: rest)) :=
  va_get F.1 F.2.1 F.2.2.2.2 i_M F.2.2.2.1 hK.1 hP q0 he rfl 2 (by decide) (F.2.2.2.2 _ fl_M_21) (fun _ h9 => h9) hv hdg kk
theorem pf_M_21 (F : CallFix p m c cc nL s args g_tbl R_M) (hK : KN D cL cB cI s) (hP : va_P D classes ws H) (hD : va_D A ws) (hS : va_S A H0 H locs) (q0 : Nat) {fs : List Value} (he : ws[q0]? = some (a, .inr (3, fs))) {v : Value} (hn : narrow (.long) v = v) (hfit : fits (.long) v = true) (hl : 2 < fs.length) (hdg : decode cc pc = .ok (.putfield 21, 3)) (kk : ∀ (H1 : Heap) (locs1 : List Loc), va_P D classes (ws.set q0 (a, .inr (3, fs.set 2 v))) H1 → va_D A (ws.set q0 (a, .inr (3, fs.set 2 v))) → va_S A H0 H1 locs1 → W p l e R s m args below meth c H1 locs1 cells slots Q (F0 m (pc + 3) ls rest)) : W p l e R s m args below meth c H locs cells slots Q (F0 m pc ls (v :: .ref a :: rest)) :=
  va_put F.1 F.2.1 F.2.2.2.2 i_M t_M t_M_ok n_M F.2.2.2.1 hK.1 hP hD hS q0 he rfl 2 (by decide) (F.2.2.2.2 _ fl_M_21) (fun _ h9 => h9) rfl (by decide +kernel) hn hfit hl hdg kk
theorem gf_M_24 (F : CallFix p m c cc nL s args g_tbl R_M) (hK : KN D cL cB cI s) (hP : va_P D classes ws H) (q0 : Nat) {fs : List Value} (he : ws[q0]? = some (a, .inr (3, fs))) {v : Value} (hv : fs[3]? = some v) (hdg : decode cc pc = .ok (.getfield 24, 3)) (kk : W p l e R s m args below meth c H locs cells slots Q (F0 m (pc + 3) ls (v :: rest))) : W p l e R s m args below meth c H locs cells slots Q (F0 m pc ls (.ref a :: rest)) :=
  va_get F.1 F.2.1 F.2.2.2.2 i_M F.2.2.2.1 hK.1 hP q0 he rfl 3 (by decide) (F.2.2.2.2 _ fl_M_24) (fun _ h9 => h9) hv hdg kk
theorem pf_M_24 (F : CallFix p m c cc nL s args g_tbl R_M) (hK : KN D cL cB cI s) (hP : va_P D classes ws H) (hD : va_D A ws) (hS : va_S A H0 H locs) (q0 : Nat) {fs : List Value} (he : ws[q0]? = some (a, .inr (3, fs))) {v : Value} (hn : narrow (.long) v = v) (hfit : fits (.long) v = true) (hl : 3 < fs.length) (hdg : decode cc pc = .ok (.putfield 24, 3)) (kk : ∀ (H1 : Heap) (locs1 : List Loc), va_P D classes (ws.set q0 (a, .inr (3, fs.set 3 v))) H1 → va_D A (ws.set q0 (a, .inr (3, fs.set 3 v))) → va_S A H0 H1 locs1 → W p l e R s m args below meth c H1 locs1 cells slots Q (F0 m (pc + 3) ls rest)) : W p l e R s m args below meth c H locs cells slots Q (F0 m pc ls (v :: .ref a :: rest)) :=
  va_put F.1 F.2.1 F.2.2.2.2 i_M t_M t_M_ok n_M F.2.2.2.1 hK.1 hP hD hS q0 he rfl 3 (by decide) (F.2.2.2.2 _ fl_M_24) (fun _ h9 => h9) rfl (by decide +kernel) hn hfit hl hdg kk
theorem gf_M_27 (F : CallFix p m c cc nL s args g_tbl R_M) (hK : KN D cL cB cI s) (hP : va_P D classes ws H) (q0 : Nat) {fs : List Value} (he : ws[q0]? = some (a, .inr (3, fs))) {v : Value} (hv : fs[4]? = some v) (hdg : decode cc pc = .ok (.getfield 27, 3)) (kk : W p l e R s m args below meth c H locs cells slots Q (F0 m (pc + 3) ls (v :: rest))) : W p l e R s m args below meth c H locs cells slots Q (F0 m pc ls (.ref a :: rest)) :=
  va_get F.1 F.2.1 F.2.2.2.2 i_M F.2.2.2.1 hK.1 hP q0 he rfl 4 (by decide) (F.2.2.2.2 _ fl_M_27) (fun _ h9 => h9) hv hdg kk
theorem pf_M_27 (F : CallFix p m c cc nL s args g_tbl R_M) (hK : KN D cL cB cI s) (hP : va_P D classes ws H) (hD : va_D A ws) (hS : va_S A H0 H locs) (q0 : Nat) {fs : List Value} (he : ws[q0]? = some (a, .inr (3, fs))) {v : Value} (hn : narrow (.boolean) v = v) (hfit : fits (.boolean) v = true) (hl : 4 < fs.length) (hdg : decode cc pc = .ok (.putfield 27, 3)) (kk : ∀ (H1 : Heap) (locs1 : List Loc), va_P D classes (ws.set q0 (a, .inr (3, fs.set 4 v))) H1 → va_D A (ws.set q0 (a, .inr (3, fs.set 4 v))) → va_S A H0 H1 locs1 → W p l e R s m args below meth c H1 locs1 cells slots Q (F0 m (pc + 3) ls rest)) : W p l e R s m args below meth c H locs cells slots Q (F0 m pc ls (v :: .ref a :: rest)) :=
  va_put F.1 F.2.1 F.2.2.2.2 i_M t_M t_M_ok n_M F.2.2.2.1 hK.1 hP hD hS q0 he rfl 4 (by decide) (F.2.2.2.2 _ fl_M_27) (fun _ h9 => h9) rfl (by decide +kernel) hn hfit hl hdg kk
theorem gf_M_31 (F : CallFix p m c cc nL s args g_tbl R_M) (hK : KN D cL cB cI s) (hP : va_P D classes ws H) (q0 : Nat) {fs : List Value} (he : ws[q0]? = some (a, .inr (3, fs))) {v : Value} (hv : fs[5]? = some v) (hdg : decode cc pc = .ok (.getfield 31, 3)) (kk : W p l e R s m args below meth c H locs cells slots Q (F0 m (pc + 3) ls (v :: rest))) : W p l e R s m args below meth c H locs cells slots Q (F0 m pc ls (.ref a :: rest)) :=
  va_get F.1 F.2.1 F.2.2.2.2 i_M F.2.2.2.1 hK.1 hP q0 he rfl 5 (by decide) (F.2.2.2.2 _ fl_M_31) (fun _ h9 => h9) hv hdg kk
theorem pf_M_31 (F : CallFix p m c cc nL s args g_tbl R_M) (hK : KN D cL cB cI s) (hP : va_P D classes ws H) (hD : va_D A ws) (hS : va_S A H0 H locs) (q0 : Nat) {fs : List Value} (he : ws[q0]? = some (a, .inr (3, fs))) {v : Value} (hn : narrow (.boolean) v = v) (hfit : fits (.boolean) v = true) (hl : 5 < fs.length) (hdg : decode cc pc = .ok (.putfield 31, 3)) (kk : ∀ (H1 : Heap) (locs1 : List Loc), va_P D classes (ws.set q0 (a, .inr (3, fs.set 5 v))) H1 → va_D A (ws.set q0 (a, .inr (3, fs.set 5 v))) → va_S A H0 H1 locs1 → W p l e R s m args below meth c H1 locs1 cells slots Q (F0 m (pc + 3) ls rest)) : W p l e R s m args below meth c H locs cells slots Q (F0 m pc ls (v :: .ref a :: rest)) :=
  va_put F.1 F.2.1 F.2.2.2.2 i_M t_M t_M_ok n_M F.2.2.2.1 hK.1 hP hD hS q0 he rfl 5 (by decide) (F.2.2.2.2 _ fl_M_31) (fun _ h9 => h9) rfl (by decide +kernel) hn hfit hl hdg kk
theorem gf_M_34 (F : CallFix p m c cc nL s args g_tbl R_M) (hK : KN D cL cB cI s) (hP : va_P D classes ws H) (q0 : Nat) {fs : List Value} (he : ws[q0]? = some (a, .inr (3, fs))) {v : Value} (hv : fs[6]? = some v) (hdg : decode cc pc = .ok (.getfield 34, 3)) (kk : W p l e R s m args below meth c H locs cells slots Q (F0 m (pc + 3) ls (v :: rest))) : W p l e R s m args below meth c H locs cells slots Q (F0 m pc ls (.ref a :: rest)) :=
  va_get F.1 F.2.1 F.2.2.2.2 i_M F.2.2.2.1 hK.1 hP q0 he rfl 6 (by decide) (F.2.2.2.2 _ fl_M_34) (fun _ h9 => h9) hv hdg kk
theorem pf_M_34 (F : CallFix p m c cc nL s args g_tbl R_M) (hin2 : meth.name = "<init>") (hK : KN D cL cB cI s) (hP : va_P D classes ws H) (hD : va_D A ws) (hS : va_S A H0 H locs) (q0 : Nat) {fs : List Value} (he : ws[q0]? = some (a, .inr (3, fs))) {v : Value} (hn : narrow (.array .int) v = v) (hfit : fits (.array .int) v = true) (hl : 6 < fs.length) (hdg : decode cc pc = .ok (.putfield 34, 3)) (kk : ∀ (H1 : Heap) (locs1 : List Loc), va_P D classes (ws.set q0 (a, .inr (3, fs.set 6 v))) H1 → va_D A (ws.set q0 (a, .inr (3, fs.set 6 v))) → va_S A H0 H1 locs1 → W p l e R s m args below meth c H1 locs1 cells slots Q (F0 m (pc + 3) ls rest)) : W p l e R s m args below meth c H locs cells slots Q (F0 m pc ls (v :: .ref a :: rest)) :=
  va_putF F.1 F.2.1 F.2.2.2.2 i_M t_M t_M_ok n_M F.2.2.2.1 hK.1 hP hD hS q0 he rfl 6 (by decide) (F.2.2.2.2 _ fl_M_34) (fun _ h9 => h9) rfl hin2 rfl (by decide +kernel) hn hfit hl hdg kk
theorem gf_M_46 (F : CallFix p m c cc nL s args g_tbl R_M) (hK : KN D cL cB cI s) (hP : va_P D classes ws H) (q0 : Nat) {fs : List Value} (he : ws[q0]? = some (a, .inr (3, fs))) {v : Value} (hv : fs[7]? = some v) (hdg : decode cc pc = .ok (.getfield 46, 3)) (kk : W p l e R s m args below meth c H locs cells slots Q (F0 m (pc + 3) ls (v :: rest))) : W p l e R s m args below meth c H locs cells slots Q (F0 m pc ls (.ref a :: rest)) :=
  va_get F.1 F.2.1 F.2.2.2.2 i_M F.2.2.2.1 hK.1 hP q0 he rfl 7 (by decide) (F.2.2.2.2 _ fl_M_46) (fun _ h9 => h9) hv hdg kk
theorem pf_M_46 (F : CallFix p m c cc nL s args g_tbl R_M) (hK : KN D cL cB cI s) (hP : va_P D classes ws H) (hD : va_D A ws) (hS : va_S A H0 H locs) (q0 : Nat) {fs : List Value} (he : ws[q0]? = some (a, .inr (3, fs))) {v : Value} (hn : narrow (.int) v = v) (hfit : fits (.int) v = true) (hl : 7 < fs.length) (hdg : decode cc pc = .ok (.putfield 46, 3)) (kk : ∀ (H1 : Heap) (locs1 : List Loc), va_P D classes (ws.set q0 (a, .inr (3, fs.set 7 v))) H1 → va_D A (ws.set q0 (a, .inr (3, fs.set 7 v))) → va_S A H0 H1 locs1 → W p l e R s m args below meth c H1 locs1 cells slots Q (F0 m (pc + 3) ls rest)) : W p l e R s m args below meth c H locs cells slots Q (F0 m pc ls (v :: .ref a :: rest)) :=
  va_put F.1 F.2.1 F.2.2.2.2 i_M t_M t_M_ok n_M F.2.2.2.1 hK.1 hP hD hS q0 he rfl 7 (by decide) (F.2.2.2.2 _ fl_M_46) (fun _ h9 => h9) rfl (by decide +kernel) hn hfit hl hdg kk
end RWB
end
section
/-! ===== the one mathematical picture of both sides: registers are BitVec 64, n their width ===== -/
/-- the mask of a width -/
def q_mk (n : Nat) : BitVec 64 := BitVec.allOnes 64 >>> (64 - n)
/-- the lower n bits, turned round -/
def q_tn (n : Nat) (V : BitVec 64) : BitVec 64 := V.reverse >>> (64 - n)
/-- one bit of a register (Model.bit) -/
def q_bt (n : Nat) (po R : BitVec 64) (c : Bool) : BitVec 64 := ((R <<< 1) &&& q_mk n) ^^^ (if (R.getLsbD (n - 1)) != c then po else 0#64)
/-- the bit of a byte that comes as number k -/
def q_ba (d : Bool) (x k : Nat) : Bool := x.testBit (if d then k else 7 - k)
/-- so many bits of a byte -/
def q_ob (n : Nat) (po : BitVec 64) (d : Bool) (R : BitVec 64) (x : Nat) : Nat → BitVec 64
  | 0 => R
  | k + 1 => q_bt n po (q_ob n po d R x k) (q_ba d x k)
/-- a run over so many bytes, from place a on -/
def q_rn (n : Nat) (po : BitVec 64) (d : Bool) (D : Nat → Nat) (a : Nat) (R : BitVec 64) : Nat → BitVec 64
  | 0 => R
  | k + 1 => q_ob n po d (q_rn n po d D a R k) (D (a + k)) 8
/-- what is told of a register -/
def q_tl (n : Nat) (o : Bool) (la R : BitVec 64) : BitVec 64 := (if o then q_tn n R else R) ^^^ la
/-- the register that a check tells -/
def q_rg (n : Nat) (o : Bool) (la C : BitVec 64) : BitVec 64 := if o then q_tn n ((C &&& q_mk n) ^^^ la) else (C &&& q_mk n) ^^^ la
/-- so many bits 0 -/
def q_xp (n : Nat) (po : BitVec 64) (R : BitVec 64) : Nat → BitVec 64
  | 0 => R
  | k + 1 => q_bt n po (q_xp n po R k) false
/-- the check over the bytes a .. b -/
def q_ck (n : Nat) (po fi la : BitVec 64) (d o : Bool) (D : Nat → Nat) (a b : Nat) : BitVec 64 := q_tl n o la (q_rn n po d D a fi (b - a))
/-- joined -/
def q_jn (n : Nat) (po fi la : BitVec 64) (o : Bool) (a b : BitVec 64) (m : Nat) : BitVec 64 := q_tl n o la (q_xp n po (q_rg n o la a ^^^ fi) (8 * m) ^^^ q_rg n o la b)
/-! the class's own way: a register as it stands -/
def q_sd (d : Bool) (n : Nat) (V : BitVec 64) : BitVec 64 := if d then q_tn n (V &&& q_mk n) else (V &&& q_mk n) <<< (64 - n)
def q_li (d : Bool) (n : Nat) (S : BitVec 64) : BitVec 64 := if d then q_tn n S else S >>> (64 - n)
/-- one bit, standing -/
def q_st (d : Bool) (P S : BitVec 64) (c : Bool) : BitVec 64 := if d then (S >>> 1) ^^^ (if S.getLsbD 0 != c then P else 0#64) else (S <<< 1) ^^^ (if S.getLsbD 63 != c then P else 0#64)
def q_sh (d : Bool) (P S : BitVec 64) (x : Nat) : Nat → BitVec 64
  | 0 => S
  | k + 1 => q_st d P (q_sh d P S x k) (q_ba d x k)
def q_nx (d : Bool) (f : Nat → Int64) (S : BitVec 64) (x : Nat) : BitVec 64 := if d then (S >>> 8) ^^^ (f ((S &&& 255#64).toNat ^^^ x)).toBitVec else (S <<< 8) ^^^ (f ((S >>> 56).toNat ^^^ x)).toBitVec
/-- the byte of eight that comes as number i -/
def q_by (d : Bool) (V : BitVec 64) (i : Nat) : Nat := ((if d then V >>> (8 * i) else V >>> (56 - 8 * i)) &&& 255#64).toNat
def q_sl (d : Bool) (f : Nat → Int64) (V : BitVec 64) : Nat → BitVec 64
  | 0 => 0#64
  | k + 1 => q_sl d f V k ^^^ (f (256 * (7 - k) + q_by d V k)).toBitVec
def q_fn (d o : Bool) (n : Nat) (la S : BitVec 64) : BitVec 64 := (if o then q_tn n (q_li d n S) else q_li d n S) ^^^ la
def q_bg (d o : Bool) (n : Nat) (la C : BitVec 64) : BitVec 64 := q_sd d n (if o then q_tn n ((C ^^^ la) &&& q_mk n) else (C ^^^ la) &&& q_mk n)
/-- a matrix times a vector -/
def q_mt (g : Nat → Int64) (V : BitVec 64) : Nat → BitVec 64
  | 0 => 0#64
  | k + 1 => q_mt g V k ^^^ (if V.getLsbD k then (g k).toBitVec else 0#64)
/-- Long.reverseBytes and Long.reverse, as the JDK has them -/
def q_rvb (V : BitVec 64) : BitVec 64 :=
  let W := ((V &&& 71777214294589695#64) <<< 8) ||| ((V >>> 8) &&& 71777214294589695#64)
  ((W <<< 48) ||| ((W &&& 4294901760#64) <<< 16)) ||| ((W >>> 16) &&& 4294901760#64) ||| (W >>> 48)
def q_rv1 (V : BitVec 64) : BitVec 64 := ((V &&& 6148914691236517205#64) <<< 1) ||| ((V >>> 1) &&& 6148914691236517205#64)
def q_rv2 (V : BitVec 64) : BitVec 64 := ((V &&& 3689348814741910323#64) <<< 2) ||| ((V >>> 2) &&& 3689348814741910323#64)
def q_rv4 (V : BitVec 64) : BitVec 64 := ((V &&& 1085102592571150095#64) <<< 4) ||| ((V >>> 4) &&& 1085102592571150095#64)
def q_rv (V : BitVec 64) : BitVec 64 := q_rvb (q_rv4 (q_rv2 (q_rv1 V)))
/-! ===== fields ===== -/
def kf (n : Nat) (po fi la : BitVec 64) (d o : Bool) (t0 : Nat) : List Value := [.int (nI n), .long (lB (q_mk n)), .long (lB po), .long (lB fi), .long (lB la), .int (bz d), .int (bz o), .ref t0]
def mf (n : Nat) (po fi la : BitVec 64) (d o : Bool) (b0 cnt : Nat) : List Value := [.int (nI n), .long (lB po), .long (lB fi), .long (lB la), .int (bz d), .int (bz o), .ref b0, .int (nI cnt)]
def xf (k0 p0 b0 r0 cnt : Nat) : List Value := [.ref k0, .ref p0, .ref b0, .ref r0, .int (nI cnt)]
theorem nI_inc1 (a : Nat) : nI a + Int32.ofInt 1 = nI (a + 1) := nI_1 a
theorem nI_inc7 (a : Nat) : nI a + Int32.ofInt 7 = nI (a + 7) := nI_add a 7
theorem nI_inc8 (a : Nat) : nI a + Int32.ofInt 8 = nI (a + 8) := nI_add a 8
theorem nI_inc10 (a : Nat) : nI a + Int32.ofInt 10 = nI (a + 10) := nI_add a 10
theorem nI_incm1 {a : Nat} (h : 0 < a) : nI a + Int32.ofInt (-1) = nI (a - 1) := sb_m1 h
end
section
/-! ===== Long.reverse turns the bits round ===== -/
def r_s (k i : Nat) : Nat := if i / k % 2 = 0 then i + k else i - k
def r_w (i : Nat) : Nat := if i < 16 then i + 48 else if i < 32 then i + 16 else if i < 48 then i - 16 else i - 48
theorem r_stage {V m : BitVec 64} {k : Nat} (hk : 0 < k) (hm : ∀ i, i < 64 → m.getLsbD i = decide (i / k % 2 = 0)) (hz : ∀ i, i < 64 → k ≤ i → (i - k) / k % 2 = 1 - i / k % 2) (hb : ∀ i, i < 64 → i / k % 2 = 1 → k ≤ i) {i : Nat} (hi : i < 64) :
    (((V &&& m) <<< k) ||| ((V >>> k) &&& m)).getLsbD i = V.getLsbD (r_s k i) := by
  rw [BitVec.getLsbD_or, BitVec.getLsbD_shiftLeft, BitVec.getLsbD_and, BitVec.getLsbD_and, BitVec.getLsbD_ushiftRight, hm i hi]
  unfold r_s
  rcases Nat.mod_two_eq_zero_or_one (i / k) with h | h
  · rw [if_pos h]
    by_cases hki : k ≤ i
    · have e1 : m.getLsbD (i - k) = false := by
        rw [hm _ (by omega), hz i hi hki, h]; rfl
      rw [e1, h, Nat.add_comm k i]
      simp
    · rw [h, Nat.add_comm k i]
      simp [show i < k by omega]
  · have hki := hb i hi h
    have e1 : m.getLsbD (i - k) = true := by
      rw [hm _ (by omega), hz i hi hki, h]; rfl
    rw [if_neg (by omega), e1, h]
    simp [hi, hki, Nat.not_lt.mpr hki]
theorem r_1 {V : BitVec 64} {i : Nat} (hi : i < 64) : (q_rv1 V).getLsbD i = V.getLsbD (r_s 1 i) := r_stage (by decide) (by decide +kernel) (by decide +kernel) (by decide +kernel) hi
theorem r_2 {V : BitVec 64} {i : Nat} (hi : i < 64) : (q_rv2 V).getLsbD i = V.getLsbD (r_s 2 i) := r_stage (by decide) (by decide +kernel) (by decide +kernel) (by decide +kernel) hi
theorem r_4 {V : BitVec 64} {i : Nat} (hi : i < 64) : (q_rv4 V).getLsbD i = V.getLsbD (r_s 4 i) := r_stage (by decide) (by decide +kernel) (by decide +kernel) (by decide +kernel) hi
theorem r_8 {V : BitVec 64} {i : Nat} (hi : i < 64) : (((V &&& 71777214294589695#64) <<< 8) ||| ((V >>> 8) &&& 71777214294589695#64)).getLsbD i = V.getLsbD (r_s 8 i) := r_stage (by decide) (by decide +kernel) (by decide +kernel) (by decide +kernel) hi
theorem r_m16 : ∀ i, i < 64 → (4294901760#64).getLsbD i = (decide (16 ≤ i) && decide (i < 32)) := by decide +kernel
theorem r_16 {W : BitVec 64} {i : Nat} (hi : i < 64) : (((W <<< 48) ||| ((W &&& 4294901760#64) <<< 16)) ||| ((W >>> 16) &&& 4294901760#64) ||| (W >>> 48)).getLsbD i = W.getLsbD (r_w i) := by
  rw [BitVec.getLsbD_or, BitVec.getLsbD_or, BitVec.getLsbD_or, BitVec.getLsbD_shiftLeft, BitVec.getLsbD_shiftLeft, BitVec.getLsbD_and, BitVec.getLsbD_and, BitVec.getLsbD_ushiftRight, BitVec.getLsbD_ushiftRight, r_m16 i hi]
  have e1 : (decide (i < 64) && !decide (i < 16) && (W.getLsbD (i - 16) && (4294901760#64).getLsbD (i - 16))) = (decide (32 ≤ i) && decide (i < 48) && W.getLsbD (i - 16)) := by
    rw [r_m16 _ (by omega)]
    by_cases h1 : 32 ≤ i
    · by_cases h2 : i < 48
      · simp [h1, h2, hi, show ¬ i < 16 by omega, show 16 ≤ i - 16 by omega, show i - 16 < 32 by omega]
      · simp [h2, show ¬ i - 16 < 32 by omega]
    · simp [h1, show ¬ 16 ≤ i - 16 by omega]
  rw [e1]
  unfold r_w
  by_cases h1 : i < 16
  · simp [h1, hi, show i < 48 by omega, show ¬ 32 ≤ i by omega, show ¬ 16 ≤ i by omega, Nat.add_comm 48 i]
  · by_cases h2 : i < 32
    · have e2 : W.getLsbD (48 + i) = false := BitVec.getLsbD_of_ge _ _ (by omega)
      simp [h1, h2, hi, e2, show i < 48 by omega, show ¬ 32 ≤ i by omega, show 16 ≤ i by omega, Nat.add_comm 16 i]
    · have e2 : W.getLsbD (48 + i) = false := BitVec.getLsbD_of_ge _ _ (by omega)
      by_cases h3 : i < 48
      · simp [h1, h2, h3, hi, e2, show 32 ≤ i by omega]
      · simp [h1, h2, h3, hi, e2]
theorem r_ix : ∀ i, i < 64 → r_s 1 (r_s 2 (r_s 4 (r_s 8 (r_w i)))) = 63 - i := by decide +kernel
theorem r_b1 : ∀ i, i < 64 → r_w i < 64 := by decide +kernel
theorem r_b8 : ∀ i, i < 64 → r_s 8 i < 64 := by decide +kernel
theorem r_b4 : ∀ i, i < 64 → r_s 4 i < 64 := by decide +kernel
theorem r_b2 : ∀ i, i < 64 → r_s 2 i < 64 := by decide +kernel
theorem q_rv_eq (V : BitVec 64) : q_rv V = V.reverse := by
  apply BitVec.eq_of_getLsbD_eq
  intro i hi
  have h1 := r_b1 i hi
  have h8 := r_b8 _ h1
  have h4 := r_b4 _ h8
  have h2 := r_b2 _ h4
  show (q_rvb (q_rv4 (q_rv2 (q_rv1 V)))).getLsbD i = _
  unfold q_rvb
  rw [r_16 hi, r_8 h1, r_4 h8, r_2 h4, r_1 h2, r_ix i hi, BitVec.getLsbD_reverse, BitVec.getMsbD_eq_getLsbD]
  simp [hi]
end
section
set_option maxHeartbeats 4000000 in
set_option maxRecDepth 100000 in
theorem c_L_reverseBytes (l : Launch) (D : va_G) (cL cB cI : ClassId) (V : BitVec 64)  : Met l y_L_reverseBytes (Cond.code y_L_reverseBytes b_L_reverseBytes 2 (some .long) :: g_tbl) (rmO 0 0) (RoP D cL cB cI [] [.long (lB V)]) (RoL (lB (q_rvb V))) 0 0 (fun _ => False) := by
  refine ro_startL (by decide) (Nat.le_of_ble_eq_true rfl) ?_
  intro p e s m below meth c ls Q F hP hK hl hret
  have hx := F.1
  have hb := F.2.1
  have hown := F.2.2.2.1
  have hT := F.2.2.2.2
  have hS : va_S (fun _ => False) s.heap s.heap [] := va_S.rf
  have hl : lv_has ls 2 [(0, .long (lB V))] := hl
  refine lv_lload_n hx hb d_L_reverseBytes_0 rfl (lv_at hl 0 rfl) ?_
  refine lv_ldc2 hx hb hown (hT _ cj_L_327) d_L_reverseBytes_1 ?_
  refine tpl (z := lB 71777214294589695#64) (by decide) ?_
  refine bv_land hx hb d_L_reverseBytes_4 ?_
  refine lv_bipush (v := nI 8) hx hb d_L_reverseBytes_5 (by decide) ?_
  refine bv_lshl hx hb (by omega) d_L_reverseBytes_7 ?_
  refine lv_lload_n hx hb d_L_reverseBytes_8 rfl (lv_at hl 0 rfl) ?_
  refine lv_bipush (v := nI 8) hx hb d_L_reverseBytes_9 (by decide) ?_
  refine bv_lushr hx hb (by omega) d_L_reverseBytes_11 ?_
  refine lv_ldc2 hx hb hown (hT _ cj_L_327) d_L_reverseBytes_12 ?_
  refine tpl (z := lB 71777214294589695#64) (by decide) ?_
  refine bv_land hx hb d_L_reverseBytes_15 ?_
  refine bv_lor hx hb d_L_reverseBytes_16 ?_
  refine lv_lstore_n (lv' := [(0, .long (lB (((V &&& 71777214294589695#64) <<< 8) ||| ((V >>> 8) &&& 71777214294589695#64))))]) hx hb d_L_reverseBytes_17 rfl hl (by decide) rfl (fun ls hl => ?_)
  refine lv_lload_n hx hb d_L_reverseBytes_18 rfl (lv_at hl 0 rfl) ?_
  refine lv_bipush (v := nI 48) hx hb d_L_reverseBytes_19 (by decide) ?_
  refine bv_lshl hx hb (by omega) d_L_reverseBytes_21 ?_
  refine lv_lload_n hx hb d_L_reverseBytes_22 rfl (lv_at hl 0 rfl) ?_
  refine lv_ldc2 hx hb hown (hT _ cj_L_329) d_L_reverseBytes_23 ?_
  refine tpl (z := lB 4294901760#64) (by decide) ?_
  refine bv_land hx hb d_L_reverseBytes_26 ?_
  refine lv_bipush (v := nI 16) hx hb d_L_reverseBytes_27 (by decide) ?_
  refine bv_lshl hx hb (by omega) d_L_reverseBytes_29 ?_
  refine bv_lor hx hb d_L_reverseBytes_30 ?_
  refine lv_lload_n hx hb d_L_reverseBytes_31 rfl (lv_at hl 0 rfl) ?_
  refine lv_bipush (v := nI 16) hx hb d_L_reverseBytes_32 (by decide) ?_
  refine bv_lushr hx hb (by omega) d_L_reverseBytes_34 ?_
  refine lv_ldc2 hx hb hown (hT _ cj_L_329) d_L_reverseBytes_35 ?_
  refine tpl (z := lB 4294901760#64) (by decide) ?_
  refine bv_land hx hb d_L_reverseBytes_38 ?_
  refine bv_lor hx hb d_L_reverseBytes_39 ?_
  refine lv_lload_n hx hb d_L_reverseBytes_40 rfl (lv_at hl 0 rfl) ?_
  refine lv_bipush (v := nI 48) hx hb d_L_reverseBytes_41 (by decide) ?_
  refine bv_lushr hx hb (by omega) d_L_reverseBytes_43 ?_
  refine bv_lor hx hb d_L_reverseBytes_44 ?_
  refine tpl (z := (lB (q_rvb V))) rfl ?_
  exact hret _ _ _ _ d_L_reverseBytes_45 hS

set_option maxHeartbeats 4000000 in
set_option maxRecDepth 100000 in
theorem c_L_reverse (l : Launch) (D : va_G) (cL cB cI : ClassId) (V : BitVec 64)  : Met l y_L_reverse (Cond.code y_L_reverse b_L_reverse 2 (some .long) :: g_tbl) (rmO 1 21) (RoP D cL cB cI [] [.long (lB V)]) (RoL (lB (V.reverse))) 0 0 (fun _ => False) := by
  refine ro_startL (by decide) (Nat.le_of_ble_eq_true rfl) ?_
  intro p e s m below meth c ls Q F hP hK hl hret
  have hx := F.1
  have hb := F.2.1
  have hown := F.2.2.2.1
  have hT := F.2.2.2.2
  have hS : va_S (fun _ => False) s.heap s.heap [] := va_S.rf
  have hl : lv_has ls 2 [(0, .long (lB V))] := hl
  refine lv_lload_n hx hb d_L_reverse_0 rfl (lv_at hl 0 rfl) ?_
  refine lv_ldc2 hx hb hown (hT _ cj_L_314) d_L_reverse_1 ?_
  refine tpl (z := lB 6148914691236517205#64) (by decide) ?_
  refine bv_land hx hb d_L_reverse_4 ?_
  refine lv_iconst (v := nI 1) hx hb d_L_reverse_5 (by decide) ?_
  refine bv_lshl hx hb (by omega) d_L_reverse_6 ?_
  refine lv_lload_n hx hb d_L_reverse_7 rfl (lv_at hl 0 rfl) ?_
  refine lv_iconst (v := nI 1) hx hb d_L_reverse_8 (by decide) ?_
  refine bv_lushr hx hb (by omega) d_L_reverse_9 ?_
  refine lv_ldc2 hx hb hown (hT _ cj_L_314) d_L_reverse_10 ?_
  refine tpl (z := lB 6148914691236517205#64) (by decide) ?_
  refine bv_land hx hb d_L_reverse_13 ?_
  refine bv_lor hx hb d_L_reverse_14 ?_
  refine tpl (z := (lB (q_rv1 V))) rfl ?_
  refine lv_lstore_n (lv' := [(0, .long (lB (q_rv1 V)))]) hx hb d_L_reverse_15 rfl hl (by decide) rfl (fun ls hl => ?_)
  refine lv_lload_n hx hb d_L_reverse_16 rfl (lv_at hl 0 rfl) ?_
  refine lv_ldc2 hx hb hown (hT _ cj_L_316) d_L_reverse_17 ?_
  refine tpl (z := lB 3689348814741910323#64) (by decide) ?_
  refine bv_land hx hb d_L_reverse_20 ?_
  refine lv_iconst (v := nI 2) hx hb d_L_reverse_21 (by decide) ?_
  refine bv_lshl hx hb (by omega) d_L_reverse_22 ?_
  refine lv_lload_n hx hb d_L_reverse_23 rfl (lv_at hl 0 rfl) ?_
  refine lv_iconst (v := nI 2) hx hb d_L_reverse_24 (by decide) ?_
  refine bv_lushr hx hb (by omega) d_L_reverse_25 ?_
  refine lv_ldc2 hx hb hown (hT _ cj_L_316) d_L_reverse_26 ?_
  refine tpl (z := lB 3689348814741910323#64) (by decide) ?_
  refine bv_land hx hb d_L_reverse_29 ?_
  refine bv_lor hx hb d_L_reverse_30 ?_
  refine tpl (z := (lB (q_rv2 (q_rv1 V)))) rfl ?_
  refine lv_lstore_n (lv' := [(0, .long (lB (q_rv2 (q_rv1 V))))]) hx hb d_L_reverse_31 rfl hl (by decide) rfl (fun ls hl => ?_)
  refine lv_lload_n hx hb d_L_reverse_32 rfl (lv_at hl 0 rfl) ?_
  refine lv_ldc2 hx hb hown (hT _ cj_L_318) d_L_reverse_33 ?_
  refine tpl (z := lB 1085102592571150095#64) (by decide) ?_
  refine bv_land hx hb d_L_reverse_36 ?_
  refine lv_iconst (v := nI 4) hx hb d_L_reverse_37 (by decide) ?_
  refine bv_lshl hx hb (by omega) d_L_reverse_38 ?_
  refine lv_lload_n hx hb d_L_reverse_39 rfl (lv_at hl 0 rfl) ?_
  refine lv_iconst (v := nI 4) hx hb d_L_reverse_40 (by decide) ?_
  refine bv_lushr hx hb (by omega) d_L_reverse_41 ?_
  refine lv_ldc2 hx hb hown (hT _ cj_L_318) d_L_reverse_42 ?_
  refine tpl (z := lB 1085102592571150095#64) (by decide) ?_
  refine bv_land hx hb d_L_reverse_45 ?_
  refine bv_lor hx hb d_L_reverse_46 ?_
  refine tpl (z := (lB (q_rv4 (q_rv2 (q_rv1 V))))) rfl ?_
  refine lv_lstore_n (lv' := [(0, .long (lB (q_rv4 (q_rv2 (q_rv1 V)))))]) hx hb d_L_reverse_47 rfl hl (by decide) rfl (fun ls hl => ?_)
  refine lv_lload_n hx hb d_L_reverse_48 rfl (lv_at hl 0 rfl) ?_
  refine roSL (rest := []) F (c_L_reverseBytes l D cL cB cI (q_rv4 (q_rv2 (q_rv1 V)))) k_L_reverseBytes ml_L_320 ⟨rfl, rfl, by decide, by decide⟩ hK hP hS (hP.sub [] rfl) rfl hl.1 rfl (Nat.le_of_ble_eq_true rfl) d_L_reverse_49 ⟨Nat.zero_le _, Nat.zero_le _⟩ (fun H locs hP hS => ?_)
  refine tpl (z := (lB (V.reverse))) (congrArg lB (q_rv_eq V)) ?_
  exact hret _ _ _ _ d_L_reverse_52 hS

set_option maxHeartbeats 4000000 in
set_option maxRecDepth 100000 in
theorem c_K_turned (l : Launch) (D : va_G) (cL cB cI : ClassId) (k0 t0 n : Nat) (po fi la : BitVec 64) (d o : Bool) (V : BitVec 64) (hn : 1 ≤ n ∧ n ≤ 64) : Met l y_K_turned (Cond.code y_K_turned b_K_turned 3 (some .long) :: g_tbl) (rmO 2 42) (RoP D cL cB cI [(k0, .inr (0, kf n po fi la d o t0))] [.ref k0, .long (lB V)]) (RoL (lB (q_tn n V))) 0 0 (fun _ => False) := by
  refine ro_startL (by decide) (Nat.le_of_ble_eq_true rfl) ?_
  intro p e s m below meth c ls Q F hP hK hl hret
  have hx := F.1
  have hb := F.2.1
  have hown := F.2.2.2.1
  have hT := F.2.2.2.2
  have hS : va_S (fun _ => False) s.heap s.heap [] := va_S.rf
  have hl : lv_has ls 3 [(0, .ref k0), (1, .long (lB V))] := hl
  refine lv_lload_n hx hb d_K_turned_0 rfl (lv_at hl 1 rfl) ?_
  refine roSL (rest := []) F (c_L_reverse l D cL cB cI V) k_L_reverse ml_K_49 ⟨rfl, rfl, by decide, by decide⟩ hK hP hS (hP.sub [] rfl) rfl hl.1 rfl (Nat.le_of_ble_eq_true rfl) d_K_turned_1 ⟨Nat.zero_le _, Nat.zero_le _⟩ (fun H locs hP hS => ?_)
  refine lv_bipush (v := nI 64) hx hb d_K_turned_4 (by decide) ?_
  refine lv_aload_n hx hb d_K_turned_6 rfl (lv_at hl 0 rfl) ?_
  refine gf_K_15 (v := .int (nI n)) F hK hP 0 rfl rfl d_K_turned_7 ?_
  refine nt_isub (x := 64) hx hb (by omega) d_K_turned_10 ?_
  refine bv_lushr hx hb (by omega) d_K_turned_11 ?_
  refine tpl (z := (lB (q_tn n V))) rfl ?_
  exact hret _ _ _ _ d_K_turned_12 hS

set_option maxHeartbeats 4000000 in
set_option maxRecDepth 100000 in
theorem c_K_stand (l : Launch) (D : va_G) (cL cB cI : ClassId) (k0 t0 n : Nat) (po fi la : BitVec 64) (d o : Bool) (V : BitVec 64) (hn : 1 ≤ n ∧ n ≤ 64) : Met l y_K_stand (Cond.code y_K_stand b_K_stand 3 (some .long) :: g_tbl) (rmO 3 64) (RoP D cL cB cI [(k0, .inr (0, kf n po fi la d o t0))] [.ref k0, .long (lB V)]) (RoL (lB (q_sd d n V))) 0 0 (fun _ => False) := by
  refine ro_startL (by decide) (Nat.le_of_ble_eq_true rfl) ?_
  intro p e s m below meth c ls Q F hP hK hl hret
  have hx := F.1
  have hb := F.2.1
  have hown := F.2.2.2.1
  have hT := F.2.2.2.2
  have hS : va_S (fun _ => False) s.heap s.heap [] := va_S.rf
  have hl : lv_has ls 3 [(0, .ref k0), (1, .long (lB V))] := hl
  refine lv_aload_n hx hb d_K_stand_0 rfl (lv_at hl 0 rfl) ?_
  refine gf_K_34 (v := .int (bz d)) F hK hP 0 rfl rfl d_K_stand_1 ?_
  refine bz_ifeq (b := d) (tgt := 20) hx hb d_K_stand_4 (by decide) (fun hc => ?_) (fun hc => ?_)
  · subst hc
    refine lv_lload_n hx hb d_K_stand_20 rfl (lv_at hl 1 rfl) ?_
    refine lv_aload_n hx hb d_K_stand_21 rfl (lv_at hl 0 rfl) ?_
    refine gf_K_21 (v := .long (lB (q_mk n))) F hK hP 0 rfl rfl d_K_stand_22 ?_
    refine bv_land hx hb d_K_stand_25 ?_
    refine lv_bipush (v := nI 64) hx hb d_K_stand_26 (by decide) ?_
    refine lv_aload_n hx hb d_K_stand_28 rfl (lv_at hl 0 rfl) ?_
    refine gf_K_15 (v := .int (nI n)) F hK hP 0 rfl rfl d_K_stand_29 ?_
    refine nt_isub (x := 64) hx hb (by omega) d_K_stand_32 ?_
    refine bv_lshl hx hb (by omega) d_K_stand_33 ?_
    refine tpl (z := (lB (q_sd false n V))) rfl ?_
    exact hret _ _ _ _ d_K_stand_34 hS
  · subst hc
    refine lv_aload_n hx hb d_K_stand_7 rfl (lv_at hl 0 rfl) ?_
    refine lv_lload_n hx hb d_K_stand_8 rfl (lv_at hl 1 rfl) ?_
    refine lv_aload_n hx hb d_K_stand_9 rfl (lv_at hl 0 rfl) ?_
    refine gf_K_21 (v := .long (lB (q_mk n))) F hK hP 0 rfl rfl d_K_stand_10 ?_
    refine bv_land hx hb d_K_stand_13 ?_
    refine roVL (rest := []) F (c_K_turned l D cL cB cI k0 t0 n po fi la true o (V &&& q_mk n) hn) k_K_turned ml_K_55 ⟨rfl, rfl, by decide, by decide⟩ hK hP hS (hP.sub [0] rfl) rfl rfl rfl rfl hl.1 rfl (Nat.le_of_ble_eq_true rfl) d_K_stand_14 ⟨Nat.zero_le _, Nat.zero_le _⟩ (fun H locs hP hS => ?_)
    refine lv_goto (tgt := 34) hx hb d_K_stand_17 (by decide) ?_
    refine tpl (z := (lB (q_sd true n V))) rfl ?_
    exact hret _ _ _ _ d_K_stand_34 hS

set_option maxHeartbeats 4000000 in
set_option maxRecDepth 100000 in
theorem c_K_lie (l : Launch) (D : va_G) (cL cB cI : ClassId) (k0 t0 n : Nat) (po fi la : BitVec 64) (d o : Bool) (S : BitVec 64) (hn : 1 ≤ n ∧ n ≤ 64) : Met l y_K_lie (Cond.code y_K_lie b_K_lie 3 (some .long) :: g_tbl) (rmO 3 64) (RoP D cL cB cI [(k0, .inr (0, kf n po fi la d o t0))] [.ref k0, .long (lB S)]) (RoL (lB (q_li d n S))) 0 0 (fun _ => False) := by
  refine ro_startL (by decide) (Nat.le_of_ble_eq_true rfl) ?_
  intro p e s m below meth c ls Q F hP hK hl hret
  have hx := F.1
  have hb := F.2.1
  have hown := F.2.2.2.1
  have hT := F.2.2.2.2
  have hS : va_S (fun _ => False) s.heap s.heap [] := va_S.rf
  have hl : lv_has ls 3 [(0, .ref k0), (1, .long (lB S))] := hl
  refine lv_aload_n hx hb d_K_lie_0 rfl (lv_at hl 0 rfl) ?_
  refine gf_K_34 (v := .int (bz d)) F hK hP 0 rfl rfl d_K_lie_1 ?_
  refine bz_ifeq (b := d) (tgt := 15) hx hb d_K_lie_4 (by decide) (fun hc => ?_) (fun hc => ?_)
  · subst hc
    refine lv_lload_n hx hb d_K_lie_15 rfl (lv_at hl 1 rfl) ?_
    refine lv_bipush (v := nI 64) hx hb d_K_lie_16 (by decide) ?_
    refine lv_aload_n hx hb d_K_lie_18 rfl (lv_at hl 0 rfl) ?_
    refine gf_K_15 (v := .int (nI n)) F hK hP 0 rfl rfl d_K_lie_19 ?_
    refine nt_isub (x := 64) hx hb (by omega) d_K_lie_22 ?_
    refine bv_lushr hx hb (by omega) d_K_lie_23 ?_
    refine tpl (z := (lB (q_li false n S))) rfl ?_
    exact hret _ _ _ _ d_K_lie_24 hS
  · subst hc
    refine lv_aload_n hx hb d_K_lie_7 rfl (lv_at hl 0 rfl) ?_
    refine lv_lload_n hx hb d_K_lie_8 rfl (lv_at hl 1 rfl) ?_
    refine roVL (rest := []) F (c_K_turned l D cL cB cI k0 t0 n po fi la true o S hn) k_K_turned ml_K_55 ⟨rfl, rfl, by decide, by decide⟩ hK hP hS (hP.sub [0] rfl) rfl rfl rfl rfl hl.1 rfl (Nat.le_of_ble_eq_true rfl) d_K_lie_9 ⟨Nat.zero_le _, Nat.zero_le _⟩ (fun H locs hP hS => ?_)
    refine lv_goto (tgt := 24) hx hb d_K_lie_12 (by decide) ?_
    refine tpl (z := (lB (q_li true n S))) rfl ?_
    exact hret _ _ _ _ d_K_lie_24 hS

set_option maxHeartbeats 4000000 in
set_option maxRecDepth 100000 in
theorem c_K_finish (l : Launch) (D : va_G) (cL cB cI : ClassId) (k0 t0 n : Nat) (po fi la : BitVec 64) (d o : Bool) (S : BitVec 64) (hn : 1 ≤ n ∧ n ≤ 64) : Met l y_K_finish (Cond.code y_K_finish b_K_finish 5 (some .long) :: g_tbl) (rmO 4 86) (RoP D cL cB cI [(k0, .inr (0, kf n po fi la d o t0))] [.ref k0, .long (lB S)]) (RoL (lB (q_fn d o n la S))) 0 0 (fun _ => False) := by
  refine ro_startL (by decide) (Nat.le_of_ble_eq_true rfl) ?_
  intro p e s m below meth c ls Q F hP hK hl hret
  have hx := F.1
  have hb := F.2.1
  have hown := F.2.2.2.1
  have hT := F.2.2.2.2
  have hS : va_S (fun _ => False) s.heap s.heap [] := va_S.rf
  have hl : lv_has ls 5 [(0, .ref k0), (1, .long (lB S))] := hl
  refine lv_aload_n hx hb d_K_finish_0 rfl (lv_at hl 0 rfl) ?_
  refine lv_lload_n hx hb d_K_finish_1 rfl (lv_at hl 1 rfl) ?_
  refine roVL (rest := []) F (c_K_lie l D cL cB cI k0 t0 n po fi la d o S hn) k_K_lie ml_K_63 ⟨rfl, rfl, by decide, by decide⟩ hK hP hS (hP.sub [0] rfl) rfl rfl rfl rfl hl.1 rfl (Nat.le_of_ble_eq_true rfl) d_K_finish_2 ⟨Nat.zero_le _, Nat.zero_le _⟩ (fun H locs hP hS => ?_)
  refine lv_lstore_n (lv' := [(3, .long (lB (q_li d n S))), (0, .ref k0), (1, .long (lB S))]) hx hb d_K_finish_5 rfl hl (by decide) rfl (fun ls hl => ?_)
  refine lv_aload_n hx hb d_K_finish_6 rfl (lv_at hl 1 rfl) ?_
  refine gf_K_38 (v := .int (bz o)) F hK hP 0 rfl rfl d_K_finish_7 ?_
  refine bz_ifeq (b := o) (tgt := 21) hx hb d_K_finish_10 (by decide) (fun hc => ?_) (fun hc => ?_)
  · subst hc
    refine lv_lload_n hx hb d_K_finish_21 rfl (lv_at hl 0 rfl) ?_
    refine lv_aload_n hx hb d_K_finish_22 rfl (lv_at hl 1 rfl) ?_
    refine gf_K_31 (v := .long (lB la)) F hK hP 0 rfl rfl d_K_finish_23 ?_
    refine bv_lxor hx hb d_K_finish_26 ?_
    refine tpl (z := (lB (q_fn d false n la S))) rfl ?_
    exact hret _ _ _ _ d_K_finish_27 hS
  · subst hc
    refine lv_aload_n hx hb d_K_finish_13 rfl (lv_at hl 1 rfl) ?_
    refine lv_lload_n hx hb d_K_finish_14 rfl (lv_at hl 0 rfl) ?_
    refine roVL (rest := []) F (c_K_turned l D cL cB cI k0 t0 n po fi la d true (q_li d n S) hn) k_K_turned ml_K_55 ⟨rfl, rfl, by decide, by decide⟩ hK hP hS (hP.sub [0] rfl) rfl rfl rfl rfl hl.1 rfl (Nat.le_of_ble_eq_true rfl) d_K_finish_15 ⟨Nat.zero_le _, Nat.zero_le _⟩ (fun H locs hP hS => ?_)
    refine lv_goto (tgt := 22) hx hb d_K_finish_18 (by decide) ?_
    refine lv_aload_n hx hb d_K_finish_22 rfl (lv_at hl 1 rfl) ?_
    refine gf_K_31 (v := .long (lB la)) F hK hP 0 rfl rfl d_K_finish_23 ?_
    refine bv_lxor hx hb d_K_finish_26 ?_
    refine tpl (z := (lB (q_fn d true n la S))) rfl ?_
    exact hret _ _ _ _ d_K_finish_27 hS

set_option maxHeartbeats 4000000 in
set_option maxRecDepth 100000 in
theorem c_K_begin (l : Launch) (D : va_G) (cL cB cI : ClassId) (k0 t0 n : Nat) (po fi la : BitVec 64) (d o : Bool) (C : BitVec 64) (hn : 1 ≤ n ∧ n ≤ 64) : Met l y_K_begin (Cond.code y_K_begin b_K_begin 5 (some .long) :: g_tbl) (rmO 4 86) (RoP D cL cB cI [(k0, .inr (0, kf n po fi la d o t0))] [.ref k0, .long (lB C)]) (RoL (lB (q_bg d o n la C))) 0 0 (fun _ => False) := by
  refine ro_startL (by decide) (Nat.le_of_ble_eq_true rfl) ?_
  intro p e s m below meth c ls Q F hP hK hl hret
  have hx := F.1
  have hb := F.2.1
  have hown := F.2.2.2.1
  have hT := F.2.2.2.2
  have hS : va_S (fun _ => False) s.heap s.heap [] := va_S.rf
  have hl : lv_has ls 5 [(0, .ref k0), (1, .long (lB C))] := hl
  refine lv_lload_n hx hb d_K_begin_0 rfl (lv_at hl 1 rfl) ?_
  refine lv_aload_n hx hb d_K_begin_1 rfl (lv_at hl 0 rfl) ?_
  refine gf_K_31 (v := .long (lB la)) F hK hP 0 rfl rfl d_K_begin_2 ?_
  refine bv_lxor hx hb d_K_begin_5 ?_
  refine lv_aload_n hx hb d_K_begin_6 rfl (lv_at hl 0 rfl) ?_
  refine gf_K_21 (v := .long (lB (q_mk n))) F hK hP 0 rfl rfl d_K_begin_7 ?_
  refine bv_land hx hb d_K_begin_10 ?_
  refine lv_lstore_n (lv' := [(3, .long (lB ((C ^^^ la) &&& (q_mk n)))), (0, .ref k0), (1, .long (lB C))]) hx hb d_K_begin_11 rfl hl (by decide) rfl (fun ls hl => ?_)
  refine lv_aload_n hx hb d_K_begin_12 rfl (lv_at hl 1 rfl) ?_
  refine lv_aload_n hx hb d_K_begin_13 rfl (lv_at hl 1 rfl) ?_
  refine gf_K_38 (v := .int (bz o)) F hK hP 0 rfl rfl d_K_begin_14 ?_
  refine bz_ifeq (b := o) (tgt := 28) hx hb d_K_begin_17 (by decide) (fun hc => ?_) (fun hc => ?_)
  · subst hc
    refine lv_lload_n hx hb d_K_begin_28 rfl (lv_at hl 0 rfl) ?_
    refine roVL (rest := []) F (c_K_stand l D cL cB cI k0 t0 n po fi la d false ((C ^^^ la) &&& q_mk n) hn) k_K_stand ml_K_58 ⟨rfl, rfl, by decide, by decide⟩ hK hP hS (hP.sub [0] rfl) rfl rfl rfl rfl hl.1 rfl (Nat.le_of_ble_eq_true rfl) d_K_begin_29 ⟨Nat.zero_le _, Nat.zero_le _⟩ (fun H locs hP hS => ?_)
    refine tpl (z := (lB (q_bg d false n la C))) rfl ?_
    exact hret _ _ _ _ d_K_begin_32 hS
  · subst hc
    refine lv_aload_n hx hb d_K_begin_20 rfl (lv_at hl 1 rfl) ?_
    refine lv_lload_n hx hb d_K_begin_21 rfl (lv_at hl 0 rfl) ?_
    refine roVL (rest := [.ref k0]) F (c_K_turned l D cL cB cI k0 t0 n po fi la d true ((C ^^^ la) &&& q_mk n) hn) k_K_turned ml_K_55 ⟨rfl, rfl, by decide, by decide⟩ hK hP hS (hP.sub [0] rfl) rfl rfl rfl rfl hl.1 rfl (Nat.le_of_ble_eq_true rfl) d_K_begin_22 ⟨Nat.zero_le _, Nat.zero_le _⟩ (fun H locs hP hS => ?_)
    refine lv_goto (tgt := 29) hx hb d_K_begin_25 (by decide) ?_
    refine roVL (rest := []) F (c_K_stand l D cL cB cI k0 t0 n po fi la d true (q_tn n ((C ^^^ la) &&& q_mk n)) hn) k_K_stand ml_K_58 ⟨rfl, rfl, by decide, by decide⟩ hK hP hS (hP.sub [0] rfl) rfl rfl rfl rfl hl.1 rfl (Nat.le_of_ble_eq_true rfl) d_K_begin_29 ⟨Nat.zero_le _, Nat.zero_le _⟩ (fun H locs hP hS => ?_)
    refine tpl (z := (lB (q_bg d true n la C))) rfl ?_
    exact hret _ _ _ _ d_K_begin_32 hS

theorem and7 {i : Nat} (h : i < 8) : i &&& 7 = i := (show ∀ i, i < 8 → i &&& 7 = i by decide) i h
theorem nI_bit2 (x k : Nat) : nI (x / 2 ^ k &&& 1) = bz (x.testBit k) := by
  rw [show x / 2 ^ k &&& 1 = x / 2 ^ k % 2 from Nat.and_two_pow_sub_one_eq_mod (x / 2 ^ k) 1, show x.testBit k = decide (x / 2 ^ k % 2 = 1) from Nat.testBit_eq_decide_div_mod_eq]
  rcases Nat.mod_two_eq_zero_or_one (x / 2 ^ k) with h | h
  · rw [h]; rfl
  · rw [h]; rfl
theorem st_in (P S : BitVec 64) (c : Bool) : q_st true P S c = (S >>> 1) ^^^ (if S.getLsbD 0 != c then P else 0#64) := rfl
theorem st_out (P S : BitVec 64) (c : Bool) : q_st false P S c = (S <<< 1) ^^^ (if S.getLsbD 63 != c then P else 0#64) := rfl
theorem xz (a : BitVec 64) {b c : Bool} (P : BitVec 64) (h : b = c) : a ^^^ (if b != c then P else 0#64) = a := by subst h; simp
theorem xp (a : BitVec 64) {b c : Bool} (P : BitVec 64) (h : ¬ b = c) : a ^^^ (if b != c then P else 0#64) = a ^^^ P := by rw [show (b != c) = true from bne_iff_ne.mpr h]; rfl
theorem sh_in0 {Pp S : BitVec 64} {x i : Nat} (h : (q_sh true Pp S x i) &&& 1#64 = if x.testBit i then 1#64 else 0#64) : (q_sh true Pp S x i) >>> 1 = q_sh true Pp S x (i + 1) := by
  rw [bv_lsb] at h
  rw [show q_sh true Pp S x (i + 1) = q_st true Pp (q_sh true Pp S x i) (x.testBit i) from rfl, st_in, xz _ _ (bv_ite_eq.mp h)]
theorem sh_in1 {Pp S : BitVec 64} {x i : Nat} (h : ¬ (q_sh true Pp S x i) &&& 1#64 = if x.testBit i then 1#64 else 0#64) : (q_sh true Pp S x i) >>> 1 ^^^ Pp = q_sh true Pp S x (i + 1) := by
  rw [bv_lsb] at h
  rw [show q_sh true Pp S x (i + 1) = q_st true Pp (q_sh true Pp S x i) (x.testBit i) from rfl, st_in, xp _ _ (mt bv_ite_eq.mpr h)]
theorem sh_o63 (a : BitVec 64) : a >>> 63 = if a.getLsbD 63 then 1#64 else 0#64 := by
  rw [← bv_bit]
  apply BitVec.eq_of_getLsbD_eq
  intro i hi
  rw [BitVec.getLsbD_and, BitVec.getLsbD_ushiftRight, BitVec.getLsbD_one]
  by_cases h0 : i = 0
  · simp [h0]
  · rw [BitVec.getLsbD_of_ge _ _ (by omega)]; simp
theorem sh_out0 {Pp S : BitVec 64} {x i : Nat} (h : (q_sh false Pp S x i) >>> 63 = if x.testBit (7 - i) then 1#64 else 0#64) : (q_sh false Pp S x i) <<< 1 = q_sh false Pp S x (i + 1) := by
  rw [sh_o63] at h
  rw [show q_sh false Pp S x (i + 1) = q_st false Pp (q_sh false Pp S x i) (x.testBit (7 - i)) from rfl, st_out, xz _ _ (bv_ite_eq.mp h)]
theorem sh_out1 {Pp S : BitVec 64} {x i : Nat} (h : ¬ (q_sh false Pp S x i) >>> 63 = if x.testBit (7 - i) then 1#64 else 0#64) : (q_sh false Pp S x i) <<< 1 ^^^ Pp = q_sh false Pp S x (i + 1) := by
  rw [sh_o63] at h
  rw [show q_sh false Pp S x (i + 1) = q_st false Pp (q_sh false Pp S x i) (x.testBit (7 - i)) from rfl, st_out, xp _ _ (mt bv_ite_eq.mpr h)]
set_option maxHeartbeats 4000000 in
set_option maxRecDepth 100000 in
theorem c_K_shift (l : Launch) (D : va_G) (cL cB cI : ClassId) (k0 t0 n : Nat) (po fi la : BitVec 64) (d o : Bool) (S : BitVec 64) (x k : Nat) (hn : 1 ≤ n ∧ n ≤ 64) (hx2 : x < 2 ^ 31) (hk : k ≤ 8) : Met l y_K_shift (Cond.code y_K_shift b_K_shift 11 (some .long) :: g_tbl) (rmO 4 86) (RoP D cL cB cI [(k0, .inr (0, kf n po fi la d o t0))] [.ref k0, .long (lB S), .int (nI x), .int (nI k)]) (RoL (lB (q_sh d (q_sd d n po) S x k))) 0 0 (fun _ => False) := by
  refine ro_startL (by decide) (Nat.le_of_ble_eq_true rfl) ?_
  intro p e s m below meth c ls Q F hP hK hl hret
  have hx := F.1
  have hb := F.2.1
  have hown := F.2.2.2.1
  have hT := F.2.2.2.2
  have hS : va_S (fun _ => False) s.heap s.heap [] := va_S.rf
  have hl : lv_has ls 11 [(0, .ref k0), (1, .long (lB S)), (3, .int (nI x)), (4, .int (nI k))] := hl
  refine lv_lload_n hx hb d_K_shift_0 rfl (lv_at hl 1 rfl) ?_
  refine lv_lstore (lv' := [(5, .long (lB S)), (0, .ref k0), (1, .long (lB S)), (3, .int (nI x)), (4, .int (nI k))]) hx hb d_K_shift_1 hl (by decide) rfl (fun ls hl => ?_)
  refine lv_aload_n hx hb d_K_shift_3 rfl (lv_at hl 1 rfl) ?_
  refine lv_aload_n hx hb d_K_shift_4 rfl (lv_at hl 1 rfl) ?_
  refine gf_K_25 (v := .long (lB po)) F hK hP 0 rfl rfl d_K_shift_5 ?_
  refine roVL (rest := []) F (c_K_stand l D cL cB cI k0 t0 n po fi la d o po hn) k_K_stand ml_K_58 ⟨rfl, rfl, by decide, by decide⟩ hK hP hS (hP.sub [0] rfl) rfl rfl rfl rfl hl.1 rfl (Nat.le_of_ble_eq_true rfl) d_K_shift_8 ⟨Nat.zero_le _, Nat.zero_le _⟩ (fun H locs hP hS => ?_)
  generalize hPp : q_sd d n po = Pp at hret ⊢
  refine lv_lstore (lv' := [(7, .long (lB Pp)), (5, .long (lB S)), (0, .ref k0), (1, .long (lB S)), (3, .int (nI x)), (4, .int (nI k))]) hx hb d_K_shift_11 hl (by decide) rfl (fun ls hl => ?_)
  refine lv_iconst (v := nI 0) hx hb d_K_shift_13 (by decide) ?_
  refine lv_istore (lv' := [(9, .int (nI 0)), (7, .long (lB Pp)), (5, .long (lB S)), (0, .ref k0), (1, .long (lB S)), (3, .int (nI x)), (4, .int (nI k))]) hx hb d_K_shift_14 hl (by decide) rfl (fun ls hl => ?_)
  have loop : ∀ (j i : Nat), i + j = k → ∀ (ls : Array Slot) (H : Heap) (locs : List Loc), va_P D classes [(k0, .inr (0, kf n po fi la d o t0))] H → va_S (fun _ => False) s.heap H locs → lv_has ls 11 [(0, .ref k0), (3, .int (nI x)), (4, .int (nI k)), (5, .long (lB (q_sh d Pp S x i))), (7, .long (lB Pp)), (9, .int (nI i))] → W p l e (rmO 4 86) s m ([.ref k0, .long (lB S), .int (nI x), .int (nI k)] : List Value).toArray below meth c H locs 0 0 Q (F0 m 16 ls []) := by
    intro j
    induction j with
    | zero =>
      intro i hij ls H locs hP hS hl
      refine lv_iload hx hb d_K_shift_16 (lv_at hl 5 rfl) ?_
      refine lv_iload hx hb d_K_shift_18 (lv_at hl 2 rfl) ?_
      refine nt_icmp_ge (a := i) (b := k) (tgt := 132) hx hb (by omega) (by omega) d_K_shift_20 (by decide) (fun hc => ?_) (fun hc => absurd hc (by omega))
      refine lv_lload hx hb d_K_shift_132 (lv_at hl 3 rfl) ?_
      refine tpl (z := (lB (q_sh d Pp S x k))) (by rw [show i = k by omega]) ?_
      exact hret _ _ _ _ d_K_shift_134 hS
    | succ j ih =>
      intro i hij ls H locs hP hS hl
      refine lv_iload hx hb d_K_shift_16 (lv_at hl 5 rfl) ?_
      refine lv_iload hx hb d_K_shift_18 (lv_at hl 2 rfl) ?_
      refine nt_icmp_ge (a := i) (b := k) (tgt := 132) hx hb (by omega) (by omega) d_K_shift_20 (by decide) (fun hc => absurd hc (by omega)) (fun hc => ?_)
      refine lv_aload_n hx hb d_K_shift_23 rfl (lv_at hl 0 rfl) ?_
      refine gf_K_34 (v := .int (bz d)) F hK hP 0 rfl rfl d_K_shift_24 ?_
      refine bz_ifeq (b := d) (tgt := 76) hx hb d_K_shift_27 (by decide) (fun hc => ?_) (fun hc => ?_)
      · subst hc
        refine lv_lload hx hb d_K_shift_76 (lv_at hl 3 rfl) ?_
        refine lv_bipush (v := nI 63) hx hb d_K_shift_78 (by decide) ?_
        refine bv_lushr hx hb (by omega) d_K_shift_80 ?_
        refine lv_iload_n hx hb d_K_shift_81 rfl (lv_at hl 1 rfl) ?_
        refine lv_bipush (v := nI 7) hx hb d_K_shift_82 (by decide) ?_
        refine lv_iload hx hb d_K_shift_84 (lv_at hl 5 rfl) ?_
        refine lv_bipush (v := nI 7) hx hb d_K_shift_86 (by decide) ?_
        refine nt_iand (x := i) hx hb d_K_shift_88 ?_
        refine tpi (z := (nI i)) (by rw [and7 (by omega)]) ?_
        refine nt_isub (x := 7) hx hb (by omega) d_K_shift_89 ?_
        refine nt_ishr (x := x) hx hb (by omega) (by omega) d_K_shift_90 ?_
        refine lv_iconst (v := nI 1) hx hb d_K_shift_91 (by decide) ?_
        refine nt_iand (x := (x / 2 ^ (7 - i))) hx hb d_K_shift_92 ?_
        refine tpi (z := (bz (x.testBit (7 - i)))) (nI_bit2 _ _) ?_
        refine lv_i2l hx hb d_K_shift_93 (bz_l _) ?_
        refine bl_eq (a := ((q_sh false Pp S x i) >>> 63)) (b := (if x.testBit (7 - i) then 1#64 else 0#64)) (tgt := 102) hx hb d_K_shift_94 d_K_shift_95 (by decide) (fun hc => ?_) (fun hc => ?_)
        · refine lv_iconst (v := nI 0) hx hb d_K_shift_102 (by decide) ?_
          refine lv_istore (lv' := [(10, .int (nI 0)), (0, .ref k0), (3, .int (nI x)), (4, .int (nI k)), (5, .long (lB (q_sh false Pp S x i))), (7, .long (lB Pp)), (9, .int (nI i))]) hx hb d_K_shift_103 hl (by decide) rfl (fun ls hl => ?_)
          refine lv_iload hx hb d_K_shift_105 (lv_at hl 0 rfl) ?_
          refine lv_if_eq (tgt := 120) hx hb d_K_shift_107 (by decide) (fun _ => ?_) (fun h => absurd rfl h)
          refine lv_lload hx hb d_K_shift_120 (lv_at hl 4 rfl) ?_
          refine lv_iconst (v := nI 1) hx hb d_K_shift_122 (by decide) ?_
          refine bv_lshl hx hb (by omega) d_K_shift_123 ?_
          refine tpl (z := (lB (q_sh false Pp S x (i + 1)))) (congrArg lB (sh_out0 hc)) ?_
          refine lv_lstore (lv' := [(5, .long (lB (q_sh false Pp S x (i + 1)))), (10, .int (nI 0)), (0, .ref k0), (3, .int (nI x)), (4, .int (nI k)), (7, .long (lB Pp)), (9, .int (nI i))]) hx hb d_K_shift_124 hl (by decide) rfl (fun ls hl => ?_)
          refine lv_iinc (v := (nI (i + 1))) (lv' := [(9, .int (nI (i + 1))), (5, .long (lB (q_sh false Pp S x (i + 1)))), (10, .int (nI 0)), (0, .ref k0), (3, .int (nI x)), (4, .int (nI k)), (7, .long (lB Pp))]) hx hb d_K_shift_126 hl (k := 6) rfl (nI_inc1 _) (by decide) rfl (fun ls hl => ?_)
          refine lv_goto (tgt := 16) hx hb d_K_shift_129 (by decide) ?_
          exact ih (i + 1) (by omega) ls H locs hP hS (lv_sub hl [3, 4, 5, 1, 6, 0] rfl)
        · refine lv_iconst (v := nI 1) hx hb d_K_shift_98 (by decide) ?_
          refine lv_goto (tgt := 103) hx hb d_K_shift_99 (by decide) ?_
          refine lv_istore (lv' := [(10, .int (nI 1)), (0, .ref k0), (3, .int (nI x)), (4, .int (nI k)), (5, .long (lB (q_sh false Pp S x i))), (7, .long (lB Pp)), (9, .int (nI i))]) hx hb d_K_shift_103 hl (by decide) rfl (fun ls hl => ?_)
          refine lv_iload hx hb d_K_shift_105 (lv_at hl 0 rfl) ?_
          refine lv_if_eq (tgt := 120) hx hb d_K_shift_107 (by decide) (fun h => absurd h (by decide)) (fun _ => ?_)
          refine lv_lload hx hb d_K_shift_110 (lv_at hl 4 rfl) ?_
          refine lv_iconst (v := nI 1) hx hb d_K_shift_112 (by decide) ?_
          refine bv_lshl hx hb (by omega) d_K_shift_113 ?_
          refine lv_lload hx hb d_K_shift_114 (lv_at hl 5 rfl) ?_
          refine bv_lxor hx hb d_K_shift_116 ?_
          refine lv_goto (tgt := 124) hx hb d_K_shift_117 (by decide) ?_
          refine tpl (z := (lB (q_sh false Pp S x (i + 1)))) (congrArg lB (sh_out1 hc)) ?_
          refine lv_lstore (lv' := [(5, .long (lB (q_sh false Pp S x (i + 1)))), (10, .int (nI 1)), (0, .ref k0), (3, .int (nI x)), (4, .int (nI k)), (7, .long (lB Pp)), (9, .int (nI i))]) hx hb d_K_shift_124 hl (by decide) rfl (fun ls hl => ?_)
          refine lv_iinc (v := (nI (i + 1))) (lv' := [(9, .int (nI (i + 1))), (5, .long (lB (q_sh false Pp S x (i + 1)))), (10, .int (nI 1)), (0, .ref k0), (3, .int (nI x)), (4, .int (nI k)), (7, .long (lB Pp))]) hx hb d_K_shift_126 hl (k := 6) rfl (nI_inc1 _) (by decide) rfl (fun ls hl => ?_)
          refine lv_goto (tgt := 16) hx hb d_K_shift_129 (by decide) ?_
          exact ih (i + 1) (by omega) ls H locs hP hS (lv_sub hl [3, 4, 5, 1, 6, 0] rfl)
      · subst hc
        refine lv_lload hx hb d_K_shift_30 (lv_at hl 3 rfl) ?_
        refine lv_lconst (v := lB 1#64) hx hb d_K_shift_32 rfl ?_
        refine bv_land hx hb d_K_shift_33 ?_
        refine lv_iload_n hx hb d_K_shift_34 rfl (lv_at hl 1 rfl) ?_
        refine lv_iload hx hb d_K_shift_35 (lv_at hl 5 rfl) ?_
        refine nt_ishr (x := x) hx hb (by omega) (by omega) d_K_shift_37 ?_
        refine lv_iconst (v := nI 1) hx hb d_K_shift_38 (by decide) ?_
        refine nt_iand (x := (x / 2 ^ i)) hx hb d_K_shift_39 ?_
        refine tpi (z := (bz (x.testBit i))) (nI_bit2 _ _) ?_
        refine lv_i2l hx hb d_K_shift_40 (bz_l _) ?_
        refine bl_eq (a := ((q_sh true Pp S x i) &&& 1#64)) (b := (if x.testBit i then 1#64 else 0#64)) (tgt := 49) hx hb d_K_shift_41 d_K_shift_42 (by decide) (fun hc => ?_) (fun hc => ?_)
        · refine lv_iconst (v := nI 0) hx hb d_K_shift_49 (by decide) ?_
          refine lv_istore (lv' := [(10, .int (nI 0)), (0, .ref k0), (3, .int (nI x)), (4, .int (nI k)), (5, .long (lB (q_sh true Pp S x i))), (7, .long (lB Pp)), (9, .int (nI i))]) hx hb d_K_shift_50 hl (by decide) rfl (fun ls hl => ?_)
          refine lv_iload hx hb d_K_shift_52 (lv_at hl 0 rfl) ?_
          refine lv_if_eq (tgt := 67) hx hb d_K_shift_54 (by decide) (fun _ => ?_) (fun h => absurd rfl h)
          refine lv_lload hx hb d_K_shift_67 (lv_at hl 4 rfl) ?_
          refine lv_iconst (v := nI 1) hx hb d_K_shift_69 (by decide) ?_
          refine bv_lushr hx hb (by omega) d_K_shift_70 ?_
          refine tpl (z := (lB (q_sh true Pp S x (i + 1)))) (congrArg lB (sh_in0 hc)) ?_
          refine lv_lstore (lv' := [(5, .long (lB (q_sh true Pp S x (i + 1)))), (10, .int (nI 0)), (0, .ref k0), (3, .int (nI x)), (4, .int (nI k)), (7, .long (lB Pp)), (9, .int (nI i))]) hx hb d_K_shift_71 hl (by decide) rfl (fun ls hl => ?_)
          refine lv_goto (tgt := 126) hx hb d_K_shift_73 (by decide) ?_
          refine lv_iinc (v := (nI (i + 1))) (lv' := [(9, .int (nI (i + 1))), (5, .long (lB (q_sh true Pp S x (i + 1)))), (10, .int (nI 0)), (0, .ref k0), (3, .int (nI x)), (4, .int (nI k)), (7, .long (lB Pp))]) hx hb d_K_shift_126 hl (k := 6) rfl (nI_inc1 _) (by decide) rfl (fun ls hl => ?_)
          refine lv_goto (tgt := 16) hx hb d_K_shift_129 (by decide) ?_
          exact ih (i + 1) (by omega) ls H locs hP hS (lv_sub hl [3, 4, 5, 1, 6, 0] rfl)
        · refine lv_iconst (v := nI 1) hx hb d_K_shift_45 (by decide) ?_
          refine lv_goto (tgt := 50) hx hb d_K_shift_46 (by decide) ?_
          refine lv_istore (lv' := [(10, .int (nI 1)), (0, .ref k0), (3, .int (nI x)), (4, .int (nI k)), (5, .long (lB (q_sh true Pp S x i))), (7, .long (lB Pp)), (9, .int (nI i))]) hx hb d_K_shift_50 hl (by decide) rfl (fun ls hl => ?_)
          refine lv_iload hx hb d_K_shift_52 (lv_at hl 0 rfl) ?_
          refine lv_if_eq (tgt := 67) hx hb d_K_shift_54 (by decide) (fun h => absurd h (by decide)) (fun _ => ?_)
          refine lv_lload hx hb d_K_shift_57 (lv_at hl 4 rfl) ?_
          refine lv_iconst (v := nI 1) hx hb d_K_shift_59 (by decide) ?_
          refine bv_lushr hx hb (by omega) d_K_shift_60 ?_
          refine lv_lload hx hb d_K_shift_61 (lv_at hl 5 rfl) ?_
          refine bv_lxor hx hb d_K_shift_63 ?_
          refine lv_goto (tgt := 71) hx hb d_K_shift_64 (by decide) ?_
          refine tpl (z := (lB (q_sh true Pp S x (i + 1)))) (congrArg lB (sh_in1 hc)) ?_
          refine lv_lstore (lv' := [(5, .long (lB (q_sh true Pp S x (i + 1)))), (10, .int (nI 1)), (0, .ref k0), (3, .int (nI x)), (4, .int (nI k)), (7, .long (lB Pp)), (9, .int (nI i))]) hx hb d_K_shift_71 hl (by decide) rfl (fun ls hl => ?_)
          refine lv_goto (tgt := 126) hx hb d_K_shift_73 (by decide) ?_
          refine lv_iinc (v := (nI (i + 1))) (lv' := [(9, .int (nI (i + 1))), (5, .long (lB (q_sh true Pp S x (i + 1)))), (10, .int (nI 1)), (0, .ref k0), (3, .int (nI x)), (4, .int (nI k)), (7, .long (lB Pp))]) hx hb d_K_shift_126 hl (k := 6) rfl (nI_inc1 _) (by decide) rfl (fun ls hl => ?_)
          refine lv_goto (tgt := 16) hx hb d_K_shift_129 (by decide) ?_
          exact ih (i + 1) (by omega) ls H locs hP hS (lv_sub hl [3, 4, 5, 1, 6, 0] rfl)
  exact loop k 0 (by omega) ls H locs hP hS (lv_sub hl [3, 5, 6, 2, 1, 0] rfl)
end
section
/-! ===== array cells by their number ===== -/
theorem lB_l2i (a : BitVec 64) : (lB a).toInt32 = nI a.toNat := by
  apply Int32.toBitVec_inj.mp
  rw [Int64.toBitVec_toInt32, lB_bv, BitVec.signExtend_eq_setWidth_of_le _ (by decide)]
  show _ = BitVec.ofNat 32 a.toNat
  apply BitVec.eq_of_toNat_eq
  rw [BitVec.toNat_setWidth, BitVec.toNat_ofNat]
section RWC
variable {p : Program} {l : Launch} {e : Env} {R : Room} {s : State} {m : MethodId} {args : Array Value} {below : List Frame} {meth : Method} {c : Code} {H : Heap} {locs : List Loc} {cells slots : Nat} {Q : State → Prop}
variable {cc : ByteArray} {pc nL : Nat} {ls : Array Slot} {rest : List Value} {D : va_G} {cL cB cI : ClassId} {ws : va_W} {H0 : Heap} {A : Nat → Prop} {a : Nat}
theorem nt_lald (hx : p.tables.exec = Jvm.exec) (hb : c.code = cc) (hK : KN D cL cB cI s) (hP : va_P D classes ws H) (q0 : Nat) {n : Nat} {f : Nat → Int64} (ha : ws[q0]? = some (a, .inl (cL, n, .inr (.inl f)))) {j : Nat} (hj : j < n) (hn : n < 2 ^ 31) (hdg : decode cc pc = .ok (.laload, 1)) (kk : W p l e R s m args below meth c H locs cells slots Q (F0 m (pc + 1) ls (.long (lB (f j).toBitVec) :: rest))) : W p l e R s m args below meth c H locs cells slots Q (F0 m pc ls (.int (nI j) :: .ref a :: rest)) := by
  refine va_lald hx hb hK.1 hP q0 0 ha rfl (vp_in_nI hj hn) hdg ?_
  rw [nI_clamp (Nat.lt_trans hj hn), ← lB_of (f j)]
  exact kk
theorem nt_bald (hx : p.tables.exec = Jvm.exec) (hb : c.code = cc) (hK : KN D cL cB cI s) (hP : va_P D classes ws H) (q0 : Nat) {n : Nat} {f : Nat → Int32} (ha : ws[q0]? = some (a, .inl (cB, n, .inl f))) {j : Nat} (hj : j < n) (hn : n < 2 ^ 31) (hdg : decode cc pc = .ok (.baload, 1)) (kk : W p l e R s m args below meth c H locs cells slots Q (F0 m (pc + 1) ls (.int (f j) :: rest))) : W p l e R s m args below meth c H locs cells slots Q (F0 m pc ls (.int (nI j) :: .ref a :: rest)) := by
  refine va_bald hx hb hK.1 hP q0 1 ha rfl (vp_in_nI hj hn) hdg ?_
  rw [nI_clamp (Nat.lt_trans hj hn)]
  exact kk
theorem nt_iald (hx : p.tables.exec = Jvm.exec) (hb : c.code = cc) (hK : KN D cL cB cI s) (hP : va_P D classes ws H) (q0 : Nat) {n : Nat} {f : Nat → Int32} (ha : ws[q0]? = some (a, .inl (cI, n, .inl f))) {j : Nat} (hj : j < n) (hn : n < 2 ^ 31) (hdg : decode cc pc = .ok (.iaload, 1)) (kk : W p l e R s m args below meth c H locs cells slots Q (F0 m (pc + 1) ls (.int (f j) :: rest))) : W p l e R s m args below meth c H locs cells slots Q (F0 m pc ls (.int (nI j) :: .ref a :: rest)) := by
  refine va_iald hx hb hK.1 hP q0 2 ha rfl (vp_in_nI hj hn) hdg ?_
  rw [nI_clamp (Nat.lt_trans hj hn)]
  exact kk
theorem nt_last (hx : p.tables.exec = Jvm.exec) (hb : c.code = cc) (hK : KN D cL cB cI s) (hP : va_P D classes ws H) (hD : va_D A ws) (hS : va_S A H0 H locs) (q0 : Nat) {n : Nat} {f : Nat → Int64} (ha : ws[q0]? = some (a, .inl (cL, n, .inr (.inl f)))) {j : Nat} {x : Int64} (hj : j < n) (hn : n < 2 ^ 31) (hdg : decode cc pc = .ok (.lastore, 1)) (kk : ∀ (H1 : Heap) (locs1 : List Loc), va_P D classes (ws.set q0 (a, .inl (cL, n, .inr (.inl (vp_updL f j x))))) H1 → va_D A (ws.set q0 (a, .inl (cL, n, .inr (.inl (vp_updL f j x))))) → va_S A H0 H1 locs1 → W p l e R s m args below meth c H1 locs1 cells slots Q (F0 m (pc + 1) ls rest)) : W p l e R s m args below meth c H locs cells slots Q (F0 m pc ls (.long x :: .int (nI j) :: .ref a :: rest)) := by
  refine va_last hx hb hK.1 hP hD hS q0 0 ha rfl (vp_in_nI hj hn) hdg (fun H1 locs1 h1 h2 h3 => ?_)
  rw [nI_clamp (Nat.lt_trans hj hn)] at h1 h2
  exact kk H1 locs1 h1 h2 h3
theorem nt_bast (hx : p.tables.exec = Jvm.exec) (hb : c.code = cc) (hK : KN D cL cB cI s) (hP : va_P D classes ws H) (hD : va_D A ws) (hS : va_S A H0 H locs) (q0 : Nat) {n : Nat} {f : Nat → Int32} (ha : ws[q0]? = some (a, .inl (cB, n, .inl f))) {j : Nat} {x : Int32} (hj : j < n) (hn : n < 2 ^ 31) (hdg : decode cc pc = .ok (.bastore, 1)) (kk : ∀ (H1 : Heap) (locs1 : List Loc), va_P D classes (ws.set q0 (a, .inl (cB, n, .inl (upd f j (vp_nar .byte x))))) H1 → va_D A (ws.set q0 (a, .inl (cB, n, .inl (upd f j (vp_nar .byte x))))) → va_S A H0 H1 locs1 → W p l e R s m args below meth c H1 locs1 cells slots Q (F0 m (pc + 1) ls rest)) : W p l e R s m args below meth c H locs cells slots Q (F0 m pc ls (.int x :: .int (nI j) :: .ref a :: rest)) := by
  refine va_bast hx hb hK.1 hP hD hS q0 1 ha rfl (vp_in_nI hj hn) hdg (fun H1 locs1 h1 h2 h3 => ?_)
  rw [nI_clamp (Nat.lt_trans hj hn)] at h1 h2
  exact kk H1 locs1 h1 h2 h3
theorem nt_iast (hx : p.tables.exec = Jvm.exec) (hb : c.code = cc) (hK : KN D cL cB cI s) (hP : va_P D classes ws H) (hD : va_D A ws) (hS : va_S A H0 H locs) (q0 : Nat) {n : Nat} {f : Nat → Int32} (ha : ws[q0]? = some (a, .inl (cI, n, .inl f))) {j : Nat} {x : Int32} (hj : j < n) (hn : n < 2 ^ 31) (hdg : decode cc pc = .ok (.iastore, 1)) (kk : ∀ (H1 : Heap) (locs1 : List Loc), va_P D classes (ws.set q0 (a, .inl (cI, n, .inl (upd f j x)))) H1 → va_D A (ws.set q0 (a, .inl (cI, n, .inl (upd f j x)))) → va_S A H0 H1 locs1 → W p l e R s m args below meth c H1 locs1 cells slots Q (F0 m (pc + 1) ls rest)) : W p l e R s m args below meth c H locs cells slots Q (F0 m pc ls (.int x :: .int (nI j) :: .ref a :: rest)) := by
  refine va_iast hx hb hK.1 hP hD hS q0 2 ha rfl (vp_in_nI hj hn) hdg (fun H1 locs1 h1 h2 h3 => ?_)
  rw [nI_clamp (Nat.lt_trans hj hn)] at h1 h2
  exact kk H1 locs1 h1 h2 h3
end RWC
end
section
theorem q_lt (V : BitVec 64) : (V &&& 255#64).toNat < 256 := by
  rw [BitVec.toNat_and]; exact Nat.lt_of_le_of_lt Nat.and_le_right (by decide)
theorem q_by_lt (d : Bool) (V : BitVec 64) (i : Nat) : q_by d V i < 256 := q_lt _
theorem q_56_lt (V : BitVec 64) : (V >>> 56).toNat < 256 := by
  rw [BitVec.toNat_ushiftRight, Nat.shiftRight_eq_div_pow]
  have := V.isLt
  omega
theorem x_lt {a b : Nat} (ha : a < 256) (hb : b < 256) : a ^^^ b < 256 := Nat.xor_lt_two_pow (n := 8) ha hb
theorem and255 (V : BitVec 64) : V.toNat &&& 255 = (V &&& 255#64).toNat := (BitVec.toNat_and V 255#64).symm
set_option maxHeartbeats 4000000 in
set_option maxRecDepth 100000 in
theorem c_K_next (l : Launch) (D : va_G) (cL cB cI : ClassId) (k0 t0 n : Nat) (po fi la : BitVec 64) (d o : Bool) (f : Nat → Int64) (S : BitVec 64) (x : Nat) (hx2 : x < 256) : Met l y_K_next (Cond.code y_K_next b_K_next 4 (some .long) :: g_tbl) (rmO 0 0) (RoP D cL cB cI [(k0, .inr (0, kf n po fi la d o t0)), (t0, .inl (cL, 2048, .inr (.inl f)))] [.ref k0, .long (lB S), .int (nI x)]) (RoL (lB (q_nx d f S x))) 0 0 (fun _ => False) := by
  refine ro_startL (by decide) (Nat.le_of_ble_eq_true rfl) ?_
  intro p e s m below meth c ls Q F hP hK hl hret
  have hx := F.1
  have hb := F.2.1
  have hown := F.2.2.2.1
  have hT := F.2.2.2.2
  have hS : va_S (fun _ => False) s.heap s.heap [] := va_S.rf
  have hl : lv_has ls 4 [(0, .ref k0), (1, .long (lB S)), (3, .int (nI x))] := hl
  refine lv_aload_n hx hb d_K_next_0 rfl (lv_at hl 0 rfl) ?_
  refine gf_K_34 (v := .int (bz d)) F hK hP 0 rfl rfl d_K_next_1 ?_
  refine bz_ifeq (b := d) (tgt := 28) hx hb d_K_next_4 (by decide) (fun hc => ?_) (fun hc => ?_)
  · subst hc
    refine lv_lload_n hx hb d_K_next_28 rfl (lv_at hl 1 rfl) ?_
    refine lv_bipush (v := nI 8) hx hb d_K_next_29 (by decide) ?_
    refine bv_lshl hx hb (by omega) d_K_next_31 ?_
    refine lv_aload_n hx hb d_K_next_32 rfl (lv_at hl 0 rfl) ?_
    refine gf_K_9 (v := .ref t0) F hK hP 0 rfl rfl d_K_next_33 ?_
    refine lv_lload_n hx hb d_K_next_36 rfl (lv_at hl 1 rfl) ?_
    refine lv_bipush (v := nI 56) hx hb d_K_next_37 (by decide) ?_
    refine bv_lushr hx hb (by omega) d_K_next_39 ?_
    refine lv_l2i hx hb d_K_next_40 (lB_l2i _) ?_
    refine lv_iload_n hx hb d_K_next_41 rfl (lv_at hl 2 rfl) ?_
    refine nt_ixor (x := ((S >>> 56).toNat)) hx hb d_K_next_42 ?_
    have h1 := x_lt (q_56_lt S) hx2
    refine nt_lald (j := (((S >>> 56).toNat) ^^^ x)) hx hb hK hP 1 rfl (by omega) (by decide) d_K_next_43 ?_
    refine bv_lxor hx hb d_K_next_44 ?_
    refine tpl (z := (lB (q_nx false f S x))) rfl ?_
    exact hret _ _ _ _ d_K_next_45 hS
  · subst hc
    refine lv_lload_n hx hb d_K_next_7 rfl (lv_at hl 1 rfl) ?_
    refine lv_bipush (v := nI 8) hx hb d_K_next_8 (by decide) ?_
    refine bv_lushr hx hb (by omega) d_K_next_10 ?_
    refine lv_aload_n hx hb d_K_next_11 rfl (lv_at hl 0 rfl) ?_
    refine gf_K_9 (v := .ref t0) F hK hP 0 rfl rfl d_K_next_12 ?_
    refine lv_lload_n hx hb d_K_next_15 rfl (lv_at hl 1 rfl) ?_
    refine lv_ldc2 hx hb hown (hT _ cj_K_61) d_K_next_16 ?_
    refine tpl (z := lB 255#64) (by decide) ?_
    refine bv_land hx hb d_K_next_19 ?_
    refine lv_l2i hx hb d_K_next_20 (lB_l2i _) ?_
    refine lv_iload_n hx hb d_K_next_21 rfl (lv_at hl 2 rfl) ?_
    refine nt_ixor (x := ((S &&& 255#64).toNat)) hx hb d_K_next_22 ?_
    have h1 := x_lt (q_lt S) hx2
    refine nt_lald (j := (((S &&& 255#64).toNat) ^^^ x)) hx hb hK hP 1 rfl (by omega) (by decide) d_K_next_23 ?_
    refine bv_lxor hx hb d_K_next_24 ?_
    refine lv_goto (tgt := 45) hx hb d_K_next_25 (by decide) ?_
    refine tpl (z := (lB (q_nx true f S x))) rfl ?_
    exact hret _ _ _ _ d_K_next_45 hS

set_option maxHeartbeats 4000000 in
set_option maxRecDepth 100000 in
theorem c_K_slice (l : Launch) (D : va_G) (cL cB cI : ClassId) (k0 t0 n : Nat) (po fi la : BitVec 64) (d o : Bool) (f : Nat → Int64) (S E : BitVec 64)  : Met l y_K_slice (Cond.code y_K_slice b_K_slice 11 (some .long) :: g_tbl) (rmO 0 0) (RoP D cL cB cI [(k0, .inr (0, kf n po fi la d o t0)), (t0, .inl (cL, 2048, .inr (.inl f)))] [.ref k0, .long (lB S), .long (lB E)]) (RoL (lB (q_sl d f (S ^^^ E) 8))) 0 0 (fun _ => False) := by
  refine ro_startL (by decide) (Nat.le_of_ble_eq_true rfl) ?_
  intro p e s m below meth c ls Q F hP hK hl hret
  have hx := F.1
  have hb := F.2.1
  have hown := F.2.2.2.1
  have hT := F.2.2.2.2
  have hS : va_S (fun _ => False) s.heap s.heap [] := va_S.rf
  have hl : lv_has ls 11 [(0, .ref k0), (1, .long (lB S)), (3, .long (lB E))] := hl
  refine lv_lload_n hx hb d_K_slice_0 rfl (lv_at hl 1 rfl) ?_
  refine lv_lload_n hx hb d_K_slice_1 rfl (lv_at hl 2 rfl) ?_
  refine bv_lxor hx hb d_K_slice_2 ?_
  refine lv_lstore (lv' := [(5, .long (lB (S ^^^ E))), (0, .ref k0), (1, .long (lB S)), (3, .long (lB E))]) hx hb d_K_slice_3 hl (by decide) rfl (fun ls hl => ?_)
  refine lv_lconst (v := lB 0#64) hx hb d_K_slice_5 rfl ?_
  refine lv_lstore (lv' := [(7, .long (lB 0#64)), (5, .long (lB (S ^^^ E))), (0, .ref k0), (1, .long (lB S)), (3, .long (lB E))]) hx hb d_K_slice_6 hl (by decide) rfl (fun ls hl => ?_)
  refine lv_iconst (v := nI 0) hx hb d_K_slice_8 (by decide) ?_
  refine lv_istore (lv' := [(9, .int (nI 0)), (7, .long (lB 0#64)), (5, .long (lB (S ^^^ E))), (0, .ref k0), (1, .long (lB S)), (3, .long (lB E))]) hx hb d_K_slice_9 hl (by decide) rfl (fun ls hl => ?_)
  generalize hVv : S ^^^ E = Vv at hl hret
  have loop11 : ∀ (j i : Nat), i + j = 8 → ∀ (ls : Array Slot) (H : Heap) (locs : List Loc), va_P D classes [(k0, .inr (0, kf n po fi la d o t0)), (t0, .inl (cL, 2048, .inr (.inl f)))] H → va_S (fun _ => False) s.heap H locs → lv_has ls 11 [(0, .ref k0), (5, .long (lB Vv)), (7, .long (lB (q_sl d f Vv i))), (9, .int (nI i))] → W p l e (rmO 0 0) s m ([.ref k0, .long (lB S), .long (lB E)] : List Value).toArray below meth c H locs 0 0 Q (F0 m 11 ls []) := by
    intro j
    induction j with
    | zero =>
      intro i hij ls H locs hP hS hl
      refine lv_iload hx hb d_K_slice_11 (lv_at hl 3 rfl) ?_
      refine lv_bipush (v := nI 8) hx hb d_K_slice_13 (by decide) ?_
      refine nt_icmp_ge (a := i) (b := 8) (tgt := 82) hx hb (by omega) (by omega) d_K_slice_15 (by decide) (fun hc => ?_) (fun hc => absurd hc (by omega))
      refine lv_lload hx hb d_K_slice_82 (lv_at hl 2 rfl) ?_
      refine tpl (z := (lB (q_sl d f Vv 8))) (by rw [show i = 8 by omega]) ?_
      exact hret _ _ _ _ d_K_slice_84 hS
    | succ j ih =>
      intro i hij ls H locs hP hS hl
      refine lv_iload hx hb d_K_slice_11 (lv_at hl 3 rfl) ?_
      refine lv_bipush (v := nI 8) hx hb d_K_slice_13 (by decide) ?_
      refine nt_icmp_ge (a := i) (b := 8) (tgt := 82) hx hb (by omega) (by omega) d_K_slice_15 (by decide) (fun hc => absurd hc (by omega)) (fun hc => ?_)
      refine lv_aload_n hx hb d_K_slice_18 rfl (lv_at hl 0 rfl) ?_
      refine gf_K_34 (v := .int (bz d)) F hK hP 0 rfl rfl d_K_slice_19 ?_
      refine bz_ifeq (b := d) (tgt := 36) hx hb d_K_slice_22 (by decide) (fun hc => ?_) (fun hc => ?_)
      · subst hc
        refine lv_lload hx hb d_K_slice_36 (lv_at hl 1 rfl) ?_
        refine lv_bipush (v := nI 56) hx hb d_K_slice_38 (by decide) ?_
        refine lv_bipush (v := nI 8) hx hb d_K_slice_40 (by decide) ?_
        refine lv_iload hx hb d_K_slice_42 (lv_at hl 3 rfl) ?_
        refine nt_imul (x := 8) hx hb d_K_slice_44 ?_
        refine nt_isub (x := 56) hx hb (by omega) d_K_slice_45 ?_
        refine bv_lushr hx hb (by omega) d_K_slice_46 ?_
        refine lv_l2i hx hb d_K_slice_47 (lB_l2i _) ?_
        refine lv_sipush (v := nI 255) hx hb d_K_slice_48 (by decide) ?_
        refine nt_iand (x := ((Vv >>> (56 - (8 * i))).toNat)) hx hb d_K_slice_51 ?_
        refine tpi (z := (nI (q_by false Vv i))) (congrArg nI (and255 _)) ?_
        have hq := q_by_lt false Vv i
        refine lv_istore (lv' := [(10, .int (nI (q_by false Vv i))), (0, .ref k0), (5, .long (lB Vv)), (7, .long (lB (q_sl false f Vv i))), (9, .int (nI i))]) hx hb d_K_slice_52 hl (by decide) rfl (fun ls hl => ?_)
        refine lv_lload hx hb d_K_slice_54 (lv_at hl 3 rfl) ?_
        refine lv_aload_n hx hb d_K_slice_56 rfl (lv_at hl 1 rfl) ?_
        refine gf_K_9 (v := .ref t0) F hK hP 0 rfl rfl d_K_slice_57 ?_
        refine lv_sipush (v := nI 256) hx hb d_K_slice_60 (by decide) ?_
        refine lv_bipush (v := nI 7) hx hb d_K_slice_63 (by decide) ?_
        refine lv_iload hx hb d_K_slice_65 (lv_at hl 4 rfl) ?_
        refine nt_isub (x := 7) hx hb (by omega) d_K_slice_67 ?_
        refine nt_imul (x := 256) hx hb d_K_slice_68 ?_
        refine lv_iload hx hb d_K_slice_69 (lv_at hl 0 rfl) ?_
        refine nt_iadd (x := (256 * (7 - i))) hx hb d_K_slice_71 ?_
        refine nt_lald (j := ((256 * (7 - i)) + (q_by false Vv i))) hx hb hK hP 1 rfl (by omega) (by decide) d_K_slice_72 ?_
        refine bv_lxor hx hb d_K_slice_73 ?_
        refine tpl (z := (lB (q_sl false f Vv (i + 1)))) rfl ?_
        refine lv_lstore (lv' := [(7, .long (lB (q_sl false f Vv (i + 1)))), (10, .int (nI (q_by false Vv i))), (0, .ref k0), (5, .long (lB Vv)), (9, .int (nI i))]) hx hb d_K_slice_74 hl (by decide) rfl (fun ls hl => ?_)
        refine lv_iinc (v := (nI (i + 1))) (lv' := [(9, .int (nI (i + 1))), (7, .long (lB (q_sl false f Vv (i + 1)))), (10, .int (nI (q_by false Vv i))), (0, .ref k0), (5, .long (lB Vv))]) hx hb d_K_slice_76 hl (k := 4) rfl (nI_inc1 _) (by decide) rfl (fun ls hl => ?_)
        refine lv_goto (tgt := 11) hx hb d_K_slice_79 (by decide) ?_
        exact ih (i + 1) (by omega) ls H locs hP hS (lv_sub hl [3, 4, 1, 0] rfl)
      · subst hc
        refine lv_lload hx hb d_K_slice_25 (lv_at hl 1 rfl) ?_
        refine lv_bipush (v := nI 8) hx hb d_K_slice_27 (by decide) ?_
        refine lv_iload hx hb d_K_slice_29 (lv_at hl 3 rfl) ?_
        refine nt_imul (x := 8) hx hb d_K_slice_31 ?_
        refine bv_lushr hx hb (by omega) d_K_slice_32 ?_
        refine lv_goto (tgt := 47) hx hb d_K_slice_33 (by decide) ?_
        refine lv_l2i hx hb d_K_slice_47 (lB_l2i _) ?_
        refine lv_sipush (v := nI 255) hx hb d_K_slice_48 (by decide) ?_
        refine nt_iand (x := ((Vv >>> (8 * i)).toNat)) hx hb d_K_slice_51 ?_
        refine tpi (z := (nI (q_by true Vv i))) (congrArg nI (and255 _)) ?_
        have hq := q_by_lt true Vv i
        refine lv_istore (lv' := [(10, .int (nI (q_by true Vv i))), (0, .ref k0), (5, .long (lB Vv)), (7, .long (lB (q_sl true f Vv i))), (9, .int (nI i))]) hx hb d_K_slice_52 hl (by decide) rfl (fun ls hl => ?_)
        refine lv_lload hx hb d_K_slice_54 (lv_at hl 3 rfl) ?_
        refine lv_aload_n hx hb d_K_slice_56 rfl (lv_at hl 1 rfl) ?_
        refine gf_K_9 (v := .ref t0) F hK hP 0 rfl rfl d_K_slice_57 ?_
        refine lv_sipush (v := nI 256) hx hb d_K_slice_60 (by decide) ?_
        refine lv_bipush (v := nI 7) hx hb d_K_slice_63 (by decide) ?_
        refine lv_iload hx hb d_K_slice_65 (lv_at hl 4 rfl) ?_
        refine nt_isub (x := 7) hx hb (by omega) d_K_slice_67 ?_
        refine nt_imul (x := 256) hx hb d_K_slice_68 ?_
        refine lv_iload hx hb d_K_slice_69 (lv_at hl 0 rfl) ?_
        refine nt_iadd (x := (256 * (7 - i))) hx hb d_K_slice_71 ?_
        refine nt_lald (j := ((256 * (7 - i)) + (q_by true Vv i))) hx hb hK hP 1 rfl (by omega) (by decide) d_K_slice_72 ?_
        refine bv_lxor hx hb d_K_slice_73 ?_
        refine tpl (z := (lB (q_sl true f Vv (i + 1)))) rfl ?_
        refine lv_lstore (lv' := [(7, .long (lB (q_sl true f Vv (i + 1)))), (10, .int (nI (q_by true Vv i))), (0, .ref k0), (5, .long (lB Vv)), (9, .int (nI i))]) hx hb d_K_slice_74 hl (by decide) rfl (fun ls hl => ?_)
        refine lv_iinc (v := (nI (i + 1))) (lv' := [(9, .int (nI (i + 1))), (7, .long (lB (q_sl true f Vv (i + 1)))), (10, .int (nI (q_by true Vv i))), (0, .ref k0), (5, .long (lB Vv))]) hx hb d_K_slice_76 hl (k := 4) rfl (nI_inc1 _) (by decide) rfl (fun ls hl => ?_)
        refine lv_goto (tgt := 11) hx hb d_K_slice_79 (by decide) ?_
        exact ih (i + 1) (by omega) ls H locs hP hS (lv_sub hl [3, 4, 1, 0] rfl)
  exact loop11 (8) 0 (by omega) ls s.heap [] hP hS (lv_sub hl [3, 2, 1, 0] rfl)

theorem mt0 {g : Nat → Int64} {V : BitVec 64} {i : Nat} (h : ¬ (V >>> i) &&& 1#64 = 1#64) : q_mt g V i ^^^ 0#64 = q_mt g V (i + 1) := by
  rw [bv_bit, bv_ite_1] at h
  show _ = q_mt g V i ^^^ (if V.getLsbD i then (g i).toBitVec else 0#64)
  rw [if_neg h]
theorem mt1 {g : Nat → Int64} {V : BitVec 64} {i : Nat} (h : (V >>> i) &&& 1#64 = 1#64) : q_mt g V i ^^^ (g i).toBitVec = q_mt g V (i + 1) := by
  rw [bv_bit, bv_ite_1] at h
  show _ = q_mt g V i ^^^ (if V.getLsbD i then (g i).toBitVec else 0#64)
  rw [if_pos h]
set_option maxHeartbeats 4000000 in
set_option maxRecDepth 100000 in
theorem c_P_times (l : Launch) (D : va_G) (cL cB cI : ClassId) (n0 : Nat) (g : Nat → Int64) (V : BitVec 64)  : Met l y_P_times (Cond.code y_P_times b_P_times 6 (some .long) :: g_tbl) (rmO 0 0) (RoP D cL cB cI [(n0, .inl (cL, 64, .inr (.inl g)))] [.ref n0, .long (lB V)]) (RoL (lB (q_mt g V 64))) 0 0 (fun _ => False) := by
  refine ro_startL (by decide) (Nat.le_of_ble_eq_true rfl) ?_
  intro p e s m below meth c ls Q F hP hK hl hret
  have hx := F.1
  have hb := F.2.1
  have hown := F.2.2.2.1
  have hT := F.2.2.2.2
  have hS : va_S (fun _ => False) s.heap s.heap [] := va_S.rf
  have hl : lv_has ls 6 [(0, .ref n0), (1, .long (lB V))] := hl
  refine lv_lconst (v := lB 0#64) hx hb d_P_times_0 rfl ?_
  refine lv_lstore_n (lv' := [(3, .long (lB 0#64)), (0, .ref n0), (1, .long (lB V))]) hx hb d_P_times_1 rfl hl (by decide) rfl (fun ls hl => ?_)
  refine lv_iconst (v := nI 0) hx hb d_P_times_2 (by decide) ?_
  refine lv_istore (lv' := [(5, .int (nI 0)), (3, .long (lB 0#64)), (0, .ref n0), (1, .long (lB V))]) hx hb d_P_times_3 hl (by decide) rfl (fun ls hl => ?_)
  have loop5 : ∀ (j i : Nat), i + j = 64 → ∀ (ls : Array Slot) (H : Heap) (locs : List Loc), va_P D classes [(n0, .inl (cL, 64, .inr (.inl g)))] H → va_S (fun _ => False) s.heap H locs → lv_has ls 6 [(0, .ref n0), (1, .long (lB V)), (3, .long (lB (q_mt g V i))), (5, .int (nI i))] → W p l e (rmO 0 0) s m ([.ref n0, .long (lB V)] : List Value).toArray below meth c H locs 0 0 Q (F0 m 5 ls []) := by
    intro j
    induction j with
    | zero =>
      intro i hij ls H locs hP hS hl
      refine lv_iload hx hb d_P_times_5 (lv_at hl 3 rfl) ?_
      refine lv_bipush (v := nI 64) hx hb d_P_times_7 (by decide) ?_
      refine nt_icmp_ge (a := i) (b := 64) (tgt := 40) hx hb (by omega) (by omega) d_P_times_9 (by decide) (fun hc => ?_) (fun hc => absurd hc (by omega))
      refine lv_lload_n hx hb d_P_times_40 rfl (lv_at hl 2 rfl) ?_
      refine tpl (z := (lB (q_mt g V 64))) (by rw [show i = 64 by omega]) ?_
      exact hret _ _ _ _ d_P_times_41 hS
    | succ j ih =>
      intro i hij ls H locs hP hS hl
      refine lv_iload hx hb d_P_times_5 (lv_at hl 3 rfl) ?_
      refine lv_bipush (v := nI 64) hx hb d_P_times_7 (by decide) ?_
      refine nt_icmp_ge (a := i) (b := 64) (tgt := 40) hx hb (by omega) (by omega) d_P_times_9 (by decide) (fun hc => absurd hc (by omega)) (fun hc => ?_)
      refine lv_lload_n hx hb d_P_times_12 rfl (lv_at hl 2 rfl) ?_
      refine lv_lload_n hx hb d_P_times_13 rfl (lv_at hl 1 rfl) ?_
      refine lv_iload hx hb d_P_times_14 (lv_at hl 3 rfl) ?_
      refine bv_lushr hx hb (by omega) d_P_times_16 ?_
      refine lv_lconst (v := lB 1#64) hx hb d_P_times_17 rfl ?_
      refine bv_land hx hb d_P_times_18 ?_
      refine lv_lconst (v := lB 1#64) hx hb d_P_times_19 rfl ?_
      refine bl_ne (a := ((V >>> i) &&& 1#64)) (b := 1#64) (tgt := 31) hx hb d_P_times_20 d_P_times_21 (by decide) (fun hc => ?_) (fun hc => ?_)
      · refine lv_lconst (v := lB 0#64) hx hb d_P_times_31 rfl ?_
        refine bv_lxor hx hb d_P_times_32 ?_
        refine tpl (z := (lB (q_mt g V (i + 1)))) (congrArg lB (mt0 hc)) ?_
        refine lv_lstore_n (lv' := [(3, .long (lB (q_mt g V (i + 1)))), (0, .ref n0), (1, .long (lB V)), (5, .int (nI i))]) hx hb d_P_times_33 rfl hl (by decide) rfl (fun ls hl => ?_)
        refine lv_iinc (v := (nI (i + 1))) (lv' := [(5, .int (nI (i + 1))), (3, .long (lB (q_mt g V (i + 1)))), (0, .ref n0), (1, .long (lB V))]) hx hb d_P_times_34 hl (k := 3) rfl (nI_inc1 _) (by decide) rfl (fun ls hl => ?_)
        refine lv_goto (tgt := 5) hx hb d_P_times_37 (by decide) ?_
        exact ih (i + 1) (by omega) ls H locs hP hS (lv_sub hl [2, 3, 1, 0] rfl)
      · refine lv_aload_n hx hb d_P_times_24 rfl (lv_at hl 0 rfl) ?_
        refine lv_iload hx hb d_P_times_25 (lv_at hl 3 rfl) ?_
        refine nt_lald (j := i) hx hb hK hP 0 rfl (by omega) (by decide) d_P_times_27 ?_
        refine lv_goto (tgt := 32) hx hb d_P_times_28 (by decide) ?_
        refine bv_lxor hx hb d_P_times_32 ?_
        refine tpl (z := (lB (q_mt g V (i + 1)))) (congrArg lB (mt1 hc)) ?_
        refine lv_lstore_n (lv' := [(3, .long (lB (q_mt g V (i + 1)))), (0, .ref n0), (1, .long (lB V)), (5, .int (nI i))]) hx hb d_P_times_33 rfl hl (by decide) rfl (fun ls hl => ?_)
        refine lv_iinc (v := (nI (i + 1))) (lv' := [(5, .int (nI (i + 1))), (3, .long (lB (q_mt g V (i + 1)))), (0, .ref n0), (1, .long (lB V))]) hx hb d_P_times_34 hl (k := 3) rfl (nI_inc1 _) (by decide) rfl (fun ls hl => ?_)
        refine lv_goto (tgt := 5) hx hb d_P_times_37 (by decide) ?_
        exact ih (i + 1) (by omega) ls H locs hP hS (lv_sub hl [2, 3, 1, 0] rfl)
  exact loop5 (64) 0 (by omega) ls s.heap [] hP hS (lv_sub hl [2, 3, 1, 0] rfl)
end
section
/-! ===== the algebra of registers ===== -/
theorem mk_bit {n : Nat} (hn : n ≤ 64) (i : Nat) : (q_mk n).getLsbD i = decide (i < n) := by
  unfold q_mk
  rw [BitVec.getLsbD_ushiftRight, BitVec.getLsbD_allOnes]
  by_cases h : i < n
  · simp [h]; omega
  · simp [h]; omega
theorem and_mk_bit {n : Nat} (hn : n ≤ 64) (a : BitVec 64) (i : Nat) : (a &&& q_mk n).getLsbD i = (a.getLsbD i && decide (i < n)) := by
  rw [BitVec.getLsbD_and, mk_bit hn]
/-- a register of width n -/
def q_M (n : Nat) (r : BitVec 64) : Prop := r &&& q_mk n = r
theorem M_bit {n : Nat} {r : BitVec 64} (hn : n ≤ 64) (h : q_M n r) {i : Nat} (hi : n ≤ i) : r.getLsbD i = false := by
  have e := congrArg (fun x : BitVec 64 => x.getLsbD i) h
  simp only [and_mk_bit hn] at e
  rw [← e]; simp [Nat.not_lt.mpr hi]
theorem M_of {n : Nat} {r : BitVec 64} (hn : n ≤ 64) (h : ∀ i, n ≤ i → r.getLsbD i = false) : q_M n r := by
  apply BitVec.eq_of_getLsbD_eq
  intro i hi
  rw [and_mk_bit hn]
  by_cases hin : i < n
  · simp [hin]
  · rw [h i (by omega)]; rfl
theorem M_and {n : Nat} (r : BitVec 64) : q_M n (r &&& q_mk n) := by unfold q_M; rw [BitVec.and_assoc, BitVec.and_self]
theorem M_0 {n : Nat} : q_M n 0#64 := BitVec.zero_and
theorem M_xor {n : Nat} {a b : BitVec 64} (hn : n ≤ 64) (ha : q_M n a) (hb : q_M n b) : q_M n (a ^^^ b) := M_of hn (fun i hi => by rw [BitVec.getLsbD_xor, M_bit hn ha hi, M_bit hn hb hi]; rfl)
theorem M_ite {n : Nat} {a : BitVec 64} (c : Bool) (ha : q_M n a) : q_M n (if c then a else 0#64) := by cases c <;> first | exact ha | exact M_0
theorem xor_and (a b m : BitVec 64) : (a ^^^ b) &&& m = (a &&& m) ^^^ (b &&& m) := by
  apply BitVec.eq_of_getLsbD_eq
  intro i hi
  simp only [BitVec.getLsbD_and, BitVec.getLsbD_xor]
  cases a.getLsbD i <;> cases b.getLsbD i <;> cases m.getLsbD i <;> rfl
theorem mk_64 (V : BitVec 64) : V &&& q_mk 64 = V := M_of (Nat.le_refl 64) (fun i hi => BitVec.getLsbD_of_ge _ _ hi)
theorem mk_sub : ∀ n, n < 64 → (1#64 <<< n) - 1#64 = q_mk n := by decide +kernel
/-! the zero step -/
theorem bt_f (n : Nat) (po r : BitVec 64) : q_bt n po r false = ((r <<< 1) &&& q_mk n) ^^^ (if r.getLsbD (n - 1) then po else 0#64) := by
  unfold q_bt; cases r.getLsbD (n - 1) <;> rfl
theorem xor4 (u v x y : BitVec 64) : (u ^^^ v) ^^^ (x ^^^ y) = (u ^^^ x) ^^^ (v ^^^ y) := by
  apply BitVec.eq_of_getLsbD_eq
  intro i hi
  simp only [BitVec.getLsbD_xor]
  cases u.getLsbD i <;> cases v.getLsbD i <;> cases x.getLsbD i <;> cases y.getLsbD i <;> rfl
theorem ite_xor (po : BitVec 64) (p q c e : Bool) : (if (p ^^ q) != (c ^^ e) then po else 0#64) = (if p != c then po else 0#64) ^^^ (if q != e then po else 0#64) := by
  cases p <;> cases q <;> cases c <;> cases e <;> simp
theorem bt_xor (n : Nat) (po a b : BitVec 64) (c e : Bool) : q_bt n po (a ^^^ b) (c ^^ e) = q_bt n po a c ^^^ q_bt n po b e := by
  unfold q_bt
  rw [BitVec.shiftLeft_xor_distrib, xor_and, BitVec.getLsbD_xor]
  rw [ite_xor, xor4]
theorem bt_0 (n : Nat) (po : BitVec 64) : q_bt n po 0#64 false = 0#64 := by
  rw [bt_f]; simp
theorem bt_M {n : Nat} {po : BitVec 64} (hn : n ≤ 64) (hp : q_M n po) (r : BitVec 64) (c : Bool) : q_M n (q_bt n po r c) := M_xor hn (M_and _) (M_ite _ hp)
theorem xp_s (n : Nat) (po r : BitVec 64) (k : Nat) : q_xp n po r (k + 1) = q_bt n po (q_xp n po r k) false := rfl
theorem xp_add (n : Nat) (po r : BitVec 64) (a : Nat) : ∀ b, q_xp n po r (a + b) = q_xp n po (q_xp n po r a) b
  | 0 => rfl
  | b + 1 => by rw [← Nat.add_assoc, xp_s, xp_add n po r a b]; rfl
theorem xp_xor (n : Nat) (po a b : BitVec 64) : ∀ k, q_xp n po (a ^^^ b) k = q_xp n po a k ^^^ q_xp n po b k
  | 0 => rfl
  | k + 1 => by rw [xp_s, xp_xor n po a b k, xp_s, xp_s]; exact bt_xor n po _ _ false false
theorem xp_0 (n : Nat) (po : BitVec 64) : ∀ k, q_xp n po 0#64 k = 0#64
  | 0 => rfl
  | k + 1 => by rw [xp_s, xp_0 n po k, bt_0]
theorem xp_M {n : Nat} {po r : BitVec 64} (hn : n ≤ 64) (hp : q_M n po) (hr : q_M n r) : ∀ k, q_M n (q_xp n po r k)
  | 0 => hr
  | _ + 1 => bt_M hn hp _ _
theorem xp_ite (n : Nat) (po r : BitVec 64) (c : Bool) (k : Nat) : q_xp n po (if c then r else 0#64) k = if c then q_xp n po r k else 0#64 := by cases c <;> first | rfl | exact xp_0 n po k
/-- x to the j is the register with bit j alone -/
theorem xp_one {n : Nat} {po : BitVec 64} (hn : n ≤ 64) : ∀ j, j < n → q_xp n po 1#64 j = BitVec.twoPow 64 j
  | 0, _ => rfl
  | j + 1, h => by
    rw [xp_s, xp_one hn j (by omega), bt_f]
    have e : (BitVec.twoPow 64 j).getLsbD (n - 1) = false := by
      rw [BitVec.getLsbD_twoPow]; simp; omega
    rw [e]
    apply BitVec.eq_of_getLsbD_eq
    intro i hi
    have : (if false = true then po else 0#64) = 0#64 := rfl
    rw [this, BitVec.xor_zero, and_mk_bit hn, BitVec.getLsbD_shiftLeft, BitVec.getLsbD_twoPow, BitVec.getLsbD_twoPow]
    by_cases h2 : i = j + 1
    · subst h2
      simp [h, hi, show j < 64 by omega]
    · have a1 : decide (j + 1 = i) = false := by simp; omega
      rw [a1]
      by_cases h0 : i < 1
      · simp [h0]
      · have a2 : decide (j = i - 1) = false := by simp; omega
        simp [a2]
/-! sums -/
def q_su (f : Nat → BitVec 64) : Nat → BitVec 64
  | 0 => 0#64
  | k + 1 => q_su f k ^^^ f k
theorem su_s (f : Nat → BitVec 64) (k : Nat) : q_su f (k + 1) = q_su f k ^^^ f k := rfl
theorem su_congr {f g : Nat → BitVec 64} : ∀ {m : Nat}, (∀ k, k < m → f k = g k) → q_su f m = q_su g m
  | 0, _ => rfl
  | m + 1, h => by rw [su_s, su_s, su_congr (fun k hk => h k (by omega)), h m (by omega)]
theorem su_0 : ∀ (m : Nat), q_su (fun _ => 0#64) m = 0#64
  | 0 => rfl
  | m + 1 => by rw [su_s, su_0 m]; rfl
theorem su_first (f : Nat → BitVec 64) : ∀ m, q_su f (m + 1) = f 0 ^^^ q_su (fun k => f (k + 1)) m
  | 0 => by rw [su_s]; show 0#64 ^^^ f 0 = f 0 ^^^ 0#64; rw [BitVec.zero_xor, BitVec.xor_zero]
  | m + 1 => by rw [su_s, su_first f m, su_s, BitVec.xor_assoc]
theorem su_xor (f g : Nat → BitVec 64) : ∀ m, q_su (fun k => f k ^^^ g k) m = q_su f m ^^^ q_su g m
  | 0 => by show 0#64 = 0#64 ^^^ 0#64; simp
  | m + 1 => by rw [su_s, su_xor f g m, su_s, su_s, xor4]
theorem su_swap (f : Nat → Nat → BitVec 64) (b : Nat) : ∀ a, q_su (fun k => q_su (fun j => f k j) b) a = q_su (fun j => q_su (fun k => f k j) a) b
  | 0 => by show 0#64 = _; rw [← su_0 b]; rfl
  | a + 1 => by rw [su_s, su_swap f b a, ← su_xor]; rfl
theorem su_xp (n : Nat) (po : BitVec 64) (f : Nat → BitVec 64) (e : Nat) : ∀ m, q_xp n po (q_su f m) e = q_su (fun k => q_xp n po (f k) e) m
  | 0 => xp_0 n po e
  | m + 1 => by rw [su_s, xp_xor, su_xp n po f e m]; rfl
theorem su_ite (f : Nat → BitVec 64) (c : Bool) : ∀ m, (if c then q_su f m else 0#64) = q_su (fun k => if c then f k else 0#64) m := by
  intro m
  cases c
  · exact (su_0 m).symm
  · rfl
theorem su_more {f : Nat → BitVec 64} {a : Nat} : ∀ b, (∀ k, a ≤ k → k < a + b → f k = 0#64) → q_su f (a + b) = q_su f a
  | 0, _ => rfl
  | b + 1, h => by rw [← Nat.add_assoc, su_s, su_more b (fun k h1 h2 => h k h1 (by omega)), h (a + b) (by omega) (by omega), BitVec.xor_zero]
/-- a register is the sum of its bits -/
theorem su_bits_bit (a : BitVec 64) (i : Nat) (hi : i < 64) : ∀ m, m ≤ 64 → (q_su (fun k => if a.getLsbD k then BitVec.twoPow 64 k else 0#64) m).getLsbD i = (decide (i < m) && a.getLsbD i)
  | 0, _ => by simp [q_su]
  | m + 1, hm => by
    rw [su_s, BitVec.getLsbD_xor, su_bits_bit a i hi m (by omega)]
    by_cases h : i = m
    · subst h
      cases hb : a.getLsbD i <;> simp [hi]
    · have e : (if a.getLsbD m then BitVec.twoPow 64 m else 0#64).getLsbD i = false := by
        cases a.getLsbD m
        · simp
        · show (BitVec.twoPow 64 m).getLsbD i = false
          rw [BitVec.getLsbD_twoPow]; simp; omega
      rw [e]
      have : decide (i < m + 1) = decide (i < m) := by simp; omega
      rw [this]; simp
theorem su_reg {n : Nat} {po a : BitVec 64} (hn : n ≤ 64) (h : q_M n a) : q_su (fun k => if a.getLsbD k then q_xp n po 1#64 k else 0#64) n = a := by
  rw [su_congr (g := fun k => if a.getLsbD k then BitVec.twoPow 64 k else 0#64) (fun k hk => by rw [xp_one hn k hk])]
  apply BitVec.eq_of_getLsbD_eq
  intro i hi
  rw [su_bits_bit a i hi n hn]
  by_cases hin : i < n
  · simp [hin]
  · rw [M_bit hn h (by omega)]; simp
/-! products -/
/-- the model's product, so many of its rounds done -/
def q_tm (n : Nat) (po A B : BitVec 64) : Nat → BitVec 64
  | 0 => 0#64
  | j + 1 => q_bt n po (q_tm n po A B j) false ^^^ (if B.getLsbD (n - 1 - j) then A else 0#64)
theorem tm_sum {n : Nat} {po A B : BitVec 64} : ∀ j, j ≤ n → q_tm n po A B j = q_su (fun k => if B.getLsbD (n - j + k) then q_xp n po A k else 0#64) j
  | 0, _ => rfl
  | j + 1, h => by
    show q_bt n po (q_tm n po A B j) false ^^^ (if B.getLsbD (n - 1 - j) then A else 0#64) = _
    rw [tm_sum j (by omega), su_first, BitVec.xor_comm]
    have e1 : (fun k => if B.getLsbD (n - (j + 1) + (k + 1)) then q_xp n po A (k + 1) else 0#64) = fun k => q_xp n po (if B.getLsbD (n - j + k) then q_xp n po A k else 0#64) 1 := by
      funext k
      rw [xp_ite, show n - (j + 1) + (k + 1) = n - j + k by omega]; rfl
    rw [e1, ← su_xp]
    rw [show n - (j + 1) + 0 = n - 1 - j by omega]
    rfl
theorem tm_xp {n : Nat} {po A : BitVec 64} (hn : n ≤ 64) (hn1 : 1 ≤ n) (hp : q_M n po) (hA : q_M n A) (e : Nat) : q_tm n po A (q_xp n po 1#64 e) n = q_xp n po A e := by
  have h1 : q_M n (1#64) := M_of hn (fun i hi => by rw [BitVec.getLsbD_one]; simp; omega)
  have hB : q_M n (q_xp n po 1#64 e) := xp_M hn hp h1 e
  generalize hBe : q_xp n po 1#64 e = B at hB ⊢
  rw [tm_sum n (Nat.le_refl n), Nat.sub_self]
  have hA2 := su_reg (po := po) hn hA
  have hB2 := su_reg (po := po) hn hB
  -- the double sum
  have s1 : q_su (fun k => if B.getLsbD (0 + k) then q_xp n po A k else 0#64) n = q_su (fun k => q_su (fun j => if B.getLsbD k then (if A.getLsbD j then q_xp n po 1#64 (j + k) else 0#64) else 0#64) n) n := by
    apply su_congr
    intro k _
    rw [Nat.zero_add, ← su_ite]
    congr 1
    conv => lhs; rw [← hA2]
    rw [su_xp]
    apply su_congr
    intro j _
    rw [xp_ite, xp_add]
  rw [s1, su_swap]
  have s2 : q_su (fun j => q_su (fun k => if B.getLsbD k then (if A.getLsbD j then q_xp n po 1#64 (j + k) else 0#64) else 0#64) n) n = q_su (fun j => if A.getLsbD j then q_xp n po (q_xp n po 1#64 j) e else 0#64) n := by
    apply su_congr
    intro j _
    cases hj : A.getLsbD j
    · rw [show (fun k => if B.getLsbD k then (if false = true then q_xp n po 1#64 (j + k) else 0#64) else 0#64) = fun _ => 0#64 from by funext k; cases B.getLsbD k <;> rfl]
      exact su_0 n
    · show q_su (fun k => if B.getLsbD k then q_xp n po 1#64 (j + k) else 0#64) n = q_xp n po (q_xp n po 1#64 j) e
      have e2 : (fun k => if B.getLsbD k then q_xp n po 1#64 (j + k) else 0#64) = fun k => q_xp n po (if B.getLsbD k then q_xp n po 1#64 k else 0#64) j := by
        funext k
        rw [xp_ite, ← xp_add, Nat.add_comm]
      rw [e2, ← su_xp, hB2, ← hBe, ← xp_add, ← xp_add, Nat.add_comm]
  rw [s2]
  conv => rhs; rw [← hA2]
  rw [su_xp]
  apply su_congr
  intro j _
  rw [xp_ite]
/-- a matrix whose columns are the powers -/
theorem mt_sum (g : Nat → Int64) (V : BitVec 64) : ∀ m, q_mt g V m = q_su (fun k => if V.getLsbD k then (g k).toBitVec else 0#64) m
  | 0 => rfl
  | m + 1 => by rw [su_s, ← mt_sum g V m]; rfl
theorem mt_xp {n : Nat} {po V : BitVec 64} (hn : n ≤ 64) (hV : q_M n V) {g : Nat → Int64} {e : Nat} (hg : ∀ k, k < n → g k = lB (q_xp n po (q_xp n po 1#64 k) e)) : q_mt g V 64 = q_xp n po V e := by
  have h1 := su_more (f := fun k => if V.getLsbD k then (g k).toBitVec else 0#64) (a := n) (64 - n) (fun k h1 _ => by rw [M_bit hn hV h1]; rfl)
  rw [show n + (64 - n) = 64 by omega] at h1
  rw [mt_sum, h1]
  conv => rhs; rw [← su_reg (po := po) hn hV]
  rw [su_xp]
  apply su_congr
  intro k hk
  rw [xp_ite, hg k hk, lB_bv]
/-! turning round -/
def q_tu (V : BitVec 64) : Nat → BitVec 64
  | 0 => 0#64
  | k + 1 => (q_tu V k <<< 1) ||| ((V >>> k) &&& 1#64)
theorem tn_bit {n : Nat} (hn : n ≤ 64) (V : BitVec 64) (i : Nat) : (q_tn n V).getLsbD i = (decide (i < n) && V.getLsbD (n - 1 - i)) := by
  unfold q_tn
  rw [BitVec.getLsbD_ushiftRight, BitVec.getLsbD_reverse, BitVec.getMsbD_eq_getLsbD]
  by_cases h : i < n
  · rw [show 64 - 1 - (64 - n + i) = n - 1 - i by omega]
    simp [h, show 64 - n + i < 64 by omega]
  · simp [h, show ¬ 64 - n + i < 64 by omega]
theorem tu_bit (V : BitVec 64) (i : Nat) (hi : i < 64) : ∀ k, k ≤ 64 → (q_tu V k).getLsbD i = (decide (i < k) && V.getLsbD (k - 1 - i))
  | 0, _ => by simp [q_tu]
  | k + 1, h => by
    show ((q_tu V k <<< 1) ||| ((V >>> k) &&& 1#64)).getLsbD i = _
    rw [bv_bit, BitVec.getLsbD_or, BitVec.getLsbD_shiftLeft]
    by_cases h0 : i = 0
    · subst h0
      cases hv : V.getLsbD k <;> simp [hv]
    · have e : (if V.getLsbD k then 1#64 else 0#64).getLsbD i = false := by
        cases V.getLsbD k
        · simp
        · show (1#64).getLsbD i = false
          rw [BitVec.getLsbD_one]; simp [h0]
      rw [e, tu_bit V (i - 1) (by omega) k (by omega)]
      have e2 : decide (i - 1 < k) = decide (i < k + 1) := by simp; omega
      rw [e2, show k - 1 - (i - 1) = k + 1 - 1 - i by omega]
      simp [hi, show ¬ i < 1 by omega]
theorem tu_tn {n : Nat} (hn : n ≤ 64) (V : BitVec 64) : q_tu V n = q_tn n V := by
  apply BitVec.eq_of_getLsbD_eq
  intro i hi
  rw [tu_bit V i hi n hn, tn_bit hn]
theorem tn_M {n : Nat} (hn : n ≤ 64) (V : BitVec 64) : q_M n (q_tn n V) := M_of hn (fun i hi => by rw [tn_bit hn]; simp [Nat.not_lt.mpr hi])
theorem tn_tn {n : Nat} (hn : n ≤ 64) {V : BitVec 64} (h : q_M n V) : q_tn n (q_tn n V) = V := by
  apply BitVec.eq_of_getLsbD_eq
  intro i hi
  rw [tn_bit hn, tn_bit hn]
  by_cases hin : i < n
  · simp [hin, show n - 1 - i < n by omega, show n - 1 - (n - 1 - i) = i by omega]
  · rw [show V.getLsbD i = false from M_bit hn h (by omega)]; simp [hin]
theorem tn_xor {n : Nat} (hn : n ≤ 64) (a b : BitVec 64) : q_tn n (a ^^^ b) = q_tn n a ^^^ q_tn n b := by
  apply BitVec.eq_of_getLsbD_eq
  intro i hi
  rw [tn_bit hn, BitVec.getLsbD_xor, BitVec.getLsbD_xor, tn_bit hn, tn_bit hn]
  cases decide (i < n) <;> simp
end
section
/-! ===== what each call answers, over the law's own ints ===== -/
def q_in (x lo hi : Int32) : Bool := !decide (x < lo) && !decide (hi < x)
def s_check (n : Nat) (po fi la : BitVec 64) (d o : Bool) (dt : Nat → Nat) (cnt : Nat) (wy : Int32) : BitVec 64 := if wy < 0 then 0#64 else if wy ≤ nI 3 then q_ck n po fi la d o dt 0 cnt else 0#64
def s_part (n : Nat) (po fi la : BitVec 64) (d o : Bool) (dt : Nat → Nat) (cnt : Nat) (fr to : Int32) : BitVec 64 := if fr < 0 then 0#64 else if to < fr then 0#64 else if to ≤ nI cnt then q_ck n po fi la d o dt fr.toNatClampNeg to.toNatClampNeg else 0#64
def s_joined (n : Nat) (po fi la : BitVec 64) (o : Bool) (a b : BitVec 64) (nn : Int32) : BitVec 64 := if nn < 0 then 0#64 else q_jn n po fi la o a b nn.toNatClampNeg
def s_entry (n : Nat) (po : BitVec 64) (d : Bool) (k b : Int32) : BitVec 64 := if k < 0 then 0#64 else if nI 7 < k then 0#64 else if b < 0 then 0#64 else if nI 255 < b then 0#64 else q_xp n po (q_ob n po d 0#64 b.toNatClampNeg 8) (8 * k.toNatClampNeg)
def s_zeros (n : Nat) (po R : BitVec 64) (bits : Int32) : BitVec 64 := if bits < 0 then 0#64 else if bits ≤ nI 1000000 then q_xp n po (R &&& q_mk n) bits.toNatClampNeg else 0#64
def q_ro (n : Nat) (po : BitVec 64) : Nat → Nat → Int32
  | _, 0 => -1
  | k, f + 1 => if q_xp n po 1#64 k = 1#64 then nI k else q_ro n po (k + 1) f
def s_count (cnt n : Nat) (d o : Bool) (wh : Int32) : Int32 := if wh = 0 then nI cnt else if wh = 1 then nI n else if wh = 2 then bz d else if wh = 3 then bz o else -1
def s_told (po fi la : BitVec 64) (wh : Int32) : BitVec 64 := if wh = 0 then po else if wh = 1 then fi else if wh = 2 then la else 0#64
/-! Model.bit's ends -/
theorem bt_ff {n : Nat} {po R : BitVec 64} (h : ¬ (R >>> (n - 1)) &&& 1#64 = 1#64) : (R <<< 1) &&& q_mk n = q_bt n po R false := by
  rw [bv_bit, bv_ite_1] at h
  unfold q_bt
  rw [xz _ _ (show R.getLsbD (n - 1) = false by simpa using h)]
theorem bt_tf {n : Nat} {po R : BitVec 64} (h : (R >>> (n - 1)) &&& 1#64 = 1#64) : ((R <<< 1) &&& q_mk n) ^^^ po = q_bt n po R false := by
  rw [bv_bit, bv_ite_1] at h
  unfold q_bt
  rw [xp _ _ (by rw [h]; decide)]
theorem bt_ft {n : Nat} {po R : BitVec 64} (h : ¬ (R >>> (n - 1)) &&& 1#64 = 1#64) : ((R <<< 1) &&& q_mk n) ^^^ po = q_bt n po R true := by
  rw [bv_bit, bv_ite_1] at h
  unfold q_bt
  rw [xp _ _ h]
theorem bt_tt {n : Nat} {po R : BitVec 64} (h : (R >>> (n - 1)) &&& 1#64 = 1#64) : (R <<< 1) &&& q_mk n = q_bt n po R true := by
  rw [bv_bit, bv_ite_1] at h
  unfold q_bt
  rw [xz _ _ h]
def km (k : Nat) : Int32 := nI k + Int32.ofInt (-1)
theorem km_0 : km 0 < 0 := by decide
theorem km_s (k : Nat) : km (k + 1) = nI k := pk_m1 k
theorem tm_n {n : Nat} {po A B : BitVec 64} {i : Nat} (h : ¬ (B >>> (n - 1 - i)) &&& 1#64 = 1#64) : q_bt n po (q_tm n po A B i) false ^^^ 0#64 = q_tm n po A B (i + 1) := by
  rw [bv_bit, bv_ite_1] at h
  show _ = q_bt n po (q_tm n po A B i) false ^^^ (if B.getLsbD (n - 1 - i) then A else 0#64)
  rw [if_neg h]
theorem tm_y {n : Nat} {po A B : BitVec 64} {i : Nat} (h : (B >>> (n - 1 - i)) &&& 1#64 = 1#64) : q_bt n po (q_tm n po A B i) false ^^^ A = q_tm n po A B (i + 1) := by
  rw [bv_bit, bv_ite_1] at h
  show _ = q_bt n po (q_tm n po A B i) false ^^^ (if B.getLsbD (n - 1 - i) then A else 0#64)
  rw [if_pos h]
/-! longs as numbers: bits to go -/
theorem ln_8 {m : Nat} (hm : m < 2 ^ 31) : lB 8#64 * (nI m).toInt64 = lN (8 * m) := by rw [nI_l hm]; exact lN_mul 8 m
theorem ln_pos {m : Nat} (hm : m < 2 ^ 62) (h : lN m ≤ lB 0#64) : m = 0 := by
  have := (pk_lLE (a := m) (b := 0) (by omega) (by decide)).mp h
  omega
theorem ln_npos {m : Nat} (hm : m < 2 ^ 62) (h : ¬ lN m ≤ lB 0#64) : 0 < m := by
  rcases Nat.eq_zero_or_pos m with h0 | h0
  · exact absurd ((pk_lLE (a := m) (b := 0) (by omega) (by decide)).mpr (by omega)) h
  · exact h0
theorem ln_rem {m : Nat} (hm : m < 2 ^ 62) : lN m - lN m / lB 2#64 * lB 2#64 = lN (m % 2) := pk_lRem (a := m) (b := 2) (by omega) (by decide) (by decide)
theorem ln_div {m : Nat} (hm : m < 2 ^ 62) : lN m / lB 2#64 = lN (m / 2) := pk_lDiv (a := m) (b := 2) (by omega) (by decide) (by decide)
theorem ln_1 {m : Nat} (hm : m < 2) : (BitVec.ofNat 64 m = 1#64) ↔ m = 1 := by
  rcases (show m = 0 ∨ m = 1 by omega) with h | h <;> subst h <;> decide
/-- a step of the powers: odd, even -/
theorem xp_odd {n : Nat} {po r : BitVec 64} {e m : Nat} (h : m % 2 = 1) : q_xp n po r (e * m) = q_xp n po (q_xp n po r e) ((e + e) * (m / 2)) := by
  rw [← xp_add]; congr 1
  have : m = 2 * (m / 2) + 1 := by omega
  rw [this, show (2 * (m / 2) + 1) / 2 = m / 2 by omega, Nat.mul_add, Nat.add_mul, Nat.mul_left_comm]; omega
theorem xp_even {n : Nat} {po r : BitVec 64} {e m : Nat} (h : ¬ m % 2 = 1) : q_xp n po r (e * m) = q_xp n po r ((e + e) * (m / 2)) := by
  congr 1
  have : m = 2 * (m / 2) := by omega
  rw [this, show (2 * (m / 2)) / 2 = m / 2 by omega, Nat.add_mul, Nat.mul_left_comm]; omega
end
section
set_option maxHeartbeats 4000000 in
set_option maxRecDepth 100000 in
theorem c_M_low (l : Launch) (D : va_G) (cL cB cI : ClassId) (V : BitVec 64) (n : Nat) (hn : 1 ≤ n ∧ n ≤ 64) : Met l y_M_low (Cond.code y_M_low b_M_low 3 (some .long) :: g_tbl) (rmO 0 0) (RoP D cL cB cI [] [.long (lB V), .int (nI n)]) (RoL (lB (V &&& q_mk n))) 0 0 (fun _ => False) := by
  refine ro_startL (by decide) (Nat.le_of_ble_eq_true rfl) ?_
  intro p e s m below meth c ls Q F hP hK hl hret
  have hx := F.1
  have hb := F.2.1
  have hown := F.2.2.2.1
  have hT := F.2.2.2.2
  have hS : va_S (fun _ => False) s.heap s.heap [] := va_S.rf
  have hl : lv_has ls 3 [(0, .long (lB V)), (2, .int (nI n))] := hl
  refine lv_iload_n hx hb d_M_low_0 rfl (lv_at hl 1 rfl) ?_
  refine lv_bipush (v := nI 64) hx hb d_M_low_1 (by decide) ?_
  refine nt_icmp_ne (a := n) (b := 64) (tgt := 10) hx hb (by omega) (by omega) d_M_low_3 (by decide) (fun hc => ?_) (fun hc => ?_)
  · refine lv_lload_n hx hb d_M_low_10 rfl (lv_at hl 0 rfl) ?_
    refine lv_lconst (v := lB 1#64) hx hb d_M_low_11 rfl ?_
    refine lv_iload_n hx hb d_M_low_12 rfl (lv_at hl 1 rfl) ?_
    refine bv_lshl hx hb (by omega) d_M_low_13 ?_
    refine lv_lconst (v := lB 1#64) hx hb d_M_low_14 rfl ?_
    refine bv_lsub hx hb d_M_low_15 ?_
    refine bv_land hx hb d_M_low_16 ?_
    refine tpl (z := (lB (V &&& q_mk n))) (by rw [mk_sub n (by omega)]) ?_
    exact hret _ _ _ _ d_M_low_17 hS
  · refine lv_lload_n hx hb d_M_low_6 rfl (lv_at hl 0 rfl) ?_
    refine lv_goto (tgt := 17) hx hb d_M_low_7 (by decide) ?_
    refine tpl (z := (lB (V &&& q_mk n))) (by rw [hc, mk_64]) ?_
    exact hret _ _ _ _ d_M_low_17 hS

set_option maxHeartbeats 4000000 in
set_option maxRecDepth 100000 in
theorem c_M_cut (l : Launch) (D : va_G) (cL cB cI : ClassId) (m0 b0 cnt n : Nat) (po fi la : BitVec 64) (d o : Bool) (V : BitVec 64) (hn : 1 ≤ n ∧ n ≤ 64) : Met l y_M_cut (Cond.code y_M_cut b_M_cut 3 (some .long) :: g_tbl) (rmO 1 22) (RoP D cL cB cI [(m0, .inr (3, mf n po fi la d o b0 cnt))] [.ref m0, .long (lB V)]) (RoL (lB (V &&& q_mk n))) 0 0 (fun _ => False) := by
  refine ro_startL (by decide) (Nat.le_of_ble_eq_true rfl) ?_
  intro p e s m below meth c ls Q F hP hK hl hret
  have hx := F.1
  have hb := F.2.1
  have hown := F.2.2.2.1
  have hT := F.2.2.2.2
  have hS : va_S (fun _ => False) s.heap s.heap [] := va_S.rf
  have hl : lv_has ls 3 [(0, .ref m0), (1, .long (lB V))] := hl
  refine lv_lload_n hx hb d_M_cut_0 rfl (lv_at hl 1 rfl) ?_
  refine lv_aload_n hx hb d_M_cut_1 rfl (lv_at hl 0 rfl) ?_
  refine gf_M_7 (v := .int (nI n)) F hK hP 0 rfl rfl d_M_cut_2 ?_
  refine roSL (rest := []) F (c_M_low l D cL cB cI V n hn) k_M_low ml_M_38 ⟨rfl, rfl, by decide, by decide⟩ hK hP hS (hP.sub [] rfl) rfl hl.1 rfl (Nat.le_of_ble_eq_true rfl) d_M_cut_5 ⟨Nat.zero_le _, Nat.zero_le _⟩ (fun H locs hP hS => ?_)
  exact hret _ _ _ _ d_M_cut_8 hS

set_option maxHeartbeats 4000000 in
set_option maxRecDepth 100000 in
theorem c_M_bit (l : Launch) (D : va_G) (cL cB cI : ClassId) (m0 b0 cnt n : Nat) (po fi la : BitVec 64) (d o : Bool) (R : BitVec 64) (cb : Bool) (hn : 1 ≤ n ∧ n ≤ 64) : Met l y_M_bit (Cond.code y_M_bit b_M_bit 7 (some .long) :: g_tbl) (rmO 2 44) (RoP D cL cB cI [(m0, .inr (3, mf n po fi la d o b0 cnt))] [.ref m0, .long (lB R), .int (bz cb)]) (RoL (lB (q_bt n po R cb))) 0 0 (fun _ => False) := by
  refine ro_startL (by decide) (Nat.le_of_ble_eq_true rfl) ?_
  intro p e s m below meth c ls Q F hP hK hl hret
  have hx := F.1
  have hb := F.2.1
  have hown := F.2.2.2.1
  have hT := F.2.2.2.2
  have hS : va_S (fun _ => False) s.heap s.heap [] := va_S.rf
  have hl : lv_has ls 7 [(0, .ref m0), (1, .long (lB R)), (3, .int (bz cb))] := hl
  cases cb
  · refine lv_lload_n hx hb d_M_bit_0 rfl (lv_at hl 1 rfl) ?_
    refine lv_aload_n hx hb d_M_bit_1 rfl (lv_at hl 0 rfl) ?_
    refine gf_M_7 (v := .int (nI n)) F hK hP 0 rfl rfl d_M_bit_2 ?_
    refine lv_iconst (v := nI 1) hx hb d_M_bit_5 (by decide) ?_
    refine nt_isub (x := n) hx hb (by omega) d_M_bit_6 ?_
    refine bv_lushr hx hb (by omega) d_M_bit_7 ?_
    refine lv_lconst (v := lB 1#64) hx hb d_M_bit_8 rfl ?_
    refine bv_land hx hb d_M_bit_9 ?_
    refine lv_lconst (v := lB 1#64) hx hb d_M_bit_10 rfl ?_
    refine bl_ne (a := ((R >>> (n - 1)) &&& 1#64)) (b := 1#64) (tgt := 19) hx hb d_M_bit_11 d_M_bit_12 (by decide) (fun hc => ?_) (fun hc => ?_)
    · refine lv_iconst (v := nI 0) hx hb d_M_bit_19 (by decide) ?_
      refine lv_istore (lv' := [(4, .int (nI 0)), (0, .ref m0), (1, .long (lB R)), (3, .int (bz false))]) hx hb d_M_bit_20 hl (by decide) rfl (fun ls hl => ?_)
      refine lv_aload_n hx hb d_M_bit_22 rfl (lv_at hl 1 rfl) ?_
      refine lv_lload_n hx hb d_M_bit_23 rfl (lv_at hl 2 rfl) ?_
      refine lv_iconst (v := nI 1) hx hb d_M_bit_24 (by decide) ?_
      refine bv_lshl hx hb (by omega) d_M_bit_25 ?_
      refine roVL (rest := []) F (c_M_cut l D cL cB cI m0 b0 cnt n po fi la d o (R <<< 1) hn) k_M_cut ml_M_42 ⟨rfl, rfl, by decide, by decide⟩ hK hP hS (hP.sub [0] rfl) rfl rfl rfl rfl hl.1 rfl (Nat.le_of_ble_eq_true rfl) d_M_bit_26 ⟨Nat.zero_le _, Nat.zero_le _⟩ (fun H locs hP hS => ?_)
      refine lv_lstore (lv' := [(5, .long (lB (R <<< 1 &&& q_mk n))), (4, .int (nI 0)), (0, .ref m0), (1, .long (lB R)), (3, .int (bz false))]) hx hb d_M_bit_29 hl (by decide) rfl (fun ls hl => ?_)
      refine lv_iload hx hb d_M_bit_31 (lv_at hl 1 rfl) ?_
      refine lv_iload_n hx hb d_M_bit_33 rfl (lv_at hl 4 rfl) ?_
      refine lv_iconst (v := nI 1) hx hb d_M_bit_34 (by decide) ?_
      refine lv_icmp_ne (tgt := 42) hx hb d_M_bit_35 (by decide) (fun _ => ?_) (fun h => absurd h (by decide))
      refine lv_iconst (v := nI 0) hx hb d_M_bit_42 (by decide) ?_
      refine lv_icmp_eq (tgt := 56) hx hb d_M_bit_43 (by decide) (fun _ => ?_) (fun h => absurd rfl h)
      refine lv_lload hx hb d_M_bit_56 (lv_at hl 0 rfl) ?_
      refine tpl (z := (lB (q_bt n po R false))) (congrArg lB (bt_ff hc)) ?_
      exact hret _ _ _ _ d_M_bit_58 hS
    · refine lv_iconst (v := nI 1) hx hb d_M_bit_15 (by decide) ?_
      refine lv_goto (tgt := 20) hx hb d_M_bit_16 (by decide) ?_
      refine lv_istore (lv' := [(4, .int (nI 1)), (0, .ref m0), (1, .long (lB R)), (3, .int (bz false))]) hx hb d_M_bit_20 hl (by decide) rfl (fun ls hl => ?_)
      refine lv_aload_n hx hb d_M_bit_22 rfl (lv_at hl 1 rfl) ?_
      refine lv_lload_n hx hb d_M_bit_23 rfl (lv_at hl 2 rfl) ?_
      refine lv_iconst (v := nI 1) hx hb d_M_bit_24 (by decide) ?_
      refine bv_lshl hx hb (by omega) d_M_bit_25 ?_
      refine roVL (rest := []) F (c_M_cut l D cL cB cI m0 b0 cnt n po fi la d o (R <<< 1) hn) k_M_cut ml_M_42 ⟨rfl, rfl, by decide, by decide⟩ hK hP hS (hP.sub [0] rfl) rfl rfl rfl rfl hl.1 rfl (Nat.le_of_ble_eq_true rfl) d_M_bit_26 ⟨Nat.zero_le _, Nat.zero_le _⟩ (fun H locs hP hS => ?_)
      refine lv_lstore (lv' := [(5, .long (lB (R <<< 1 &&& q_mk n))), (4, .int (nI 1)), (0, .ref m0), (1, .long (lB R)), (3, .int (bz false))]) hx hb d_M_bit_29 hl (by decide) rfl (fun ls hl => ?_)
      refine lv_iload hx hb d_M_bit_31 (lv_at hl 1 rfl) ?_
      refine lv_iload_n hx hb d_M_bit_33 rfl (lv_at hl 4 rfl) ?_
      refine lv_iconst (v := nI 1) hx hb d_M_bit_34 (by decide) ?_
      refine lv_icmp_ne (tgt := 42) hx hb d_M_bit_35 (by decide) (fun _ => ?_) (fun h => absurd h (by decide))
      refine lv_iconst (v := nI 0) hx hb d_M_bit_42 (by decide) ?_
      refine lv_icmp_eq (tgt := 56) hx hb d_M_bit_43 (by decide) (fun h => absurd h (by decide)) (fun _ => ?_)
      refine lv_lload hx hb d_M_bit_46 (lv_at hl 0 rfl) ?_
      refine lv_aload_n hx hb d_M_bit_48 rfl (lv_at hl 2 rfl) ?_
      refine gf_M_15 (v := .long (lB po)) F hK hP 0 rfl rfl d_M_bit_49 ?_
      refine bv_lxor hx hb d_M_bit_52 ?_
      refine lv_goto (tgt := 58) hx hb d_M_bit_53 (by decide) ?_
      refine tpl (z := (lB (q_bt n po R false))) (congrArg lB (bt_tf hc)) ?_
      exact hret _ _ _ _ d_M_bit_58 hS
  · refine lv_lload_n hx hb d_M_bit_0 rfl (lv_at hl 1 rfl) ?_
    refine lv_aload_n hx hb d_M_bit_1 rfl (lv_at hl 0 rfl) ?_
    refine gf_M_7 (v := .int (nI n)) F hK hP 0 rfl rfl d_M_bit_2 ?_
    refine lv_iconst (v := nI 1) hx hb d_M_bit_5 (by decide) ?_
    refine nt_isub (x := n) hx hb (by omega) d_M_bit_6 ?_
    refine bv_lushr hx hb (by omega) d_M_bit_7 ?_
    refine lv_lconst (v := lB 1#64) hx hb d_M_bit_8 rfl ?_
    refine bv_land hx hb d_M_bit_9 ?_
    refine lv_lconst (v := lB 1#64) hx hb d_M_bit_10 rfl ?_
    refine bl_ne (a := ((R >>> (n - 1)) &&& 1#64)) (b := 1#64) (tgt := 19) hx hb d_M_bit_11 d_M_bit_12 (by decide) (fun hc => ?_) (fun hc => ?_)
    · refine lv_iconst (v := nI 0) hx hb d_M_bit_19 (by decide) ?_
      refine lv_istore (lv' := [(4, .int (nI 0)), (0, .ref m0), (1, .long (lB R)), (3, .int (bz true))]) hx hb d_M_bit_20 hl (by decide) rfl (fun ls hl => ?_)
      refine lv_aload_n hx hb d_M_bit_22 rfl (lv_at hl 1 rfl) ?_
      refine lv_lload_n hx hb d_M_bit_23 rfl (lv_at hl 2 rfl) ?_
      refine lv_iconst (v := nI 1) hx hb d_M_bit_24 (by decide) ?_
      refine bv_lshl hx hb (by omega) d_M_bit_25 ?_
      refine roVL (rest := []) F (c_M_cut l D cL cB cI m0 b0 cnt n po fi la d o (R <<< 1) hn) k_M_cut ml_M_42 ⟨rfl, rfl, by decide, by decide⟩ hK hP hS (hP.sub [0] rfl) rfl rfl rfl rfl hl.1 rfl (Nat.le_of_ble_eq_true rfl) d_M_bit_26 ⟨Nat.zero_le _, Nat.zero_le _⟩ (fun H locs hP hS => ?_)
      refine lv_lstore (lv' := [(5, .long (lB (R <<< 1 &&& q_mk n))), (4, .int (nI 0)), (0, .ref m0), (1, .long (lB R)), (3, .int (bz true))]) hx hb d_M_bit_29 hl (by decide) rfl (fun ls hl => ?_)
      refine lv_iload hx hb d_M_bit_31 (lv_at hl 1 rfl) ?_
      refine lv_iload_n hx hb d_M_bit_33 rfl (lv_at hl 4 rfl) ?_
      refine lv_iconst (v := nI 1) hx hb d_M_bit_34 (by decide) ?_
      refine lv_icmp_ne (tgt := 42) hx hb d_M_bit_35 (by decide) (fun h => absurd rfl h) (fun _ => ?_)
      refine lv_iconst (v := nI 1) hx hb d_M_bit_38 (by decide) ?_
      refine lv_goto (tgt := 43) hx hb d_M_bit_39 (by decide) ?_
      refine lv_icmp_eq (tgt := 56) hx hb d_M_bit_43 (by decide) (fun h => absurd h (by decide)) (fun _ => ?_)
      refine lv_lload hx hb d_M_bit_46 (lv_at hl 0 rfl) ?_
      refine lv_aload_n hx hb d_M_bit_48 rfl (lv_at hl 2 rfl) ?_
      refine gf_M_15 (v := .long (lB po)) F hK hP 0 rfl rfl d_M_bit_49 ?_
      refine bv_lxor hx hb d_M_bit_52 ?_
      refine lv_goto (tgt := 58) hx hb d_M_bit_53 (by decide) ?_
      refine tpl (z := (lB (q_bt n po R true))) (congrArg lB (bt_ft hc)) ?_
      exact hret _ _ _ _ d_M_bit_58 hS
    · refine lv_iconst (v := nI 1) hx hb d_M_bit_15 (by decide) ?_
      refine lv_goto (tgt := 20) hx hb d_M_bit_16 (by decide) ?_
      refine lv_istore (lv' := [(4, .int (nI 1)), (0, .ref m0), (1, .long (lB R)), (3, .int (bz true))]) hx hb d_M_bit_20 hl (by decide) rfl (fun ls hl => ?_)
      refine lv_aload_n hx hb d_M_bit_22 rfl (lv_at hl 1 rfl) ?_
      refine lv_lload_n hx hb d_M_bit_23 rfl (lv_at hl 2 rfl) ?_
      refine lv_iconst (v := nI 1) hx hb d_M_bit_24 (by decide) ?_
      refine bv_lshl hx hb (by omega) d_M_bit_25 ?_
      refine roVL (rest := []) F (c_M_cut l D cL cB cI m0 b0 cnt n po fi la d o (R <<< 1) hn) k_M_cut ml_M_42 ⟨rfl, rfl, by decide, by decide⟩ hK hP hS (hP.sub [0] rfl) rfl rfl rfl rfl hl.1 rfl (Nat.le_of_ble_eq_true rfl) d_M_bit_26 ⟨Nat.zero_le _, Nat.zero_le _⟩ (fun H locs hP hS => ?_)
      refine lv_lstore (lv' := [(5, .long (lB (R <<< 1 &&& q_mk n))), (4, .int (nI 1)), (0, .ref m0), (1, .long (lB R)), (3, .int (bz true))]) hx hb d_M_bit_29 hl (by decide) rfl (fun ls hl => ?_)
      refine lv_iload hx hb d_M_bit_31 (lv_at hl 1 rfl) ?_
      refine lv_iload_n hx hb d_M_bit_33 rfl (lv_at hl 4 rfl) ?_
      refine lv_iconst (v := nI 1) hx hb d_M_bit_34 (by decide) ?_
      refine lv_icmp_ne (tgt := 42) hx hb d_M_bit_35 (by decide) (fun h => absurd rfl h) (fun _ => ?_)
      refine lv_iconst (v := nI 1) hx hb d_M_bit_38 (by decide) ?_
      refine lv_goto (tgt := 43) hx hb d_M_bit_39 (by decide) ?_
      refine lv_icmp_eq (tgt := 56) hx hb d_M_bit_43 (by decide) (fun _ => ?_) (fun h => absurd rfl h)
      refine lv_lload hx hb d_M_bit_56 (lv_at hl 0 rfl) ?_
      refine tpl (z := (lB (q_bt n po R true))) (congrArg lB (bt_tt hc)) ?_
      exact hret _ _ _ _ d_M_bit_58 hS

set_option maxHeartbeats 4000000 in
set_option maxRecDepth 100000 in
theorem c_M_oneByte (l : Launch) (D : va_G) (cL cB cI : ClassId) (m0 b0 cnt n : Nat) (po fi la : BitVec 64) (d o : Bool) (R : BitVec 64) (x : Nat) (hn : 1 ≤ n ∧ n ≤ 64) (hx2 : x < 256) : Met l y_M_oneByte (Cond.code y_M_oneByte b_M_oneByte 7 (some .long) :: g_tbl) (rmO 3 70) (RoP D cL cB cI [(m0, .inr (3, mf n po fi la d o b0 cnt))] [.ref m0, .long (lB R), .int (nI x)]) (RoL (lB (q_ob n po d R x 8))) 0 0 (fun _ => False) := by
  refine ro_startL (by decide) (Nat.le_of_ble_eq_true rfl) ?_
  intro p e s m below meth c ls Q F hP hK hl hret
  have hx := F.1
  have hb := F.2.1
  have hown := F.2.2.2.1
  have hT := F.2.2.2.2
  have hS : va_S (fun _ => False) s.heap s.heap [] := va_S.rf
  have hl : lv_has ls 7 [(0, .ref m0), (1, .long (lB R)), (3, .int (nI x))] := hl
  refine lv_lload_n hx hb d_M_oneByte_0 rfl (lv_at hl 1 rfl) ?_
  refine lv_lstore (lv' := [(4, .long (lB R)), (0, .ref m0), (1, .long (lB R)), (3, .int (nI x))]) hx hb d_M_oneByte_1 hl (by decide) rfl (fun ls hl => ?_)
  refine lv_iconst (v := nI 0) hx hb d_M_oneByte_3 (by decide) ?_
  refine lv_istore (lv' := [(6, .int (nI 0)), (4, .long (lB R)), (0, .ref m0), (1, .long (lB R)), (3, .int (nI x))]) hx hb d_M_oneByte_4 hl (by decide) rfl (fun ls hl => ?_)
  have loop6 : ∀ (j i : Nat), i + j = 8 → ∀ (ls : Array Slot) (H : Heap) (locs : List Loc), va_P D classes [(m0, .inr (3, mf n po fi la d o b0 cnt))] H → va_S (fun _ => False) s.heap H locs → lv_has ls 7 [(0, .ref m0), (3, .int (nI x)), (4, .long (lB (q_ob n po d R x i))), (6, .int (nI i))] → W p l e (rmO 3 70) s m ([.ref m0, .long (lB R), .int (nI x)] : List Value).toArray below meth c H locs 0 0 Q (F0 m 6 ls []) := by
    intro j
    induction j with
    | zero =>
      intro i hij ls H locs hP hS hl
      refine lv_iload hx hb d_M_oneByte_6 (lv_at hl 3 rfl) ?_
      refine lv_bipush (v := nI 8) hx hb d_M_oneByte_8 (by decide) ?_
      refine nt_icmp_ge (a := i) (b := 8) (tgt := 52) hx hb (by omega) (by omega) d_M_oneByte_10 (by decide) (fun hc => ?_) (fun hc => absurd hc (by omega))
      refine lv_lload hx hb d_M_oneByte_52 (lv_at hl 2 rfl) ?_
      refine tpl (z := (lB (q_ob n po d R x 8))) (by rw [show i = 8 by omega]) ?_
      exact hret _ _ _ _ d_M_oneByte_54 hS
    | succ j ih =>
      intro i hij ls H locs hP hS hl
      refine lv_iload hx hb d_M_oneByte_6 (lv_at hl 3 rfl) ?_
      refine lv_bipush (v := nI 8) hx hb d_M_oneByte_8 (by decide) ?_
      refine nt_icmp_ge (a := i) (b := 8) (tgt := 52) hx hb (by omega) (by omega) d_M_oneByte_10 (by decide) (fun hc => absurd hc (by omega)) (fun hc => ?_)
      refine lv_aload_n hx hb d_M_oneByte_13 rfl (lv_at hl 0 rfl) ?_
      refine lv_lload hx hb d_M_oneByte_14 (lv_at hl 2 rfl) ?_
      refine lv_aload_n hx hb d_M_oneByte_16 rfl (lv_at hl 0 rfl) ?_
      refine gf_M_27 (v := .int (bz d)) F hK hP 0 rfl rfl d_M_oneByte_17 ?_
      refine bz_ifeq (b := d) (tgt := 32) hx hb d_M_oneByte_20 (by decide) (fun hc => ?_) (fun hc => ?_)
      · subst hc
        refine lv_iload_n hx hb d_M_oneByte_32 rfl (lv_at hl 1 rfl) ?_
        refine lv_bipush (v := nI 7) hx hb d_M_oneByte_33 (by decide) ?_
        refine lv_iload hx hb d_M_oneByte_35 (lv_at hl 3 rfl) ?_
        refine nt_isub (x := 7) hx hb (by omega) d_M_oneByte_37 ?_
        refine nt_ishr (x := x) hx hb (by omega) (by omega) d_M_oneByte_38 ?_
        refine lv_iconst (v := nI 1) hx hb d_M_oneByte_39 (by decide) ?_
        refine nt_iand (x := (x / 2 ^ (7 - i))) hx hb d_M_oneByte_40 ?_
        refine tpi (z := (bz (x.testBit (7 - i)))) (nI_bit2 _ _) ?_
        refine roVL (rest := []) F (c_M_bit l D cL cB cI m0 b0 cnt n po fi la false o (q_ob n po false R x i) (x.testBit (7 - i)) hn) k_M_bit ml_M_49 ⟨rfl, rfl, by decide, by decide⟩ hK hP hS (hP.sub [0] rfl) rfl rfl rfl rfl hl.1 rfl (Nat.le_of_ble_eq_true rfl) d_M_oneByte_41 ⟨Nat.zero_le _, Nat.zero_le _⟩ (fun H locs hP hS => ?_)
        refine tpl (z := (lB (q_ob n po false R x (i + 1)))) rfl ?_
        refine lv_lstore (lv' := [(4, .long (lB (q_ob n po false R x (i + 1)))), (0, .ref m0), (3, .int (nI x)), (6, .int (nI i))]) hx hb d_M_oneByte_44 hl (by decide) rfl (fun ls hl => ?_)
        refine lv_iinc (v := (nI (i + 1))) (lv' := [(6, .int (nI (i + 1))), (4, .long (lB (q_ob n po false R x (i + 1)))), (0, .ref m0), (3, .int (nI x))]) hx hb d_M_oneByte_46 hl (k := 3) rfl (nI_inc1 _) (by decide) rfl (fun ls hl => ?_)
        refine lv_goto (tgt := 6) hx hb d_M_oneByte_49 (by decide) ?_
        exact ih (i + 1) (by omega) ls H locs hP hS (lv_sub hl [2, 3, 1, 0] rfl)
      · subst hc
        refine lv_iload_n hx hb d_M_oneByte_23 rfl (lv_at hl 1 rfl) ?_
        refine lv_iload hx hb d_M_oneByte_24 (lv_at hl 3 rfl) ?_
        refine nt_ishr (x := x) hx hb (by omega) (by omega) d_M_oneByte_26 ?_
        refine lv_iconst (v := nI 1) hx hb d_M_oneByte_27 (by decide) ?_
        refine nt_iand (x := (x / 2 ^ i)) hx hb d_M_oneByte_28 ?_
        refine lv_goto (tgt := 41) hx hb d_M_oneByte_29 (by decide) ?_
        refine tpi (z := (bz (x.testBit i))) (nI_bit2 _ _) ?_
        refine roVL (rest := []) F (c_M_bit l D cL cB cI m0 b0 cnt n po fi la true o (q_ob n po true R x i) (x.testBit i) hn) k_M_bit ml_M_49 ⟨rfl, rfl, by decide, by decide⟩ hK hP hS (hP.sub [0] rfl) rfl rfl rfl rfl hl.1 rfl (Nat.le_of_ble_eq_true rfl) d_M_oneByte_41 ⟨Nat.zero_le _, Nat.zero_le _⟩ (fun H locs hP hS => ?_)
        refine tpl (z := (lB (q_ob n po true R x (i + 1)))) rfl ?_
        refine lv_lstore (lv' := [(4, .long (lB (q_ob n po true R x (i + 1)))), (0, .ref m0), (3, .int (nI x)), (6, .int (nI i))]) hx hb d_M_oneByte_44 hl (by decide) rfl (fun ls hl => ?_)
        refine lv_iinc (v := (nI (i + 1))) (lv' := [(6, .int (nI (i + 1))), (4, .long (lB (q_ob n po true R x (i + 1)))), (0, .ref m0), (3, .int (nI x))]) hx hb d_M_oneByte_46 hl (k := 3) rfl (nI_inc1 _) (by decide) rfl (fun ls hl => ?_)
        refine lv_goto (tgt := 6) hx hb d_M_oneByte_49 (by decide) ?_
        exact ih (i + 1) (by omega) ls H locs hP hS (lv_sub hl [2, 3, 1, 0] rfl)
  exact loop6 (8) 0 (by omega) ls s.heap [] hP hS (lv_sub hl [2, 4, 1, 0] rfl)

set_option maxHeartbeats 4000000 in
set_option maxRecDepth 100000 in
theorem c_M_turned (l : Launch) (D : va_G) (cL cB cI : ClassId) (m0 b0 cnt n : Nat) (po fi la : BitVec 64) (d o : Bool) (V : BitVec 64) (hn : 1 ≤ n ∧ n ≤ 64) : Met l y_M_turned (Cond.code y_M_turned b_M_turned 6 (some .long) :: g_tbl) (rmO 0 0) (RoP D cL cB cI [(m0, .inr (3, mf n po fi la d o b0 cnt))] [.ref m0, .long (lB V)]) (RoL (lB (q_tn n V))) 0 0 (fun _ => False) := by
  refine ro_startL (by decide) (Nat.le_of_ble_eq_true rfl) ?_
  intro p e s m below meth c ls Q F hP hK hl hret
  have hx := F.1
  have hb := F.2.1
  have hown := F.2.2.2.1
  have hT := F.2.2.2.2
  have hS : va_S (fun _ => False) s.heap s.heap [] := va_S.rf
  have hl : lv_has ls 6 [(0, .ref m0), (1, .long (lB V))] := hl
  refine lv_lconst (v := lB 0#64) hx hb d_M_turned_0 rfl ?_
  refine lv_lstore_n (lv' := [(3, .long (lB 0#64)), (0, .ref m0), (1, .long (lB V))]) hx hb d_M_turned_1 rfl hl (by decide) rfl (fun ls hl => ?_)
  refine lv_iconst (v := nI 0) hx hb d_M_turned_2 (by decide) ?_
  refine lv_istore (lv' := [(5, .int (nI 0)), (3, .long (lB 0#64)), (0, .ref m0), (1, .long (lB V))]) hx hb d_M_turned_3 hl (by decide) rfl (fun ls hl => ?_)
  have loop5 : ∀ (j i : Nat), i + j = n → ∀ (ls : Array Slot) (H : Heap) (locs : List Loc), va_P D classes [(m0, .inr (3, mf n po fi la d o b0 cnt))] H → va_S (fun _ => False) s.heap H locs → lv_has ls 6 [(0, .ref m0), (1, .long (lB V)), (3, .long (lB (q_tu V i))), (5, .int (nI i))] → W p l e (rmO 0 0) s m ([.ref m0, .long (lB V)] : List Value).toArray below meth c H locs 0 0 Q (F0 m 5 ls []) := by
    intro j
    induction j with
    | zero =>
      intro i hij ls H locs hP hS hl
      refine lv_iload hx hb d_M_turned_5 (lv_at hl 3 rfl) ?_
      refine lv_aload_n hx hb d_M_turned_7 rfl (lv_at hl 0 rfl) ?_
      refine gf_M_7 (v := .int (nI n)) F hK hP 0 rfl rfl d_M_turned_8 ?_
      refine nt_icmp_ge (a := i) (b := n) (tgt := 31) hx hb (by omega) (by omega) d_M_turned_11 (by decide) (fun hc => ?_) (fun hc => absurd hc (by omega))
      refine lv_lload_n hx hb d_M_turned_31 rfl (lv_at hl 2 rfl) ?_
      refine tpl (z := (lB (q_tn n V))) (by rw [show i = n by omega, tu_tn hn.2]) ?_
      exact hret _ _ _ _ d_M_turned_32 hS
    | succ j ih =>
      intro i hij ls H locs hP hS hl
      refine lv_iload hx hb d_M_turned_5 (lv_at hl 3 rfl) ?_
      refine lv_aload_n hx hb d_M_turned_7 rfl (lv_at hl 0 rfl) ?_
      refine gf_M_7 (v := .int (nI n)) F hK hP 0 rfl rfl d_M_turned_8 ?_
      refine nt_icmp_ge (a := i) (b := n) (tgt := 31) hx hb (by omega) (by omega) d_M_turned_11 (by decide) (fun hc => absurd hc (by omega)) (fun hc => ?_)
      refine lv_lload_n hx hb d_M_turned_14 rfl (lv_at hl 2 rfl) ?_
      refine lv_iconst (v := nI 1) hx hb d_M_turned_15 (by decide) ?_
      refine bv_lshl hx hb (by omega) d_M_turned_16 ?_
      refine lv_lload_n hx hb d_M_turned_17 rfl (lv_at hl 1 rfl) ?_
      refine lv_iload hx hb d_M_turned_18 (lv_at hl 3 rfl) ?_
      refine bv_lushr hx hb (by omega) d_M_turned_20 ?_
      refine lv_lconst (v := lB 1#64) hx hb d_M_turned_21 rfl ?_
      refine bv_land hx hb d_M_turned_22 ?_
      refine bv_lor hx hb d_M_turned_23 ?_
      refine tpl (z := (lB (q_tu V (i + 1)))) rfl ?_
      refine lv_lstore_n (lv' := [(3, .long (lB (q_tu V (i + 1)))), (0, .ref m0), (1, .long (lB V)), (5, .int (nI i))]) hx hb d_M_turned_24 rfl hl (by decide) rfl (fun ls hl => ?_)
      refine lv_iinc (v := (nI (i + 1))) (lv' := [(5, .int (nI (i + 1))), (3, .long (lB (q_tu V (i + 1)))), (0, .ref m0), (1, .long (lB V))]) hx hb d_M_turned_25 hl (k := 3) rfl (nI_inc1 _) (by decide) rfl (fun ls hl => ?_)
      refine lv_goto (tgt := 5) hx hb d_M_turned_28 (by decide) ?_
      exact ih (i + 1) (by omega) ls H locs hP hS (lv_sub hl [2, 3, 1, 0] rfl)
  exact loop5 (n) 0 (by omega) ls s.heap [] hP hS (lv_sub hl [2, 3, 1, 0] rfl)

set_option maxHeartbeats 4000000 in
set_option maxRecDepth 100000 in
theorem c_M_told (l : Launch) (D : va_G) (cL cB cI : ClassId) (m0 b0 cnt n : Nat) (po fi la : BitVec 64) (d o : Bool) (R : BitVec 64) (hn : 1 ≤ n ∧ n ≤ 64) : Met l y_M_told (Cond.code y_M_told b_M_told 3 (some .long) :: g_tbl) (rmO 1 25) (RoP D cL cB cI [(m0, .inr (3, mf n po fi la d o b0 cnt))] [.ref m0, .long (lB R)]) (RoL (lB (q_tl n o la R))) 0 0 (fun _ => False) := by
  refine ro_startL (by decide) (Nat.le_of_ble_eq_true rfl) ?_
  intro p e s m below meth c ls Q F hP hK hl hret
  have hx := F.1
  have hb := F.2.1
  have hown := F.2.2.2.1
  have hT := F.2.2.2.2
  have hS : va_S (fun _ => False) s.heap s.heap [] := va_S.rf
  have hl : lv_has ls 3 [(0, .ref m0), (1, .long (lB R))] := hl
  refine lv_aload_n hx hb d_M_told_0 rfl (lv_at hl 0 rfl) ?_
  refine gf_M_31 (v := .int (bz o)) F hK hP 0 rfl rfl d_M_told_1 ?_
  refine bz_ifeq (b := o) (tgt := 15) hx hb d_M_told_4 (by decide) (fun hc => ?_) (fun hc => ?_)
  · subst hc
    refine lv_lload_n hx hb d_M_told_15 rfl (lv_at hl 1 rfl) ?_
    refine lv_aload_n hx hb d_M_told_16 rfl (lv_at hl 0 rfl) ?_
    refine gf_M_24 (v := .long (lB la)) F hK hP 0 rfl rfl d_M_told_17 ?_
    refine bv_lxor hx hb d_M_told_20 ?_
    refine tpl (z := (lB (q_tl n false la R))) rfl ?_
    exact hret _ _ _ _ d_M_told_21 hS
  · subst hc
    refine lv_aload_n hx hb d_M_told_7 rfl (lv_at hl 0 rfl) ?_
    refine lv_lload_n hx hb d_M_told_8 rfl (lv_at hl 1 rfl) ?_
    refine roVL (rest := []) F (c_M_turned l D cL cB cI m0 b0 cnt n po fi la d true R hn) k_M_turned ml_M_52 ⟨rfl, rfl, by decide, by decide⟩ hK hP hS (hP.sub [0] rfl) rfl rfl rfl rfl hl.1 rfl (Nat.le_of_ble_eq_true rfl) d_M_told_9 ⟨Nat.zero_le _, Nat.zero_le _⟩ (fun H locs hP hS => ?_)
    refine lv_goto (tgt := 16) hx hb d_M_told_12 (by decide) ?_
    refine lv_aload_n hx hb d_M_told_16 rfl (lv_at hl 0 rfl) ?_
    refine gf_M_24 (v := .long (lB la)) F hK hP 0 rfl rfl d_M_told_17 ?_
    refine bv_lxor hx hb d_M_told_20 ?_
    refine tpl (z := (lB (q_tl n true la R))) rfl ?_
    exact hret _ _ _ _ d_M_told_21 hS

set_option maxHeartbeats 4000000 in
set_option maxRecDepth 100000 in
theorem c_M_register (l : Launch) (D : va_G) (cL cB cI : ClassId) (m0 b0 cnt n : Nat) (po fi la : BitVec 64) (d o : Bool) (C : BitVec 64) (hn : 1 ≤ n ∧ n ≤ 64) : Met l y_M_register (Cond.code y_M_register b_M_register 5 (some .long) :: g_tbl) (rmO 2 44) (RoP D cL cB cI [(m0, .inr (3, mf n po fi la d o b0 cnt))] [.ref m0, .long (lB C)]) (RoL (lB (q_rg n o la C))) 0 0 (fun _ => False) := by
  refine ro_startL (by decide) (Nat.le_of_ble_eq_true rfl) ?_
  intro p e s m below meth c ls Q F hP hK hl hret
  have hx := F.1
  have hb := F.2.1
  have hown := F.2.2.2.1
  have hT := F.2.2.2.2
  have hS : va_S (fun _ => False) s.heap s.heap [] := va_S.rf
  have hl : lv_has ls 5 [(0, .ref m0), (1, .long (lB C))] := hl
  refine lv_aload_n hx hb d_M_register_0 rfl (lv_at hl 0 rfl) ?_
  refine lv_lload_n hx hb d_M_register_1 rfl (lv_at hl 1 rfl) ?_
  refine roVL (rest := []) F (c_M_cut l D cL cB cI m0 b0 cnt n po fi la d o C hn) k_M_cut ml_M_42 ⟨rfl, rfl, by decide, by decide⟩ hK hP hS (hP.sub [0] rfl) rfl rfl rfl rfl hl.1 rfl (Nat.le_of_ble_eq_true rfl) d_M_register_2 ⟨Nat.zero_le _, Nat.zero_le _⟩ (fun H locs hP hS => ?_)
  refine lv_aload_n hx hb d_M_register_5 rfl (lv_at hl 0 rfl) ?_
  refine gf_M_24 (v := .long (lB la)) F hK hP 0 rfl rfl d_M_register_6 ?_
  refine bv_lxor hx hb d_M_register_9 ?_
  refine lv_lstore_n (lv' := [(3, .long (lB ((C &&& q_mk n) ^^^ la))), (0, .ref m0), (1, .long (lB C))]) hx hb d_M_register_10 rfl hl (by decide) rfl (fun ls hl => ?_)
  refine lv_aload_n hx hb d_M_register_11 rfl (lv_at hl 1 rfl) ?_
  refine gf_M_31 (v := .int (bz o)) F hK hP 0 rfl rfl d_M_register_12 ?_
  refine bz_ifeq (b := o) (tgt := 26) hx hb d_M_register_15 (by decide) (fun hc => ?_) (fun hc => ?_)
  · subst hc
    refine lv_lload_n hx hb d_M_register_26 rfl (lv_at hl 0 rfl) ?_
    refine tpl (z := (lB (q_rg n false la C))) rfl ?_
    exact hret _ _ _ _ d_M_register_27 hS
  · subst hc
    refine lv_aload_n hx hb d_M_register_18 rfl (lv_at hl 1 rfl) ?_
    refine lv_lload_n hx hb d_M_register_19 rfl (lv_at hl 0 rfl) ?_
    refine roVL (rest := []) F (c_M_turned l D cL cB cI m0 b0 cnt n po fi la d true ((C &&& q_mk n) ^^^ la) hn) k_M_turned ml_M_52 ⟨rfl, rfl, by decide, by decide⟩ hK hP hS (hP.sub [0] rfl) rfl rfl rfl rfl hl.1 rfl (Nat.le_of_ble_eq_true rfl) d_M_register_20 ⟨Nat.zero_le _, Nat.zero_le _⟩ (fun H locs hP hS => ?_)
    refine lv_goto (tgt := 27) hx hb d_M_register_23 (by decide) ?_
    refine tpl (z := (lB (q_rg n true la C))) rfl ?_
    exact hret _ _ _ _ d_M_register_27 hS

set_option maxHeartbeats 4000000 in
set_option maxRecDepth 100000 in
theorem c_M_over (l : Launch) (D : va_G) (cL cB cI : ClassId) (m0 b0 cnt n : Nat) (po fi la : BitVec 64) (d o : Bool) (dt : Nat → Nat) (a b : Nat) (hn : 1 ≤ n ∧ n ≤ 64) (hd : ∀ j, dt j < 256) (hab : a ≤ b) (hb5 : b ≤ 5000) : Met l y_M_over (Cond.code y_M_over b_M_over 6 (some .long) :: g_tbl) (rmO 4 96) (RoP D cL cB cI [(m0, .inr (3, mf n po fi la d o b0 cnt)), (b0, .inl (cI, 5000, .inl (fun j => nI (dt j))))] [.ref m0, .int (nI a), .int (nI b)]) (RoL (lB (q_ck n po fi la d o dt a b))) 0 0 (fun _ => False) := by
  refine ro_startL (by decide) (Nat.le_of_ble_eq_true rfl) ?_
  intro p e s m below meth c ls Q F hP hK hl hret
  have hx := F.1
  have hb := F.2.1
  have hown := F.2.2.2.1
  have hT := F.2.2.2.2
  have hS : va_S (fun _ => False) s.heap s.heap [] := va_S.rf
  have hl : lv_has ls 6 [(0, .ref m0), (1, .int (nI a)), (2, .int (nI b))] := hl
  refine lv_aload_n hx hb d_M_over_0 rfl (lv_at hl 0 rfl) ?_
  refine gf_M_21 (v := .long (lB fi)) F hK hP 0 rfl rfl d_M_over_1 ?_
  refine lv_lstore_n (lv' := [(3, .long (lB fi)), (0, .ref m0), (1, .int (nI a)), (2, .int (nI b))]) hx hb d_M_over_4 rfl hl (by decide) rfl (fun ls hl => ?_)
  refine lv_iload_n hx hb d_M_over_5 rfl (lv_at hl 2 rfl) ?_
  refine lv_istore (lv' := [(5, .int (nI a)), (3, .long (lB fi)), (0, .ref m0), (1, .int (nI a)), (2, .int (nI b))]) hx hb d_M_over_6 hl (by decide) rfl (fun ls hl => ?_)
  have loop8 : ∀ (j i : Nat), i + j = (b - a) → ∀ (ls : Array Slot) (H : Heap) (locs : List Loc), va_P D classes [(m0, .inr (3, mf n po fi la d o b0 cnt)), (b0, .inl (cI, 5000, .inl (fun j => nI (dt j))))] H → va_S (fun _ => False) s.heap H locs → lv_has ls 6 [(0, .ref m0), (2, .int (nI b)), (3, .long (lB (q_rn n po d dt a fi i))), (5, .int (nI (a + i)))] → W p l e (rmO 4 96) s m ([.ref m0, .int (nI a), .int (nI b)] : List Value).toArray below meth c H locs 0 0 Q (F0 m 8 ls []) := by
    intro j
    induction j with
    | zero =>
      intro i hij ls H locs hP hS hl
      refine lv_iload hx hb d_M_over_8 (lv_at hl 3 rfl) ?_
      refine lv_iload_n hx hb d_M_over_10 rfl (lv_at hl 1 rfl) ?_
      refine nt_icmp_ge (a := (a + i)) (b := b) (tgt := 33) hx hb (by omega) (by omega) d_M_over_11 (by decide) (fun hc => ?_) (fun hc => absurd hc (by omega))
      refine lv_aload_n hx hb d_M_over_33 rfl (lv_at hl 0 rfl) ?_
      refine lv_lload_n hx hb d_M_over_34 rfl (lv_at hl 2 rfl) ?_
      refine roVL (rest := []) F (c_M_told l D cL cB cI m0 b0 cnt n po fi la d o (q_rn n po d dt a fi i) hn) k_M_told ml_M_58 ⟨rfl, rfl, by decide, by decide⟩ hK hP hS (hP.sub [0] rfl) rfl rfl rfl rfl hl.1 rfl (Nat.le_of_ble_eq_true rfl) d_M_over_35 ⟨Nat.zero_le _, Nat.zero_le _⟩ (fun H locs hP hS => ?_)
      refine tpl (z := (lB (q_ck n po fi la d o dt a b))) (by rw [show i = b - a by omega]; rfl) ?_
      exact hret _ _ _ _ d_M_over_38 hS
    | succ j ih =>
      intro i hij ls H locs hP hS hl
      refine lv_iload hx hb d_M_over_8 (lv_at hl 3 rfl) ?_
      refine lv_iload_n hx hb d_M_over_10 rfl (lv_at hl 1 rfl) ?_
      refine nt_icmp_ge (a := (a + i)) (b := b) (tgt := 33) hx hb (by omega) (by omega) d_M_over_11 (by decide) (fun hc => absurd hc (by omega)) (fun hc => ?_)
      refine lv_aload_n hx hb d_M_over_14 rfl (lv_at hl 0 rfl) ?_
      refine lv_lload_n hx hb d_M_over_15 rfl (lv_at hl 2 rfl) ?_
      refine lv_aload_n hx hb d_M_over_16 rfl (lv_at hl 0 rfl) ?_
      refine gf_M_34 (v := .ref b0) F hK hP 0 rfl rfl d_M_over_17 ?_
      refine lv_iload hx hb d_M_over_20 (lv_at hl 3 rfl) ?_
      refine nt_iald (j := (a + i)) hx hb hK hP 1 rfl (by omega) (by decide) d_M_over_22 ?_
      refine roVL (rest := []) F (c_M_oneByte l D cL cB cI m0 b0 cnt n po fi la d o (q_rn n po d dt a fi i) (dt (a + i)) hn (hd _)) k_M_oneByte ml_M_55 ⟨rfl, rfl, by decide, by decide⟩ hK hP hS (hP.sub [0] rfl) rfl rfl rfl rfl hl.1 rfl (Nat.le_of_ble_eq_true rfl) d_M_over_23 ⟨Nat.zero_le _, Nat.zero_le _⟩ (fun H locs hP hS => ?_)
      refine tpl (z := (lB (q_rn n po d dt a fi (i + 1)))) rfl ?_
      refine lv_lstore_n (lv' := [(3, .long (lB (q_rn n po d dt a fi (i + 1)))), (0, .ref m0), (2, .int (nI b)), (5, .int (nI (a + i)))]) hx hb d_M_over_26 rfl hl (by decide) rfl (fun ls hl => ?_)
      refine lv_iinc (v := (nI (a + i + 1))) (lv' := [(5, .int (nI (a + i + 1))), (3, .long (lB (q_rn n po d dt a fi (i + 1)))), (0, .ref m0), (2, .int (nI b))]) hx hb d_M_over_27 hl (k := 3) rfl (nI_inc1 _) (by decide) rfl (fun ls hl => ?_)
      refine lv_goto (tgt := 8) hx hb d_M_over_30 (by decide) ?_
      exact ih (i + 1) (by omega) ls H locs hP hS (lv_sub hl [2, 3, 1, 0] rfl)
  exact loop8 ((b - a)) 0 (by omega) ls s.heap [] hP hS (lv_sub hl [2, 4, 1, 0] rfl)

set_option maxHeartbeats 4000000 in
set_option maxRecDepth 100000 in
theorem c_M_check (l : Launch) (D : va_G) (cL cB cI : ClassId) (m0 b0 cnt n : Nat) (po fi la : BitVec 64) (d o : Bool) (dt : Nat → Nat) (wy : Int32) (hn : 1 ≤ n ∧ n ≤ 64) (hd : ∀ j, dt j < 256) (hc5 : cnt ≤ 5000) : Met l y_M_check (Cond.code y_M_check b_M_check 2 (some .long) :: g_tbl) (rmO 5 121) (RoP D cL cB cI [(m0, .inr (3, mf n po fi la d o b0 cnt)), (b0, .inl (cI, 5000, .inl (fun j => nI (dt j))))] [.ref m0, .int wy]) (RoL (lB (s_check n po fi la d o dt cnt wy))) 0 0 (fun _ => False) := by
  refine ro_startL (by decide) (Nat.le_of_ble_eq_true rfl) ?_
  intro p e s m below meth c ls Q F hP hK hl hret
  have hx := F.1
  have hb := F.2.1
  have hown := F.2.2.2.1
  have hT := F.2.2.2.2
  have hS : va_S (fun _ => False) s.heap s.heap [] := va_S.rf
  have hl : lv_has ls 2 [(0, .ref m0), (1, .int wy)] := hl
  refine lv_iload_n hx hb d_M_check_0 rfl (lv_at hl 1 rfl) ?_
  refine lv_if_lt (tgt := 9) hx hb d_M_check_1 (by decide) (fun hc => ?_) (fun hc => ?_)
  · refine lv_lconst (v := lB 0#64) hx hb d_M_check_9 rfl ?_
    refine lv_goto (tgt := 22) hx hb d_M_check_10 (by decide) ?_
    refine tpl (z := (lB (s_check n po fi la d o dt cnt wy))) (by rw [s_check, if_pos hc]) ?_
    exact hret _ _ _ _ d_M_check_22 hS
  · refine lv_iload_n hx hb d_M_check_4 rfl (lv_at hl 1 rfl) ?_
    refine lv_iconst (v := nI 3) hx hb d_M_check_5 (by decide) ?_
    refine lv_icmp_le (tgt := 13) hx hb d_M_check_6 (by decide) (fun hc2 => ?_) (fun hc2 => ?_)
    · refine lv_aload_n hx hb d_M_check_13 rfl (lv_at hl 0 rfl) ?_
      refine lv_iconst (v := nI 0) hx hb d_M_check_14 (by decide) ?_
      refine lv_aload_n hx hb d_M_check_15 rfl (lv_at hl 0 rfl) ?_
      refine gf_M_46 (v := .int (nI cnt)) F hK hP 0 rfl rfl d_M_check_16 ?_
      refine roVL (rest := []) F (c_M_over l D cL cB cI m0 b0 cnt n po fi la d o dt 0 cnt hn hd (Nat.zero_le _) hc5) k_M_over ml_M_61 ⟨rfl, rfl, by decide, by decide⟩ hK hP hS (hP.sub [0, 1] rfl) rfl rfl rfl rfl hl.1 rfl (Nat.le_of_ble_eq_true rfl) d_M_check_19 ⟨Nat.zero_le _, Nat.zero_le _⟩ (fun H locs hP hS => ?_)
      refine tpl (z := (lB (s_check n po fi la d o dt cnt wy))) (by rw [s_check, if_neg hc, if_pos hc2]) ?_
      exact hret _ _ _ _ d_M_check_22 hS
    · refine lv_lconst (v := lB 0#64) hx hb d_M_check_9 rfl ?_
      refine lv_goto (tgt := 22) hx hb d_M_check_10 (by decide) ?_
      refine tpl (z := (lB (s_check n po fi la d o dt cnt wy))) (by rw [s_check, if_neg hc, if_neg hc2]) ?_
      exact hret _ _ _ _ d_M_check_22 hS

set_option maxHeartbeats 4000000 in
set_option maxRecDepth 100000 in
theorem c_M_part (l : Launch) (D : va_G) (cL cB cI : ClassId) (m0 b0 cnt n : Nat) (po fi la : BitVec 64) (d o : Bool) (dt : Nat → Nat) (fr to : Int32) (hn : 1 ≤ n ∧ n ≤ 64) (hd : ∀ j, dt j < 256) (hc5 : cnt ≤ 5000) : Met l y_M_part (Cond.code y_M_part b_M_part 3 (some .long) :: g_tbl) (rmO 5 121) (RoP D cL cB cI [(m0, .inr (3, mf n po fi la d o b0 cnt)), (b0, .inl (cI, 5000, .inl (fun j => nI (dt j))))] [.ref m0, .int fr, .int to]) (RoL (lB (s_part n po fi la d o dt cnt fr to))) 0 0 (fun _ => False) := by
  refine ro_startL (by decide) (Nat.le_of_ble_eq_true rfl) ?_
  intro p e s m below meth c ls Q F hP hK hl hret
  have hx := F.1
  have hb := F.2.1
  have hown := F.2.2.2.1
  have hT := F.2.2.2.2
  have hS : va_S (fun _ => False) s.heap s.heap [] := va_S.rf
  have hl : lv_has ls 3 [(0, .ref m0), (1, .int fr), (2, .int to)] := hl
  refine lv_iload_n hx hb d_M_part_0 rfl (lv_at hl 1 rfl) ?_
  refine lv_if_lt (tgt := 17) hx hb d_M_part_1 (by decide) (fun hc => ?_) (fun hc => ?_)
  · refine lv_lconst (v := lB 0#64) hx hb d_M_part_17 rfl ?_
    refine lv_goto (tgt := 27) hx hb d_M_part_18 (by decide) ?_
    refine tpl (z := (lB (s_part n po fi la d o dt cnt fr to))) (by rw [s_part, if_pos hc]) ?_
    exact hret _ _ _ _ d_M_part_27 hS
  · refine lv_iload_n hx hb d_M_part_4 rfl (lv_at hl 2 rfl) ?_
    refine lv_iload_n hx hb d_M_part_5 rfl (lv_at hl 1 rfl) ?_
    refine lv_icmp_lt (tgt := 17) hx hb d_M_part_6 (by decide) (fun hc2 => ?_) (fun hc2 => ?_)
    · refine lv_lconst (v := lB 0#64) hx hb d_M_part_17 rfl ?_
      refine lv_goto (tgt := 27) hx hb d_M_part_18 (by decide) ?_
      refine tpl (z := (lB (s_part n po fi la d o dt cnt fr to))) (by rw [s_part, if_neg hc, if_pos hc2]) ?_
      exact hret _ _ _ _ d_M_part_27 hS
    · refine lv_iload_n hx hb d_M_part_9 rfl (lv_at hl 2 rfl) ?_
      refine lv_aload_n hx hb d_M_part_10 rfl (lv_at hl 0 rfl) ?_
      refine gf_M_46 (v := .int (nI cnt)) F hK hP 0 rfl rfl d_M_part_11 ?_
      refine lv_icmp_le (tgt := 21) hx hb d_M_part_14 (by decide) (fun hc3 => ?_) (fun hc3 => ?_)
      · refine lv_aload_n hx hb d_M_part_21 rfl (lv_at hl 0 rfl) ?_
        refine lv_iload_n hx hb d_M_part_22 rfl (lv_at hl 1 rfl) ?_
        refine lv_iload_n hx hb d_M_part_23 rfl (lv_at hl 2 rfl) ?_
        obtain ⟨a, ha, rfl⟩ := nI_of hc
        obtain ⟨b, hb4, rfl⟩ := nI_of (x := to) (fun q => hc2 (Int32.lt_of_lt_of_le q (nI_pos' ha)))
        have hb5 := (nI_leI hb4 (by omega)).mp hc3
        have hab := Nat.not_lt.mp (fun q => hc2 ((nI_ltI hb4 ha).mpr q))
        refine roVL (rest := []) F (c_M_over l D cL cB cI m0 b0 cnt n po fi la d o dt a b hn hd hab (by omega)) k_M_over ml_M_61 ⟨rfl, rfl, by decide, by decide⟩ hK hP hS (hP.sub [0, 1] rfl) rfl rfl rfl rfl hl.1 rfl (Nat.le_of_ble_eq_true rfl) d_M_part_24 ⟨Nat.zero_le _, Nat.zero_le _⟩ (fun H locs hP hS => ?_)
        refine tpl (z := (lB (s_part n po fi la d o dt cnt (nI a) (nI b)))) (by rw [s_part, if_neg hc, if_neg hc2, if_pos hc3, nI_clamp ha, nI_clamp hb4]) ?_
        exact hret _ _ _ _ d_M_part_27 hS
      · refine lv_lconst (v := lB 0#64) hx hb d_M_part_17 rfl ?_
        refine lv_goto (tgt := 27) hx hb d_M_part_18 (by decide) ?_
        refine tpl (z := (lB (s_part n po fi la d o dt cnt fr to))) (by rw [s_part, if_neg hc, if_neg hc2, if_neg hc3]) ?_
        exact hret _ _ _ _ d_M_part_27 hS

set_option maxHeartbeats 4000000 in
set_option maxRecDepth 100000 in
theorem c_M_times (l : Launch) (D : va_G) (cL cB cI : ClassId) (m0 b0 cnt n : Nat) (po fi la : BitVec 64) (d o : Bool) (A B : BitVec 64) (hn : 1 ≤ n ∧ n ≤ 64) : Met l y_M_times (Cond.code y_M_times b_M_times 8 (some .long) :: g_tbl) (rmO 3 70) (RoP D cL cB cI [(m0, .inr (3, mf n po fi la d o b0 cnt))] [.ref m0, .long (lB A), .long (lB B)]) (RoL (lB (q_tm n po A B n))) 0 0 (fun _ => False) := by
  refine ro_startL (by decide) (Nat.le_of_ble_eq_true rfl) ?_
  intro p e s m below meth c ls Q F hP hK hl hret
  have hx := F.1
  have hb := F.2.1
  have hown := F.2.2.2.1
  have hT := F.2.2.2.2
  have hS : va_S (fun _ => False) s.heap s.heap [] := va_S.rf
  have hl : lv_has ls 8 [(0, .ref m0), (1, .long (lB A)), (3, .long (lB B))] := hl
  refine lv_lconst (v := lB 0#64) hx hb d_M_times_0 rfl ?_
  refine lv_lstore (lv' := [(5, .long (lB 0#64)), (0, .ref m0), (1, .long (lB A)), (3, .long (lB B))]) hx hb d_M_times_1 hl (by decide) rfl (fun ls hl => ?_)
  refine lv_aload_n hx hb d_M_times_3 rfl (lv_at hl 1 rfl) ?_
  refine gf_M_7 (v := .int (nI n)) F hK hP 0 rfl rfl d_M_times_4 ?_
  refine lv_iconst (v := nI 1) hx hb d_M_times_7 (by decide) ?_
  refine nt_isub (x := n) hx hb (by omega) d_M_times_8 ?_
  refine tpi (z := (km (n - 0))) (by rw [Nat.sub_zero, ← km_s]; congr 1; omega) ?_
  refine lv_istore (lv' := [(7, .int (km (n - 0))), (5, .long (lB 0#64)), (0, .ref m0), (1, .long (lB A)), (3, .long (lB B))]) hx hb d_M_times_9 hl (by decide) rfl (fun ls hl => ?_)
  have loop11 : ∀ (j i : Nat), i + j = n → ∀ (ls : Array Slot) (H : Heap) (locs : List Loc), va_P D classes [(m0, .inr (3, mf n po fi la d o b0 cnt))] H → va_S (fun _ => False) s.heap H locs → lv_has ls 8 [(0, .ref m0), (1, .long (lB A)), (3, .long (lB B)), (5, .long (lB (q_tm n po A B i))), (7, .int (km (n - i)))] → W p l e (rmO 3 70) s m ([.ref m0, .long (lB A), .long (lB B)] : List Value).toArray below meth c H locs 0 0 Q (F0 m 11 ls []) := by
    intro j
    induction j with
    | zero =>
      intro i hij ls H locs hP hS hl
      refine lv_iload hx hb d_M_times_11 (lv_at hl 4 rfl) ?_
      refine lv_if_lt (tgt := 52) hx hb d_M_times_13 (by decide) (fun hc => ?_) (fun hc => absurd (show km (n - i) < 0 by rw [show n - i = 0 by omega]; exact km_0) hc)
      refine lv_lload hx hb d_M_times_52 (lv_at hl 3 rfl) ?_
      refine tpl (z := (lB (q_tm n po A B n))) (by rw [show i = n by omega]) ?_
      exact hret _ _ _ _ d_M_times_54 hS
    | succ j ih =>
      intro i hij ls H locs hP hS hl
      have hk : km (n - i) = nI (n - 1 - i) := by rw [show n - i = (n - 1 - i) + 1 by omega]; exact km_s _
      refine lv_iload hx hb d_M_times_11 (lv_at hl 4 rfl) ?_
      refine lv_if_lt (tgt := 52) hx hb d_M_times_13 (by decide) (fun hc => absurd (hk ▸ hc) (nI_pos (by omega))) (fun hc => ?_)
      refine lv_aload_n hx hb d_M_times_16 rfl (lv_at hl 0 rfl) ?_
      refine lv_lload hx hb d_M_times_17 (lv_at hl 3 rfl) ?_
      refine lv_iconst (v := nI 0) hx hb d_M_times_19 (by decide) ?_
      refine roVL (rest := []) F (c_M_bit l D cL cB cI m0 b0 cnt n po fi la d o (q_tm n po A B i) false hn) k_M_bit ml_M_49 ⟨rfl, rfl, by decide, by decide⟩ hK hP hS (hP.sub [0] rfl) rfl rfl rfl rfl hl.1 rfl (Nat.le_of_ble_eq_true rfl) d_M_times_20 ⟨Nat.zero_le _, Nat.zero_le _⟩ (fun H locs hP hS => ?_)
      refine lv_lstore (lv' := [(5, .long (lB (q_bt n po (q_tm n po A B i) false))), (0, .ref m0), (1, .long (lB A)), (3, .long (lB B)), (7, .int (km (n - i)))]) hx hb d_M_times_23 hl (by decide) rfl (fun ls hl => ?_)
      refine lv_lload hx hb d_M_times_25 (lv_at hl 0 rfl) ?_
      refine lv_lload_n hx hb d_M_times_27 rfl (lv_at hl 3 rfl) ?_
      refine lv_iload hx hb d_M_times_28 (lv_at hl 4 rfl) ?_
      refine tpi (z := (nI (n - 1 - i))) hk ?_
      refine bv_lushr hx hb (by omega) d_M_times_30 ?_
      refine lv_lconst (v := lB 1#64) hx hb d_M_times_31 rfl ?_
      refine bv_land hx hb d_M_times_32 ?_
      refine lv_lconst (v := lB 1#64) hx hb d_M_times_33 rfl ?_
      refine bl_ne (a := ((B >>> (n - 1 - i)) &&& 1#64)) (b := 1#64) (tgt := 42) hx hb d_M_times_34 d_M_times_35 (by decide) (fun hc2 => ?_) (fun hc2 => ?_)
      · refine lv_lconst (v := lB 0#64) hx hb d_M_times_42 rfl ?_
        refine bv_lxor hx hb d_M_times_43 ?_
        refine tpl (z := (lB (q_tm n po A B (i + 1)))) (congrArg lB (tm_n hc2)) ?_
        refine lv_lstore (lv' := [(5, .long (lB (q_tm n po A B (i + 1)))), (0, .ref m0), (1, .long (lB A)), (3, .long (lB B)), (7, .int (km (n - i)))]) hx hb d_M_times_44 hl (by decide) rfl (fun ls hl => ?_)
        refine lv_iinc (v := km (n - (i + 1))) (lv' := [(7, .int (km (n - (i + 1)))), (5, .long (lB (q_tm n po A B (i + 1)))), (0, .ref m0), (1, .long (lB A)), (3, .long (lB B))]) hx hb d_M_times_46 hl (k := 4) rfl (by rw [hk, show n - (i + 1) = n - 1 - i by omega]; rfl) (by decide) rfl (fun ls hl => ?_)
        refine lv_goto (tgt := 11) hx hb d_M_times_49 (by decide) ?_
        exact ih (i + 1) (by omega) ls H locs hP hS (lv_sub hl [2, 3, 4, 1, 0] rfl)
      · refine lv_lload_n hx hb d_M_times_38 rfl (lv_at hl 2 rfl) ?_
        refine lv_goto (tgt := 43) hx hb d_M_times_39 (by decide) ?_
        refine bv_lxor hx hb d_M_times_43 ?_
        refine tpl (z := (lB (q_tm n po A B (i + 1)))) (congrArg lB (tm_y hc2)) ?_
        refine lv_lstore (lv' := [(5, .long (lB (q_tm n po A B (i + 1)))), (0, .ref m0), (1, .long (lB A)), (3, .long (lB B)), (7, .int (km (n - i)))]) hx hb d_M_times_44 hl (by decide) rfl (fun ls hl => ?_)
        refine lv_iinc (v := km (n - (i + 1))) (lv' := [(7, .int (km (n - (i + 1)))), (5, .long (lB (q_tm n po A B (i + 1)))), (0, .ref m0), (1, .long (lB A)), (3, .long (lB B))]) hx hb d_M_times_46 hl (k := 4) rfl (by rw [hk, show n - (i + 1) = n - 1 - i by omega]; rfl) (by decide) rfl (fun ls hl => ?_)
        refine lv_goto (tgt := 11) hx hb d_M_times_49 (by decide) ?_
        exact ih (i + 1) (by omega) ls H locs hP hS (lv_sub hl [2, 3, 4, 1, 0] rfl)
  exact loop11 (n) 0 (by omega) ls s.heap [] hP hS (lv_sub hl [2, 3, 4, 1, 0] rfl)
end
section
theorem ge0 {x : Int32} (h : 0 ≤ x) : ¬ x < 0 := by
  rw [Int32.le_iff_toInt_le] at h; rw [Int32.lt_iff_toInt_lt]; omega
theorem nge0 {x : Int32} (h : ¬ 0 ≤ x) : x < 0 := by
  rw [Int32.le_iff_toInt_le] at h; rw [Int32.lt_iff_toInt_lt]; omega
theorem le_ng {x y : Int32} (h : x ≤ y) : ¬ y < x := by
  rw [Int32.le_iff_toInt_le] at h; rw [Int32.lt_iff_toInt_lt]; omega
theorem nle_g {x y : Int32} (h : ¬ x ≤ y) : y < x := by
  rw [Int32.le_iff_toInt_le] at h; rw [Int32.lt_iff_toInt_lt]; omega
theorem nI_of_le {x : Int32} {b : Nat} (h0 : ¬ x < 0) (hb : b < 2 ^ 31) (h : ¬ nI b < x) : ∃ j : Nat, j ≤ b ∧ x = nI j := by
  obtain ⟨j, hj, rfl⟩ := nI_of h0
  exact ⟨j, Nat.not_lt.mp (fun q => h ((nI_ltI hb hj).mpr q)), rfl⟩
theorem sw4 {x : Int32} (h0 : ¬ x = 0) (h1 : ¬ x = 1) (h2 : ¬ x = 2) (h3 : ¬ x = 3) : x.toInt < 0 ∨ 3 < x.toInt := by
  have a0 := lv_neT h0 (a := 0) rfl
  have a1 := lv_neT h1 (a := 1) rfl
  have a2 := lv_neT h2 (a := 2) rfl
  have a3 := lv_neT h3 (a := 3) rfl
  omega
theorem rg_M {n : Nat} {o : Bool} {la : BitVec 64} (hn : n ≤ 64) (hla : q_M n la) (C : BitVec 64) : q_M n (q_rg n o la C) := by
  unfold q_rg
  cases o
  · exact M_xor hn (M_and _) hla
  · exact tn_M hn _
theorem ob_M {n : Nat} {po : BitVec 64} {d : Bool} {R : BitVec 64} {x : Nat} (hn : n ≤ 64) (hp : q_M n po) (hR : q_M n R) : ∀ k, q_M n (q_ob n po d R x k)
  | 0 => hR
  | _ + 1 => bt_M hn hp _ _
theorem one_M {n : Nat} (hn : 1 ≤ n ∧ n ≤ 64) : q_M n 1#64 := M_of hn.2 (fun i hi => by rw [BitVec.getLsbD_one]; simp; omega)
set_option maxHeartbeats 4000000 in
set_option maxRecDepth 100000 in
theorem c_M_behind (l : Launch) (D : va_G) (cL cB cI : ClassId) (m0 b0 cnt n : Nat) (po fi la : BitVec 64) (d o : Bool) (R : BitVec 64) (bm : Nat) (hn : 1 ≤ n ∧ n ≤ 64) (hp : q_M n po) (hR : q_M n R) (hbm : bm < 2 ^ 62) : Met l y_M_behind (Cond.code y_M_behind b_M_behind 11 (some .long) :: g_tbl) (rmO 4 97) (RoP D cL cB cI [(m0, .inr (3, mf n po fi la d o b0 cnt))] [.ref m0, .long (lB R), .long (lN bm)]) (RoL (lB (q_xp n po R bm))) 0 0 (fun _ => False) := by
  refine ro_startL (by decide) (Nat.le_of_ble_eq_true rfl) ?_
  intro p e s m below meth c ls Q F hP hK hl hret
  have hx := F.1
  have hb := F.2.1
  have hown := F.2.2.2.1
  have hT := F.2.2.2.2
  have hS : va_S (fun _ => False) s.heap s.heap [] := va_S.rf
  have hl : lv_has ls 11 [(0, .ref m0), (1, .long (lB R)), (3, .long (lN bm))] := hl
  refine lv_lload_n hx hb d_M_behind_0 rfl (lv_at hl 1 rfl) ?_
  refine lv_lstore (lv' := [(5, .long (lB R)), (0, .ref m0), (1, .long (lB R)), (3, .long (lN bm))]) hx hb d_M_behind_1 hl (by decide) rfl (fun ls hl => ?_)
  refine lv_aload_n hx hb d_M_behind_3 rfl (lv_at hl 1 rfl) ?_
  refine lv_lconst (v := lB 1#64) hx hb d_M_behind_4 rfl ?_
  refine lv_iconst (v := nI 0) hx hb d_M_behind_5 (by decide) ?_
  refine roVL (rest := []) F (c_M_bit l D cL cB cI m0 b0 cnt n po fi la d o 1#64 false hn) k_M_bit ml_M_49 ⟨rfl, rfl, by decide, by decide⟩ hK hP hS (hP.sub [0] rfl) rfl rfl rfl rfl hl.1 rfl (Nat.le_of_ble_eq_true rfl) d_M_behind_6 ⟨Nat.zero_le _, Nat.zero_le _⟩ (fun H locs hP hS => ?_)
  refine tpl (z := (lB (q_xp n po 1#64 1))) rfl ?_
  refine lv_lstore (lv' := [(7, .long (lB (q_xp n po 1#64 1))), (5, .long (lB R)), (0, .ref m0), (1, .long (lB R)), (3, .long (lN bm))]) hx hb d_M_behind_9 hl (by decide) rfl (fun ls hl => ?_)
  refine lv_lload_n hx hb d_M_behind_11 rfl (lv_at hl 4 rfl) ?_
  refine lv_lstore (lv' := [(9, .long (lN bm)), (7, .long (lB (q_xp n po 1#64 1))), (5, .long (lB R)), (0, .ref m0), (1, .long (lB R)), (3, .long (lN bm))]) hx hb d_M_behind_12 hl (by decide) rfl (fun ls hl => ?_)
  have loop : ∀ (f k ee : Nat) (r : BitVec 64), k < 2 ^ f → k < 2 ^ 62 → q_M n r → q_xp n po r (ee * k) = q_xp n po R bm → ∀ (ls : Array Slot) (H : Heap) (locs : List Loc), va_P D classes [(m0, .inr (3, mf n po fi la d o b0 cnt))] H → va_S (fun _ => False) s.heap H locs → lv_has ls 11 [(0, .ref m0), (5, .long (lB r)), (7, .long (lB (q_xp n po 1#64 ee))), (9, .long (lN k))] → W p l e (rmO 4 97) s m ([.ref m0, .long (lB R), .long (lN bm)] : List Value).toArray below meth c H locs 0 0 Q (F0 m 14 ls []) := by
    intro f
    induction f with
    | zero =>
      intro k ee r hk hk2 hr hz ls H locs hP hS hl
      refine lv_lload hx hb d_M_behind_14 (lv_at hl 3 rfl) ?_
      refine lv_lconst (v := lB 0#64) hx hb d_M_behind_16 rfl ?_
      refine bl_le (tgt := 68) hx hb d_M_behind_17 d_M_behind_18 (by decide) (fun hc => ?_) (fun hc => absurd (ln_npos hk2 hc) (by have : k < 1 := hk; omega))
      have hk0 := ln_pos hk2 hc
      subst hk0
      refine lv_lload hx hb d_M_behind_68 (lv_at hl 1 rfl) ?_
      refine tpl (z := (lB (q_xp n po R bm))) (by rw [← hz, Nat.mul_zero]; rfl) ?_
      exact hret _ _ _ _ d_M_behind_70 hS
    | succ f ih =>
      intro k ee r hk hk2 hr hz ls H locs hP hS hl
      refine lv_lload hx hb d_M_behind_14 (lv_at hl 3 rfl) ?_
      refine lv_lconst (v := lB 0#64) hx hb d_M_behind_16 rfl ?_
      refine bl_le (tgt := 68) hx hb d_M_behind_17 d_M_behind_18 (by decide) (fun hc => ?_) (fun hc => ?_)
      · have hk0 := ln_pos hk2 hc
        subst hk0
        refine lv_lload hx hb d_M_behind_68 (lv_at hl 1 rfl) ?_
        refine tpl (z := (lB (q_xp n po R bm))) (by rw [← hz, Nat.mul_zero]; rfl) ?_
        exact hret _ _ _ _ d_M_behind_70 hS
      · have hk0 := ln_npos hk2 hc
        refine lv_lload hx hb d_M_behind_21 (lv_at hl 3 rfl) ?_
        refine lv_ldc2 hx hb hown (hT _ cj_M_65) d_M_behind_23 ?_
        refine tpl (z := lB 2#64) (by decide) ?_
        refine lv_lrem hx hb d_M_behind_26 (by decide) ?_
        refine tpl (z := (lB (BitVec.ofNat 64 (k % 2)))) (ln_rem hk2) ?_
        refine lv_lconst (v := lB 1#64) hx hb d_M_behind_27 rfl ?_
        refine bl_ne (a := (BitVec.ofNat 64 (k % 2))) (b := 1#64) (tgt := 43) hx hb d_M_behind_28 d_M_behind_29 (by decide) (fun hc2 => ?_) (fun hc2 => ?_)
        · have hodd := mt (ln_1 (Nat.mod_lt _ (by decide))).mpr hc2
          refine lv_lload hx hb d_M_behind_43 (lv_at hl 1 rfl) ?_
          refine lv_lstore (lv' := [(5, .long (lB r)), (0, .ref m0), (7, .long (lB (q_xp n po 1#64 ee))), (9, .long (lN k))]) hx hb d_M_behind_45 hl (by decide) rfl (fun ls hl => ?_)
          refine lv_aload_n hx hb d_M_behind_47 rfl (lv_at hl 1 rfl) ?_
          refine lv_lload hx hb d_M_behind_48 (lv_at hl 2 rfl) ?_
          refine lv_lload hx hb d_M_behind_50 (lv_at hl 2 rfl) ?_
          refine roVL (rest := []) F (c_M_times l D cL cB cI m0 b0 cnt n po fi la d o (q_xp n po 1#64 ee) (q_xp n po 1#64 ee) hn) k_M_times ml_M_67 ⟨rfl, rfl, by decide, by decide⟩ hK hP hS (hP.sub [0] rfl) rfl rfl rfl rfl hl.1 rfl (Nat.le_of_ble_eq_true rfl) d_M_behind_52 ⟨Nat.zero_le _, Nat.zero_le _⟩ (fun H locs hP hS => ?_)
          refine tpl (z := (lB (q_xp n po 1#64 (ee + ee)))) (congrArg lB ((tm_xp hn.2 hn.1 hp (xp_M hn.2 hp (one_M hn) ee) ee).trans (xp_add _ _ _ _ _).symm)) ?_
          refine lv_lstore (lv' := [(7, .long (lB (q_xp n po 1#64 (ee + ee)))), (5, .long (lB r)), (0, .ref m0), (9, .long (lN k))]) hx hb d_M_behind_55 hl (by decide) rfl (fun ls hl => ?_)
          refine lv_lload hx hb d_M_behind_57 (lv_at hl 3 rfl) ?_
          refine lv_ldc2 hx hb hown (hT _ cj_M_65) d_M_behind_59 ?_
          refine tpl (z := lB 2#64) (by decide) ?_
          refine lv_ldiv hx hb d_M_behind_62 (by decide) ?_
          refine tpl (z := (lN (k / 2))) (ln_div hk2) ?_
          refine lv_lstore (lv' := [(9, .long (lN (k / 2))), (7, .long (lB (q_xp n po 1#64 (ee + ee)))), (5, .long (lB r)), (0, .ref m0)]) hx hb d_M_behind_63 hl (by decide) rfl (fun ls hl => ?_)
          refine lv_goto (tgt := 14) hx hb d_M_behind_65 (by decide) ?_
          exact ih (k / 2) (ee + ee) (r) (by rw [Nat.pow_succ] at hk; omega) (by omega) hr (by rw [← xp_even hodd]; exact hz) ls H locs hP hS (lv_sub hl [3, 2, 1, 0] rfl)
        · have hodd := (ln_1 (Nat.mod_lt _ (by decide))).mp hc2
          refine lv_aload_n hx hb d_M_behind_32 rfl (lv_at hl 0 rfl) ?_
          refine lv_lload hx hb d_M_behind_33 (lv_at hl 1 rfl) ?_
          refine lv_lload hx hb d_M_behind_35 (lv_at hl 2 rfl) ?_
          refine roVL (rest := []) F (c_M_times l D cL cB cI m0 b0 cnt n po fi la d o r (q_xp n po 1#64 ee) hn) k_M_times ml_M_67 ⟨rfl, rfl, by decide, by decide⟩ hK hP hS (hP.sub [0] rfl) rfl rfl rfl rfl hl.1 rfl (Nat.le_of_ble_eq_true rfl) d_M_behind_37 ⟨Nat.zero_le _, Nat.zero_le _⟩ (fun H locs hP hS => ?_)
          refine tpl (z := (lB (q_xp n po r ee))) (congrArg lB (tm_xp hn.2 hn.1 hp hr ee)) ?_
          refine lv_goto (tgt := 45) hx hb d_M_behind_40 (by decide) ?_
          refine lv_lstore (lv' := [(5, .long (lB (q_xp n po r ee))), (0, .ref m0), (7, .long (lB (q_xp n po 1#64 ee))), (9, .long (lN k))]) hx hb d_M_behind_45 hl (by decide) rfl (fun ls hl => ?_)
          refine lv_aload_n hx hb d_M_behind_47 rfl (lv_at hl 1 rfl) ?_
          refine lv_lload hx hb d_M_behind_48 (lv_at hl 2 rfl) ?_
          refine lv_lload hx hb d_M_behind_50 (lv_at hl 2 rfl) ?_
          refine roVL (rest := []) F (c_M_times l D cL cB cI m0 b0 cnt n po fi la d o (q_xp n po 1#64 ee) (q_xp n po 1#64 ee) hn) k_M_times ml_M_67 ⟨rfl, rfl, by decide, by decide⟩ hK hP hS (hP.sub [0] rfl) rfl rfl rfl rfl hl.1 rfl (Nat.le_of_ble_eq_true rfl) d_M_behind_52 ⟨Nat.zero_le _, Nat.zero_le _⟩ (fun H locs hP hS => ?_)
          refine tpl (z := (lB (q_xp n po 1#64 (ee + ee)))) (congrArg lB ((tm_xp hn.2 hn.1 hp (xp_M hn.2 hp (one_M hn) ee) ee).trans (xp_add _ _ _ _ _).symm)) ?_
          refine lv_lstore (lv' := [(7, .long (lB (q_xp n po 1#64 (ee + ee)))), (5, .long (lB (q_xp n po r ee))), (0, .ref m0), (9, .long (lN k))]) hx hb d_M_behind_55 hl (by decide) rfl (fun ls hl => ?_)
          refine lv_lload hx hb d_M_behind_57 (lv_at hl 3 rfl) ?_
          refine lv_ldc2 hx hb hown (hT _ cj_M_65) d_M_behind_59 ?_
          refine tpl (z := lB 2#64) (by decide) ?_
          refine lv_ldiv hx hb d_M_behind_62 (by decide) ?_
          refine tpl (z := (lN (k / 2))) (ln_div hk2) ?_
          refine lv_lstore (lv' := [(9, .long (lN (k / 2))), (7, .long (lB (q_xp n po 1#64 (ee + ee)))), (5, .long (lB (q_xp n po r ee))), (0, .ref m0)]) hx hb d_M_behind_63 hl (by decide) rfl (fun ls hl => ?_)
          refine lv_goto (tgt := 14) hx hb d_M_behind_65 (by decide) ?_
          exact ih (k / 2) (ee + ee) (q_xp n po r ee) (by rw [Nat.pow_succ] at hk; omega) (by omega) (xp_M hn.2 hp hr ee) (by rw [← xp_odd hodd]; exact hz) ls H locs hP hS (lv_sub hl [3, 2, 1, 0] rfl)
  exact loop 62 bm 1 R hbm hbm hR (by rw [Nat.one_mul]) ls H locs hP hS (lv_sub hl [3, 2, 1, 0] rfl)

set_option maxHeartbeats 4000000 in
set_option maxRecDepth 100000 in
theorem c_M_joined (l : Launch) (D : va_G) (cL cB cI : ClassId) (m0 b0 cnt n : Nat) (po fi la : BitVec 64) (d o : Bool) (a b : BitVec 64) (nn : Int32) (hn : 1 ≤ n ∧ n ≤ 64) (hp : q_M n po) (hfi : q_M n fi) (hla : q_M n la) : Met l y_M_joined (Cond.code y_M_joined b_M_joined 6 (some .long) :: g_tbl) (rmO 5 127) (RoP D cL cB cI [(m0, .inr (3, mf n po fi la d o b0 cnt))] [.ref m0, .long (lB a), .long (lB b), .int nn]) (RoL (lB (s_joined n po fi la o a b nn))) 0 0 (fun _ => False) := by
  refine ro_startL (by decide) (Nat.le_of_ble_eq_true rfl) ?_
  intro p e s m below meth c ls Q F hP hK hl hret
  have hx := F.1
  have hb := F.2.1
  have hown := F.2.2.2.1
  have hT := F.2.2.2.2
  have hS : va_S (fun _ => False) s.heap s.heap [] := va_S.rf
  have hl : lv_has ls 6 [(0, .ref m0), (1, .long (lB a)), (3, .long (lB b)), (5, .int nn)] := hl
  refine lv_iload hx hb d_M_joined_0 (lv_at hl 3 rfl) ?_
  refine lv_if_ge (tgt := 7) hx hb d_M_joined_2 (by decide) (fun hc => ?_) (fun hc => ?_)
  · obtain ⟨mm, hmm, rfl⟩ := nI_of (ge0 hc)
    refine lv_aload_n hx hb d_M_joined_7 rfl (lv_at hl 0 rfl) ?_
    refine lv_aload_n hx hb d_M_joined_8 rfl (lv_at hl 0 rfl) ?_
    refine lv_aload_n hx hb d_M_joined_9 rfl (lv_at hl 0 rfl) ?_
    refine lv_lload_n hx hb d_M_joined_10 rfl (lv_at hl 1 rfl) ?_
    refine roVL (rest := [.ref m0, .ref m0]) F (c_M_register l D cL cB cI m0 b0 cnt n po fi la d o a hn) k_M_register ml_M_71 ⟨rfl, rfl, by decide, by decide⟩ hK hP hS (hP.sub [0] rfl) rfl rfl rfl rfl hl.1 rfl (Nat.le_of_ble_eq_true rfl) d_M_joined_11 ⟨Nat.zero_le _, Nat.zero_le _⟩ (fun H locs hP hS => ?_)
    refine lv_aload_n hx hb d_M_joined_14 rfl (lv_at hl 0 rfl) ?_
    refine gf_M_21 (v := .long (lB fi)) F hK hP 0 rfl rfl d_M_joined_15 ?_
    refine bv_lxor hx hb d_M_joined_18 ?_
    refine lv_ldc2 hx hb hown (hT _ cj_M_74) d_M_joined_19 ?_
    refine tpl (z := lB 8#64) (by decide) ?_
    refine lv_iload hx hb d_M_joined_22 (lv_at hl 3 rfl) ?_
    refine lv_i2l hx hb d_M_joined_24 rfl ?_
    refine lv_lmul hx hb d_M_joined_25 ?_
    refine tpl (z := (lN (8 * mm))) (ln_8 hmm) ?_
    refine roVL (rest := [.ref m0]) F (c_M_behind l D cL cB cI m0 b0 cnt n po fi la d o (q_rg n o la a ^^^ fi) (8 * mm) hn hp (M_xor hn.2 (rg_M hn.2 hla a) hfi) (by omega)) k_M_behind ml_M_76 ⟨rfl, rfl, by decide, by decide⟩ hK hP hS (hP.sub [0] rfl) rfl rfl rfl rfl hl.1 rfl (Nat.le_of_ble_eq_true rfl) d_M_joined_26 ⟨Nat.zero_le _, Nat.zero_le _⟩ (fun H locs hP hS => ?_)
    refine lv_aload_n hx hb d_M_joined_29 rfl (lv_at hl 0 rfl) ?_
    refine lv_lload_n hx hb d_M_joined_30 rfl (lv_at hl 2 rfl) ?_
    refine roVL (rest := [.long (lB (q_xp n po (q_rg n o la a ^^^ fi) (8 * mm))), .ref m0]) F (c_M_register l D cL cB cI m0 b0 cnt n po fi la d o b hn) k_M_register ml_M_71 ⟨rfl, rfl, by decide, by decide⟩ hK hP hS (hP.sub [0] rfl) rfl rfl rfl rfl hl.1 rfl (Nat.le_of_ble_eq_true rfl) d_M_joined_31 ⟨Nat.zero_le _, Nat.zero_le _⟩ (fun H locs hP hS => ?_)
    refine bv_lxor hx hb d_M_joined_34 ?_
    refine roVL (rest := []) F (c_M_told l D cL cB cI m0 b0 cnt n po fi la d o (q_xp n po (q_rg n o la a ^^^ fi) (8 * mm) ^^^ q_rg n o la b) hn) k_M_told ml_M_58 ⟨rfl, rfl, by decide, by decide⟩ hK hP hS (hP.sub [0] rfl) rfl rfl rfl rfl hl.1 rfl (Nat.le_of_ble_eq_true rfl) d_M_joined_35 ⟨Nat.zero_le _, Nat.zero_le _⟩ (fun H locs hP hS => ?_)
    refine tpl (z := (lB (s_joined n po fi la o a b (nI mm)))) (by rw [s_joined, if_neg (ge0 hc), nI_clamp hmm]; rfl) ?_
    exact hret _ _ _ _ d_M_joined_38 hS
  · refine lv_lconst (v := lB 0#64) hx hb d_M_joined_5 rfl ?_
    refine tpl (z := (lB (s_joined n po fi la o a b nn))) (by rw [s_joined, if_pos (nge0 hc)]) ?_
    exact hret _ _ _ _ d_M_joined_6 hS

set_option maxHeartbeats 4000000 in
set_option maxRecDepth 100000 in
theorem c_M_entry (l : Launch) (D : va_G) (cL cB cI : ClassId) (m0 b0 cnt n : Nat) (po fi la : BitVec 64) (d o : Bool) (kk bb : Int32) (hn : 1 ≤ n ∧ n ≤ 64) (hp : q_M n po) : Met l y_M_entry (Cond.code y_M_entry b_M_entry 3 (some .long) :: g_tbl) (rmO 5 127) (RoP D cL cB cI [(m0, .inr (3, mf n po fi la d o b0 cnt))] [.ref m0, .int kk, .int bb]) (RoL (lB (s_entry n po d kk bb))) 0 0 (fun _ => False) := by
  refine ro_startL (by decide) (Nat.le_of_ble_eq_true rfl) ?_
  intro p e s m below meth c ls Q F hP hK hl hret
  have hx := F.1
  have hb := F.2.1
  have hown := F.2.2.2.1
  have hT := F.2.2.2.2
  have hS : va_S (fun _ => False) s.heap s.heap [] := va_S.rf
  have hl : lv_has ls 3 [(0, .ref m0), (1, .int kk), (2, .int bb)] := hl
  refine lv_iload_n hx hb d_M_entry_0 rfl (lv_at hl 1 rfl) ?_
  refine lv_if_lt (tgt := 21) hx hb d_M_entry_1 (by decide) (fun hc => ?_) (fun hc => ?_)
  · refine lv_lconst (v := lB 0#64) hx hb d_M_entry_21 rfl ?_
    refine tpl (z := (lB (s_entry n po d kk bb))) (by rw [s_entry, if_pos hc]) ?_
    exact hret _ _ _ _ d_M_entry_22 hS
  · refine lv_iload_n hx hb d_M_entry_4 rfl (lv_at hl 1 rfl) ?_
    refine lv_bipush (v := nI 7) hx hb d_M_entry_5 (by decide) ?_
    refine lv_icmp_gt (tgt := 21) hx hb d_M_entry_7 (by decide) (fun hc2 => ?_) (fun hc2 => ?_)
    · refine lv_lconst (v := lB 0#64) hx hb d_M_entry_21 rfl ?_
      refine tpl (z := (lB (s_entry n po d kk bb))) (by rw [s_entry, if_neg hc, if_pos hc2]) ?_
      exact hret _ _ _ _ d_M_entry_22 hS
    · refine lv_iload_n hx hb d_M_entry_10 rfl (lv_at hl 2 rfl) ?_
      refine lv_if_lt (tgt := 21) hx hb d_M_entry_11 (by decide) (fun hc3 => ?_) (fun hc3 => ?_)
      · refine lv_lconst (v := lB 0#64) hx hb d_M_entry_21 rfl ?_
        refine tpl (z := (lB (s_entry n po d kk bb))) (by rw [s_entry, if_neg hc, if_neg hc2, if_pos hc3]) ?_
        exact hret _ _ _ _ d_M_entry_22 hS
      · refine lv_iload_n hx hb d_M_entry_14 rfl (lv_at hl 2 rfl) ?_
        refine lv_sipush (v := nI 255) hx hb d_M_entry_15 (by decide) ?_
        refine lv_icmp_le (tgt := 23) hx hb d_M_entry_18 (by decide) (fun hc4 => ?_) (fun hc4 => ?_)
        · obtain ⟨k, hk, rfl⟩ := nI_of_le hc (by decide) hc2
          obtain ⟨b, hb4, rfl⟩ := nI_of_le hc3 (by decide) (le_ng hc4)
          refine lv_aload_n hx hb d_M_entry_23 rfl (lv_at hl 0 rfl) ?_
          refine lv_aload_n hx hb d_M_entry_24 rfl (lv_at hl 0 rfl) ?_
          refine lv_lconst (v := lB 0#64) hx hb d_M_entry_25 rfl ?_
          refine lv_iload_n hx hb d_M_entry_26 rfl (lv_at hl 2 rfl) ?_
          refine roVL (rest := [.ref m0]) F (c_M_oneByte l D cL cB cI m0 b0 cnt n po fi la d o 0#64 b hn (by omega)) k_M_oneByte ml_M_55 ⟨rfl, rfl, by decide, by decide⟩ hK hP hS (hP.sub [0] rfl) rfl rfl rfl rfl hl.1 rfl (Nat.le_of_ble_eq_true rfl) d_M_entry_27 ⟨Nat.zero_le _, Nat.zero_le _⟩ (fun H locs hP hS => ?_)
          refine lv_ldc2 hx hb hown (hT _ cj_M_74) d_M_entry_30 ?_
          refine tpl (z := lB 8#64) (by decide) ?_
          refine lv_iload_n hx hb d_M_entry_33 rfl (lv_at hl 1 rfl) ?_
          refine lv_i2l hx hb d_M_entry_34 rfl ?_
          refine lv_lmul hx hb d_M_entry_35 ?_
          refine tpl (z := (lN (8 * k))) (ln_8 (by omega)) ?_
          refine roVL (rest := []) F (c_M_behind l D cL cB cI m0 b0 cnt n po fi la d o (q_ob n po d 0#64 b 8) (8 * k) hn hp (ob_M hn.2 hp M_0 8) (by omega)) k_M_behind ml_M_76 ⟨rfl, rfl, by decide, by decide⟩ hK hP hS (hP.sub [0] rfl) rfl rfl rfl rfl hl.1 rfl (Nat.le_of_ble_eq_true rfl) d_M_entry_36 ⟨Nat.zero_le _, Nat.zero_le _⟩ (fun H locs hP hS => ?_)
          refine tpl (z := (lB (s_entry n po d (nI k) (nI b)))) (by rw [s_entry, if_neg hc, if_neg hc2, if_neg hc3, if_neg (le_ng hc4), nI_clamp (by omega), nI_clamp (by omega)]) ?_
          exact hret _ _ _ _ d_M_entry_39 hS
        · refine lv_lconst (v := lB 0#64) hx hb d_M_entry_21 rfl ?_
          refine tpl (z := (lB (s_entry n po d kk bb))) (by rw [s_entry, if_neg hc, if_neg hc2, if_neg hc3, if_pos (nle_g hc4)]) ?_
          exact hret _ _ _ _ d_M_entry_22 hS

set_option maxHeartbeats 4000000 in
set_option maxRecDepth 100000 in
theorem c_M_zeros (l : Launch) (D : va_G) (cL cB cI : ClassId) (m0 b0 cnt n : Nat) (po fi la : BitVec 64) (d o : Bool) (R : BitVec 64) (bits : Int32) (hn : 1 ≤ n ∧ n ≤ 64) (hp : q_M n po) : Met l y_M_zeros (Cond.code y_M_zeros b_M_zeros 4 (some .long) :: g_tbl) (rmO 5 127) (RoP D cL cB cI [(m0, .inr (3, mf n po fi la d o b0 cnt))] [.ref m0, .long (lB R), .int bits]) (RoL (lB (s_zeros n po R bits))) 0 0 (fun _ => False) := by
  refine ro_startL (by decide) (Nat.le_of_ble_eq_true rfl) ?_
  intro p e s m below meth c ls Q F hP hK hl hret
  have hx := F.1
  have hb := F.2.1
  have hown := F.2.2.2.1
  have hT := F.2.2.2.2
  have hS : va_S (fun _ => False) s.heap s.heap [] := va_S.rf
  have hl : lv_has ls 4 [(0, .ref m0), (1, .long (lB R)), (3, .int bits)] := hl
  refine lv_iload_n hx hb d_M_zeros_0 rfl (lv_at hl 2 rfl) ?_
  refine lv_if_lt (tgt := 10) hx hb d_M_zeros_1 (by decide) (fun hc => ?_) (fun hc => ?_)
  · refine lv_lconst (v := lB 0#64) hx hb d_M_zeros_10 rfl ?_
    refine lv_goto (tgt := 25) hx hb d_M_zeros_11 (by decide) ?_
    refine tpl (z := (lB (s_zeros n po R bits))) (by rw [s_zeros, if_pos hc]) ?_
    exact hret _ _ _ _ d_M_zeros_25 hS
  · refine lv_iload_n hx hb d_M_zeros_4 rfl (lv_at hl 2 rfl) ?_
    refine lv_ldc hx hb hown (hT _ ci_M_79) d_M_zeros_5 ?_
    refine tpi (z := nI 1000000) (by decide) ?_
    refine lv_icmp_le (tgt := 14) hx hb d_M_zeros_7 (by decide) (fun hc2 => ?_) (fun hc2 => ?_)
    · obtain ⟨k, hk, rfl⟩ := nI_of_le hc (by decide) (le_ng hc2)
      refine lv_aload_n hx hb d_M_zeros_14 rfl (lv_at hl 0 rfl) ?_
      refine lv_aload_n hx hb d_M_zeros_15 rfl (lv_at hl 0 rfl) ?_
      refine lv_lload_n hx hb d_M_zeros_16 rfl (lv_at hl 1 rfl) ?_
      refine roVL (rest := [.ref m0]) F (c_M_cut l D cL cB cI m0 b0 cnt n po fi la d o R hn) k_M_cut ml_M_42 ⟨rfl, rfl, by decide, by decide⟩ hK hP hS (hP.sub [0] rfl) rfl rfl rfl rfl hl.1 rfl (Nat.le_of_ble_eq_true rfl) d_M_zeros_17 ⟨Nat.zero_le _, Nat.zero_le _⟩ (fun H locs hP hS => ?_)
      refine lv_iload_n hx hb d_M_zeros_20 rfl (lv_at hl 2 rfl) ?_
      refine lv_i2l (v := lN k) hx hb d_M_zeros_21 (nI_l (by omega)) ?_
      refine roVL (rest := []) F (c_M_behind l D cL cB cI m0 b0 cnt n po fi la d o (R &&& q_mk n) k hn hp (M_and _) (by omega)) k_M_behind ml_M_76 ⟨rfl, rfl, by decide, by decide⟩ hK hP hS (hP.sub [0] rfl) rfl rfl rfl rfl hl.1 rfl (Nat.le_of_ble_eq_true rfl) d_M_zeros_22 ⟨Nat.zero_le _, Nat.zero_le _⟩ (fun H locs hP hS => ?_)
      refine tpl (z := (lB (s_zeros n po R (nI k)))) (by rw [s_zeros, if_neg hc, if_pos hc2, nI_clamp (by omega)]) ?_
      exact hret _ _ _ _ d_M_zeros_25 hS
    · refine lv_lconst (v := lB 0#64) hx hb d_M_zeros_10 rfl ?_
      refine lv_goto (tgt := 25) hx hb d_M_zeros_11 (by decide) ?_
      refine tpl (z := (lB (s_zeros n po R bits))) (by rw [s_zeros, if_neg hc, if_neg hc2]) ?_
      exact hret _ _ _ _ d_M_zeros_25 hS

set_option maxHeartbeats 4000000 in
set_option maxRecDepth 100000 in
theorem c_M_round (l : Launch) (D : va_G) (cL cB cI : ClassId) (m0 b0 cnt n : Nat) (po fi la : BitVec 64) (d o : Bool) (hn : 1 ≤ n ∧ n ≤ 64) : Met l y_M_round (Cond.code y_M_round b_M_round 4 (some .int) :: g_tbl) (rmO 3 70) (RoP D cL cB cI [(m0, .inr (3, mf n po fi la d o b0 cnt))] [.ref m0]) (RoI (q_ro n po 1 4096)) 0 0 (fun _ => False) := by
  refine ro_startI (by decide) (Nat.le_of_ble_eq_true rfl) ?_
  intro p e s m below meth c ls Q F hP hK hl hret
  have hx := F.1
  have hb := F.2.1
  have hown := F.2.2.2.1
  have hT := F.2.2.2.2
  have hS : va_S (fun _ => False) s.heap s.heap [] := va_S.rf
  have hl : lv_has ls 4 [(0, .ref m0)] := hl
  refine lv_lconst (v := lB 1#64) hx hb d_M_round_0 rfl ?_
  refine lv_lstore_n (lv' := [(1, .long (lB 1#64)), (0, .ref m0)]) hx hb d_M_round_1 rfl hl (by decide) rfl (fun ls hl => ?_)
  refine lv_iconst (v := nI 1) hx hb d_M_round_2 (by decide) ?_
  refine lv_istore_n (lv' := [(3, .int (nI 1)), (1, .long (lB 1#64)), (0, .ref m0)]) hx hb d_M_round_3 rfl hl (by decide) rfl (fun ls hl => ?_)
  have loop4 : ∀ (j i : Nat), i + j = 4096 → q_ro n po (i + 1) j = q_ro n po 1 4096 → ∀ (ls : Array Slot) (H : Heap) (locs : List Loc), va_P D classes [(m0, .inr (3, mf n po fi la d o b0 cnt))] H → va_S (fun _ => False) s.heap H locs → lv_has ls 4 [(0, .ref m0), (1, .long (lB (q_xp n po 1#64 i))), (3, .int (nI (i + 1)))] → W p l e (rmO 3 70) s m ([.ref m0] : List Value).toArray below meth c H locs 0 0 Q (F0 m 4 ls []) := by
    intro j
    induction j with
    | zero =>
      intro i hij hz ls H locs hP hS hl
      refine lv_iload_n hx hb d_M_round_4 rfl (lv_at hl 2 rfl) ?_
      refine lv_sipush (v := nI 4096) hx hb d_M_round_5 (by decide) ?_
      refine nt_icmp_gt (a := (i + 1)) (b := 4096) (tgt := 32) hx hb (by omega) (by omega) d_M_round_8 (by decide) (fun hc => ?_) (fun hc => absurd hc (by omega))
      refine lv_iconst (v := (-1)) hx hb d_M_round_32 (by decide) ?_
      refine tpi (z := (q_ro n po 1 4096)) hz ?_
      exact hret _ _ _ _ d_M_round_33 hS
    | succ j ih =>
      intro i hij hz ls H locs hP hS hl
      refine lv_iload_n hx hb d_M_round_4 rfl (lv_at hl 2 rfl) ?_
      refine lv_sipush (v := nI 4096) hx hb d_M_round_5 (by decide) ?_
      refine nt_icmp_gt (a := (i + 1)) (b := 4096) (tgt := 32) hx hb (by omega) (by omega) d_M_round_8 (by decide) (fun hc => absurd hc (by omega)) (fun hc => ?_)
      refine lv_aload_n hx hb d_M_round_11 rfl (lv_at hl 0 rfl) ?_
      refine lv_lload_n hx hb d_M_round_12 rfl (lv_at hl 1 rfl) ?_
      refine lv_iconst (v := nI 0) hx hb d_M_round_13 (by decide) ?_
      refine roVL (rest := []) F (c_M_bit l D cL cB cI m0 b0 cnt n po fi la d o (q_xp n po 1#64 i) false hn) k_M_bit ml_M_49 ⟨rfl, rfl, by decide, by decide⟩ hK hP hS (hP.sub [0] rfl) rfl rfl rfl rfl hl.1 rfl (Nat.le_of_ble_eq_true rfl) d_M_round_14 ⟨Nat.zero_le _, Nat.zero_le _⟩ (fun H locs hP hS => ?_)
      refine tpl (z := (lB (q_xp n po 1#64 (i + 1)))) rfl ?_
      refine lv_lstore_n (lv' := [(1, .long (lB (q_xp n po 1#64 (i + 1)))), (0, .ref m0), (3, .int (nI (i + 1)))]) hx hb d_M_round_17 rfl hl (by decide) rfl (fun ls hl => ?_)
      refine lv_lload_n hx hb d_M_round_18 rfl (lv_at hl 0 rfl) ?_
      refine lv_lconst (v := lB 1#64) hx hb d_M_round_19 rfl ?_
      refine bl_ne (a := (q_xp n po 1#64 (i + 1))) (b := 1#64) (tgt := 26) hx hb d_M_round_20 d_M_round_21 (by decide) (fun hc2 => ?_) (fun hc2 => ?_)
      · refine lv_iinc (v := (nI (i + 1 + 1))) (lv' := [(3, .int (nI (i + 1 + 1))), (1, .long (lB (q_xp n po 1#64 (i + 1)))), (0, .ref m0)]) hx hb d_M_round_26 hl (k := 2) rfl (nI_inc1 _) (by decide) rfl (fun ls hl => ?_)
        refine lv_goto (tgt := 4) hx hb d_M_round_29 (by decide) ?_
        exact ih (i + 1) (by omega) (by rw [← hz]; exact (if_neg hc2).symm) ls H locs hP hS (lv_sub hl [2, 1, 0] rfl)
      · refine lv_iload_n hx hb d_M_round_24 rfl (lv_at hl 2 rfl) ?_
        refine tpi (z := (q_ro n po 1 4096)) (by rw [← hz]; exact (if_pos hc2).symm) ?_
        exact hret _ _ _ _ d_M_round_25 hS
  exact loop4 (4096) 0 (by omega) rfl ls s.heap [] hP hS (lv_sub hl [2, 1, 0] rfl)

set_option maxHeartbeats 4000000 in
set_option maxRecDepth 100000 in
theorem c_M_holds (l : Launch) (D : va_G) (cL cB cI : ClassId) (m0 b0 cnt n : Nat) (po fi la : BitVec 64) (d o : Bool)  : Met l y_M_holds (Cond.code y_M_holds b_M_holds 1 (some .boolean) :: g_tbl) (rmO 0 0) (RoP D cL cB cI [(m0, .inr (3, mf n po fi la d o b0 cnt))] [.ref m0]) (RoI (bz true)) 0 0 (fun _ => False) := by
  refine ro_startZ (by decide) (Nat.le_of_ble_eq_true rfl) (by rfl) ?_
  intro p e s m below meth c ls Q F hP hK hl hret
  have hx := F.1
  have hb := F.2.1
  have hown := F.2.2.2.1
  have hT := F.2.2.2.2
  have hS : va_S (fun _ => False) s.heap s.heap [] := va_S.rf
  have hl : lv_has ls 1 [(0, .ref m0)] := hl
  refine lv_iconst (v := nI 1) hx hb d_M_holds_0 (by decide) ?_
  refine tpi (z := (bz true)) rfl ?_
  exact hret _ _ _ _ d_M_holds_1 hS

set_option maxHeartbeats 4000000 in
set_option maxRecDepth 100000 in
theorem c_M_count (l : Launch) (D : va_G) (cL cB cI : ClassId) (m0 b0 cnt n : Nat) (po fi la : BitVec 64) (d o : Bool) (wh : Int32)  : Met l y_M_count (Cond.code y_M_count b_M_count 2 (some .int) :: g_tbl) (rmO 0 0) (RoP D cL cB cI [(m0, .inr (3, mf n po fi la d o b0 cnt))] [.ref m0, .int wh]) (RoI (s_count cnt n d o wh)) 0 0 (fun _ => False) := by
  refine ro_startI (by decide) (Nat.le_of_ble_eq_true rfl) ?_
  intro p e s m below meth c ls Q F hP hK hl hret
  have hx := F.1
  have hb := F.2.1
  have hown := F.2.2.2.1
  have hT := F.2.2.2.2
  have hS : va_S (fun _ => False) s.heap s.heap [] := va_S.rf
  have hl : lv_has ls 2 [(0, .ref m0), (1, .int wh)] := hl
  refine lv_iload_n hx hb d_M_count_0 rfl (lv_at hl 1 rfl) ?_
  by_cases hs0 : wh = 0
  · subst hs0
    refine lv_tableIn (x := 0) (off := 31) (tgt := 32) hx hb d_M_count_1 (by decide) (by decide) rfl (by decide) ?_
    refine lv_aload_n hx hb d_M_count_32 rfl (lv_at hl 0 rfl) ?_
    refine gf_M_46 (v := .int (nI cnt)) F hK hP 0 rfl rfl d_M_count_33 ?_
    refine tpi (z := (s_count cnt n d o 0)) rfl ?_
    exact hret _ _ _ _ d_M_count_36 hS
  by_cases hs1 : wh = 1
  · subst hs1
    refine lv_tableIn (x := 1) (off := 36) (tgt := 37) hx hb d_M_count_1 (by decide) (by decide) rfl (by decide) ?_
    refine lv_aload_n hx hb d_M_count_37 rfl (lv_at hl 0 rfl) ?_
    refine gf_M_7 (v := .int (nI n)) F hK hP 0 rfl rfl d_M_count_38 ?_
    refine tpi (z := (s_count cnt n d o 1)) rfl ?_
    exact hret _ _ _ _ d_M_count_41 hS
  by_cases hs2 : wh = 2
  · subst hs2
    refine lv_tableIn (x := 2) (off := 41) (tgt := 42) hx hb d_M_count_1 (by decide) (by decide) rfl (by decide) ?_
    refine lv_aload_n hx hb d_M_count_42 rfl (lv_at hl 0 rfl) ?_
    refine gf_M_27 (v := .int (bz d)) F hK hP 0 rfl rfl d_M_count_43 ?_
    refine bz_ifeq (b := d) (tgt := 53) hx hb d_M_count_46 (by decide) (fun hc => ?_) (fun hc => ?_)
    · subst hc
      refine lv_iconst (v := nI 0) hx hb d_M_count_53 (by decide) ?_
      refine tpi (z := (s_count cnt n false o 2)) rfl ?_
      exact hret _ _ _ _ d_M_count_54 hS
    · subst hc
      refine lv_iconst (v := nI 1) hx hb d_M_count_49 (by decide) ?_
      refine lv_goto (tgt := 54) hx hb d_M_count_50 (by decide) ?_
      refine tpi (z := (s_count cnt n true o 2)) rfl ?_
      exact hret _ _ _ _ d_M_count_54 hS
  by_cases hs3 : wh = 3
  · subst hs3
    refine lv_tableIn (x := 3) (off := 54) (tgt := 55) hx hb d_M_count_1 (by decide) (by decide) rfl (by decide) ?_
    refine lv_aload_n hx hb d_M_count_55 rfl (lv_at hl 0 rfl) ?_
    refine gf_M_31 (v := .int (bz o)) F hK hP 0 rfl rfl d_M_count_56 ?_
    refine bz_ifeq (b := o) (tgt := 66) hx hb d_M_count_59 (by decide) (fun hc => ?_) (fun hc => ?_)
    · subst hc
      refine lv_iconst (v := nI 0) hx hb d_M_count_66 (by decide) ?_
      refine tpi (z := (s_count cnt n d false 3)) rfl ?_
      exact hret _ _ _ _ d_M_count_67 hS
    · subst hc
      refine lv_iconst (v := nI 1) hx hb d_M_count_62 (by decide) ?_
      refine lv_goto (tgt := 67) hx hb d_M_count_63 (by decide) ?_
      refine tpi (z := (s_count cnt n d true 3)) rfl ?_
      exact hret _ _ _ _ d_M_count_67 hS
  refine lv_tableOut (tgt := 68) hx hb d_M_count_1 (sw4 hs0 hs1 hs2 hs3) (by decide) ?_
  refine lv_iconst (v := (-1)) hx hb d_M_count_68 (by decide) ?_
  refine tpi (z := (s_count cnt n d o wh)) (by rw [s_count, if_neg hs0, if_neg hs1, if_neg hs2, if_neg hs3]) ?_
  exact hret _ _ _ _ d_M_count_69 hS

set_option maxHeartbeats 4000000 in
set_option maxRecDepth 100000 in
theorem c_M_toldI (l : Launch) (D : va_G) (cL cB cI : ClassId) (m0 b0 cnt n : Nat) (po fi la : BitVec 64) (d o : Bool) (wh : Int32)  : Met l y_M_toldI (Cond.code y_M_toldI b_M_toldI 2 (some .long) :: g_tbl) (rmO 0 0) (RoP D cL cB cI [(m0, .inr (3, mf n po fi la d o b0 cnt))] [.ref m0, .int wh]) (RoL (lB (s_told po fi la wh))) 0 0 (fun _ => False) := by
  refine ro_startL (by decide) (Nat.le_of_ble_eq_true rfl) ?_
  intro p e s m below meth c ls Q F hP hK hl hret
  have hx := F.1
  have hb := F.2.1
  have hown := F.2.2.2.1
  have hT := F.2.2.2.2
  have hS : va_S (fun _ => False) s.heap s.heap [] := va_S.rf
  have hl : lv_has ls 2 [(0, .ref m0), (1, .int wh)] := hl
  refine lv_iload_n hx hb d_M_toldI_0 rfl (lv_at hl 1 rfl) ?_
  refine lv_if_ne (tgt := 11) hx hb d_M_toldI_1 (by decide) (fun hc => ?_) (fun hc => ?_)
  · refine lv_iload_n hx hb d_M_toldI_11 rfl (lv_at hl 1 rfl) ?_
    refine lv_iconst (v := nI 1) hx hb d_M_toldI_12 (by decide) ?_
    refine lv_icmp_ne (tgt := 23) hx hb d_M_toldI_13 (by decide) (fun hc2 => ?_) (fun hc2 => ?_)
    · refine lv_iload_n hx hb d_M_toldI_23 rfl (lv_at hl 1 rfl) ?_
      refine lv_iconst (v := nI 2) hx hb d_M_toldI_24 (by decide) ?_
      refine lv_icmp_ne (tgt := 35) hx hb d_M_toldI_25 (by decide) (fun hc3 => ?_) (fun hc3 => ?_)
      · refine lv_lconst (v := lB 0#64) hx hb d_M_toldI_35 rfl ?_
        refine tpl (z := (lB (s_told po fi la wh))) (by rw [s_told, if_neg hc, if_neg (show ¬ wh = 1 from hc2), if_neg (show ¬ wh = 2 from hc3)]) ?_
        exact hret _ _ _ _ d_M_toldI_36 hS
      · refine lv_aload_n hx hb d_M_toldI_28 rfl (lv_at hl 0 rfl) ?_
        refine gf_M_24 (v := .long (lB la)) F hK hP 0 rfl rfl d_M_toldI_29 ?_
        refine lv_goto (tgt := 36) hx hb d_M_toldI_32 (by decide) ?_
        refine tpl (z := (lB (s_told po fi la wh))) (by rw [s_told, if_neg hc, if_neg (show ¬ wh = 1 from hc2), if_pos (show wh = 2 from hc3)]) ?_
        exact hret _ _ _ _ d_M_toldI_36 hS
    · refine lv_aload_n hx hb d_M_toldI_16 rfl (lv_at hl 0 rfl) ?_
      refine gf_M_21 (v := .long (lB fi)) F hK hP 0 rfl rfl d_M_toldI_17 ?_
      refine lv_goto (tgt := 36) hx hb d_M_toldI_20 (by decide) ?_
      refine tpl (z := (lB (s_told po fi la wh))) (by rw [s_told, if_neg hc, if_pos (show wh = 1 from hc2)]) ?_
      exact hret _ _ _ _ d_M_toldI_36 hS
  · refine lv_aload_n hx hb d_M_toldI_4 rfl (lv_at hl 0 rfl) ?_
    refine gf_M_15 (v := .long (lB po)) F hK hP 0 rfl rfl d_M_toldI_5 ?_
    refine lv_goto (tgt := 36) hx hb d_M_toldI_8 (by decide) ?_
    refine tpl (z := (lB (s_told po fi la wh))) (by rw [s_told, if_pos hc]) ?_
    exact hret _ _ _ _ d_M_toldI_36 hS
end
section
/-! ===== what is fed, flipped, chosen ===== -/
def q_fok (cnt : Nat) (b t : Int32) : Bool := !decide (b < 0) && (!decide (nI 255 < b) && (!decide (t < nI 1) && !decide (nI (5000 - cnt) < t)))
def q_fill (dt : Nat → Nat) (cnt b i : Nat) : Nat → Nat := fun j => if cnt ≤ j ∧ j < cnt + i then b else dt j
def s_fdt (dt : Nat → Nat) (cnt : Nat) (b t : Int32) : Nat → Nat := if q_fok cnt b t then q_fill dt cnt b.toNatClampNeg t.toNatClampNeg else dt
def s_fcnt (cnt : Nat) (b t : Int32) : Nat := if q_fok cnt b t then cnt + t.toNatClampNeg else cnt
theorem fill_0 (dt : Nat → Nat) (cnt b : Nat) : q_fill dt cnt b 0 = dt := by
  funext j; unfold q_fill; rw [if_neg (by omega)]
theorem fill_s {α : Type} (g : Nat → α) (dt : Nat → Nat) (cnt b i : Nat) : (fun j => if j = cnt + i then g b else g (q_fill dt cnt b i j)) = fun j => g (q_fill dt cnt b (i + 1) j) := by
  funext j
  unfold q_fill
  by_cases h : j = cnt + i
  · rw [if_pos h, if_pos (by omega)]
  · rw [if_neg h]
    by_cases h2 : cnt ≤ j ∧ j < cnt + i
    · rw [if_pos h2, if_pos (by omega)]
    · rw [if_neg h2, if_neg (by omega)]
theorem upd_eq (f : Nat → Int32) (k : Nat) (x : Int32) : upd f k x = fun j => if j = k then x else f j := rfl
theorem fill_i (dt : Nat → Nat) (cnt b i : Nat) : upd (fun j => nI (q_fill dt cnt b i j)) (cnt + i) (nI b) = fun j => nI (q_fill dt cnt b (i + 1) j) := fill_s nI dt cnt b i
theorem fill_b (dt : Nat → Nat) (cnt b i : Nat) : upd (fun j => sb (q_fill dt cnt b i j)) (cnt + i) (vp_nar .byte (sb b)) = fun j => sb (q_fill dt cnt b (i + 1) j) := by
  rw [sb_nar]; exact fill_s sb dt cnt b i
theorem fok_no1 {cnt : Nat} {b t : Int32} (h : b < 0) : q_fok cnt b t = false := by simp [q_fok, h]
theorem fok_no2 {cnt : Nat} {b t : Int32} (h : nI 255 < b) : q_fok cnt b t = false := by simp [q_fok, h]
theorem fok_no3 {cnt : Nat} {b t : Int32} (h : t < nI 1) : q_fok cnt b t = false := by simp [q_fok, h]
theorem fok_no4 {cnt : Nat} {b t : Int32} (h : nI (5000 - cnt) < t) : q_fok cnt b t = false := by simp [q_fok, h]
theorem fok_yes {cnt : Nat} {b t : Int32} (h1 : ¬ b < 0) (h2 : ¬ nI 255 < b) (h3 : ¬ t < nI 1) (h4 : ¬ nI (5000 - cnt) < t) : q_fok cnt b t = true := by simp [q_fok, h1, h2, h3, h4]
theorem fdt_no {dt : Nat → Nat} {cnt : Nat} {b t : Int32} (h : q_fok cnt b t = false) : s_fdt dt cnt b t = dt := by rw [s_fdt, h]; rfl
theorem fcnt_no {cnt : Nat} {b t : Int32} (h : q_fok cnt b t = false) : s_fcnt cnt b t = cnt := by rw [s_fcnt, h]; rfl
theorem fdt_yes {dt : Nat → Nat} {cnt b t : Nat} (hb : b < 2 ^ 31) (ht : t < 2 ^ 31) (h : q_fok cnt (nI b) (nI t) = true) : s_fdt dt cnt (nI b) (nI t) = q_fill dt cnt b t := by rw [s_fdt, h, if_pos rfl, nI_clamp hb, nI_clamp ht]
theorem fcnt_yes {cnt t : Nat} {b : Int32} (ht : t < 2 ^ 31) (h : q_fok cnt b (nI t) = true) : s_fcnt cnt b (nI t) = cnt + t := by rw [s_fcnt, h, if_pos rfl, nI_clamp ht]
/-- a bit of the row is turned over -/
def q_lok (cnt : Nat) (i : Int32) : Bool := !decide (i < 0) && decide (i.toNatClampNeg / 8 < cnt)
def q_pl (d : Bool) (k : Nat) : Nat := if d then k % 8 else 7 - k % 8
def s_ldt (d : Bool) (dt : Nat → Nat) (cnt : Nat) (i : Int32) : Nat → Nat := if q_lok cnt i then fun j => if j = i.toNatClampNeg / 8 then dt j ^^^ 2 ^ q_pl d i.toNatClampNeg else dt j else dt
theorem lok_no1 {cnt : Nat} {i : Int32} (h : i < 0) : q_lok cnt i = false := by simp [q_lok, h]
theorem lok_no2 {cnt k : Nat} (hk : k < 2 ^ 31) (h : ¬ k / 8 < cnt) : q_lok cnt (nI k) = false := by simp [q_lok, nI_clamp hk]; omega
theorem lok_yes {cnt k : Nat} (hk : k < 2 ^ 31) (h : k / 8 < cnt) : q_lok cnt (nI k) = true := by simp [q_lok, nI_clamp hk, h, nI_pos hk]
theorem ldt_no {d : Bool} {dt : Nat → Nat} {cnt : Nat} {i : Int32} (h : q_lok cnt i = false) : s_ldt d dt cnt i = dt := by rw [s_ldt, h]; rfl
theorem ldt_yes {d : Bool} {dt : Nat → Nat} {cnt k : Nat} (hk : k < 2 ^ 31) (h : q_lok cnt (nI k) = true) : s_ldt d dt cnt (nI k) = fun j => if j = k / 8 then dt j ^^^ 2 ^ q_pl d k else dt j := by rw [s_ldt, h, if_pos rfl, nI_clamp hk]
theorem flip_g {α : Type} (g : Nat → α) (dt : Nat → Nat) (k v : Nat) : (fun j => if j = k / 8 then g (dt (k / 8) ^^^ v) else g (dt j)) = fun j => g (if j = k / 8 then dt j ^^^ v else dt j) := by
  funext j
  by_cases h : j = k / 8
  · rw [if_pos h, if_pos h, h]
  · rw [if_neg h, if_neg h]
theorem flip_i (dt : Nat → Nat) (k v : Nat) : upd (fun j => nI (dt j)) (k / 8) (nI (dt (k / 8) ^^^ v)) = fun j => nI (if j = k / 8 then dt j ^^^ v else dt j) := flip_g nI dt k v
theorem flip_b (dt : Nat → Nat) (k v : Nat) : upd (fun j => sb (dt j)) (k / 8) (vp_nar .byte (sb (dt (k / 8) ^^^ v))) = fun j => sb (if j = k / 8 then dt j ^^^ v else dt j) := by rw [sb_nar]; exact flip_g sb dt k v
theorem p7 : ∀ k, k < 8 → 128 / 2 ^ k = 2 ^ (7 - k) := by decide
/-- a kind is taken -/
def q_kok (wd : Int32) : Bool := !decide (wd < nI 1) && !decide (nI 64 < wd)
def q_kp {U : Type} (wd : Int32) (new old u : U) : Prop := (q_kok wd = true → u = new) ∧ (q_kok wd = false → u = old)
theorem kok_no1 {wd : Int32} (h : wd < nI 1) : q_kok wd = false := by simp [q_kok, h]
theorem kok_no2 {wd : Int32} (h : nI 64 < wd) : q_kok wd = false := by simp [q_kok, h]
theorem kok_yes {wd : Int32} (h1 : ¬ wd < nI 1) (h2 : ¬ nI 64 < wd) : q_kok wd = true := by simp [q_kok, h1, h2]
theorem kok_of {wd : Int32} (h1 : ¬ wd < nI 1) (h2 : ¬ nI 64 < wd) : ∃ k, 1 ≤ k ∧ k ≤ 64 ∧ wd = nI k := by
  obtain ⟨k, hk, rfl⟩ := nI_of_le (b := 64) (fun q => h1 (Int32.lt_trans q (by decide))) (by decide) h2
  exact ⟨k, Nat.not_lt.mp (fun q => h1 (nI_lt q (by decide))), hk, rfl⟩
set_option maxHeartbeats 4000000 in
set_option maxRecDepth 100000 in
theorem c_M_clear (l : Launch) (D : va_G) (cL cB cI : ClassId) (m0 b0 cnt n : Nat) (po fi la : BitVec 64) (d o : Bool) (dt : Nat → Nat) (sz : Nat)  : Met l y_M_clear (Cond.code y_M_clear b_M_clear 1 none :: g_tbl) (rmA 0 0 0 0) (MuP D cL cB cI [(m0, .inr (3, mf n po fi la d o b0 cnt)), (b0, .inl (cI, 5000, .inl (fun j => nI (dt j))))] sz [.ref m0]) (va_Qv (S := Unit) (fun _ => True) (MuB D [(m0, .inr (3, mf n po fi la d o b0 cnt)), (b0, .inl (cI, 5000, .inl (fun j => nI (dt j))))] sz (fun _ => [(m0, .inr (3, mf n po fi la d o b0 0)), (b0, .inl (cI, 5000, .inl (fun j => nI (dt j))))])) (va_A [(m0, .inr (3, mf n po fi la d o b0 cnt)), (b0, .inl (cI, 5000, .inl (fun j => nI (dt j))))] sz)) 0 0 (va_A [(m0, .inr (3, mf n po fi la d o b0 cnt)), (b0, .inl (cI, 5000, .inl (fun j => nI (dt j))))] sz) := by
  refine mu_startV sz (by decide) (Nat.le_of_ble_eq_true rfl) ?_
  intro p e s m below meth c ls Q A F hnm hP hK hD hA hl hret
  have hx := F.1
  have hb := F.2.1
  have hown := F.2.2.2.1
  have hT := F.2.2.2.2
  have hS : va_S A s.heap s.heap [] := va_S.rf
  have hl : lv_has ls 1 [(0, .ref m0)] := hl
  refine lv_aload_n hx hb d_M_clear_0 rfl (lv_at hl 0 rfl) ?_
  refine lv_iconst (v := nI 0) hx hb d_M_clear_1 (by decide) ?_
  refine pf_M_46 F hK hP hD hS 0 rfl rfl rfl (Nat.le_of_ble_eq_true rfl) d_M_clear_2 (fun H locs hP hD hS => ?_)
  have hP : va_P D classes [(m0, .inr (3, mf n po fi la d o b0 0)), (b0, .inl (cI, 5000, .inl (fun j => nI (dt j))))] H := hP
  have hD : va_D A [(m0, .inr (3, mf n po fi la d o b0 0)), (b0, .inl (cI, 5000, .inl (fun j => nI (dt j))))] := hD
  exact hret _ _ _ _ () d_M_clear_5 trivial (hP.sub [0, 1] rfl) (hD.sub [0, 1] (by decide) rfl) hS

set_option maxHeartbeats 4000000 in
set_option maxRecDepth 100000 in
theorem c_M_feed (l : Launch) (D : va_G) (cL cB cI : ClassId) (m0 b0 cnt n : Nat) (po fi la : BitVec 64) (d o : Bool) (dt : Nat → Nat) (bb tt : Int32) (sz : Nat) (hc5 : cnt ≤ 5000) : Met l y_M_feed (Cond.code y_M_feed b_M_feed 4 (some .boolean) :: g_tbl) (rmA 0 0 0 0) (MuP D cL cB cI [(m0, .inr (3, mf n po fi la d o b0 cnt)), (b0, .inl (cI, 5000, .inl (fun j => nI (dt j))))] sz [.ref m0, .int bb, .int tt]) (va_Qi (S := Unit) (fun r _ => r = bz (q_fok cnt bb tt)) (MuB D [(m0, .inr (3, mf n po fi la d o b0 cnt)), (b0, .inl (cI, 5000, .inl (fun j => nI (dt j))))] sz (fun _ => [(m0, .inr (3, mf n po fi la d o b0 (s_fcnt cnt bb tt))), (b0, .inl (cI, 5000, .inl (fun j => nI (s_fdt dt cnt bb tt j))))])) (va_A [(m0, .inr (3, mf n po fi la d o b0 cnt)), (b0, .inl (cI, 5000, .inl (fun j => nI (dt j))))] sz)) 0 0 (va_A [(m0, .inr (3, mf n po fi la d o b0 cnt)), (b0, .inl (cI, 5000, .inl (fun j => nI (dt j))))] sz) := by
  refine mu_startZ sz (by decide) (Nat.le_of_ble_eq_true rfl) ?_
  intro p e s m below meth c ls Q A F hnm hP hK hD hA hl hret
  have hx := F.1
  have hb := F.2.1
  have hown := F.2.2.2.1
  have hT := F.2.2.2.2
  have hS : va_S A s.heap s.heap [] := va_S.rf
  have hl : lv_has ls 4 [(0, .ref m0), (1, .int bb), (2, .int tt)] := hl
  refine lv_iload_n hx hb d_M_feed_0 rfl (lv_at hl 1 rfl) ?_
  refine lv_if_lt (tgt := 28) hx hb d_M_feed_1 (by decide) (fun hc => ?_) (fun hc => ?_)
  · refine lv_iconst (v := nI 0) hx hb d_M_feed_28 (by decide) ?_
    have hk := fok_no1 (cnt := cnt) (t := tt) hc
    rw [fdt_no hk, fcnt_no hk, hk] at hret
    refine tpi (z := (bz false)) rfl ?_
    exact hret _ _ _ _ _ () d_M_feed_29 (bz_nz _) rfl (hP.sub [0, 1] rfl) (hD.sub [0, 1] (by decide) rfl) hS
  · refine lv_iload_n hx hb d_M_feed_4 rfl (lv_at hl 1 rfl) ?_
    refine lv_sipush (v := nI 255) hx hb d_M_feed_5 (by decide) ?_
    refine lv_icmp_gt (tgt := 28) hx hb d_M_feed_8 (by decide) (fun hc2 => ?_) (fun hc2 => ?_)
    · refine lv_iconst (v := nI 0) hx hb d_M_feed_28 (by decide) ?_
      have hk := fok_no2 (cnt := cnt) (t := tt) hc2
      rw [fdt_no hk, fcnt_no hk, hk] at hret
      refine tpi (z := (bz false)) rfl ?_
      exact hret _ _ _ _ _ () d_M_feed_29 (bz_nz _) rfl (hP.sub [0, 1] rfl) (hD.sub [0, 1] (by decide) rfl) hS
    · refine lv_iload_n hx hb d_M_feed_11 rfl (lv_at hl 2 rfl) ?_
      refine lv_iconst (v := nI 1) hx hb d_M_feed_12 (by decide) ?_
      refine lv_icmp_lt (tgt := 28) hx hb d_M_feed_13 (by decide) (fun hc3 => ?_) (fun hc3 => ?_)
      · refine lv_iconst (v := nI 0) hx hb d_M_feed_28 (by decide) ?_
        have hk := fok_no3 (cnt := cnt) (b := bb) hc3
        rw [fdt_no hk, fcnt_no hk, hk] at hret
        refine tpi (z := (bz false)) rfl ?_
        exact hret _ _ _ _ _ () d_M_feed_29 (bz_nz _) rfl (hP.sub [0, 1] rfl) (hD.sub [0, 1] (by decide) rfl) hS
      · refine lv_iload_n hx hb d_M_feed_16 rfl (lv_at hl 2 rfl) ?_
        refine lv_sipush (v := nI 5000) hx hb d_M_feed_17 (by decide) ?_
        refine lv_aload_n hx hb d_M_feed_20 rfl (lv_at hl 0 rfl) ?_
        refine gf_M_46 (v := .int (nI cnt)) F hK hP 0 rfl rfl d_M_feed_21 ?_
        refine nt_isub (x := 5000) hx hb (by omega) d_M_feed_24 ?_
        refine lv_icmp_le (tgt := 30) hx hb d_M_feed_25 (by decide) (fun hc4 => ?_) (fun hc4 => ?_)
        · have hok := fok_yes hc hc2 hc3 (le_ng hc4)
          obtain ⟨b, hb4, rfl⟩ := nI_of_le hc (by decide) hc2
          obtain ⟨k, hk, rfl⟩ := nI_of_le (b := 5000 - cnt) (x := tt) (fun q => hc3 (Int32.lt_trans q (by decide))) (by omega) (le_ng hc4)
          rw [fdt_yes (by omega) (by omega) hok, fcnt_yes (by omega) hok, hok] at hret
          rw [← fill_0 dt cnt b] at hP hD
          refine lv_iconst (v := nI 0) hx hb d_M_feed_30 (by decide) ?_
          refine lv_istore_n (lv' := [(3, .int (nI 0)), (0, .ref m0), (1, .int (nI b)), (2, .int (nI k))]) hx hb d_M_feed_31 rfl hl (by decide) rfl (fun ls hl => ?_)
          have loop32 : ∀ (j i : Nat), i + j = k → ∀ (ls : Array Slot) (H : Heap) (locs : List Loc), va_P D classes [(m0, .inr (3, mf n po fi la d o b0 (cnt + i))), (b0, .inl (cI, 5000, .inl (fun j => nI (q_fill dt cnt b i j))))] H → va_D A [(m0, .inr (3, mf n po fi la d o b0 (cnt + i))), (b0, .inl (cI, 5000, .inl (fun j => nI (q_fill dt cnt b i j))))] → va_S A s.heap H locs → lv_has ls 4 [(0, .ref m0), (1, .int (nI b)), (2, .int (nI k)), (3, .int (nI i))] → W p l e (rmA 0 0 0 0) s m ([.ref m0, .int (nI b), .int (nI k)] : List Value).toArray below meth c H locs 0 0 Q (F0 m 32 ls []) := by
            intro j
            induction j with
            | zero =>
              intro i hij ls H locs hP hD hS hl
              refine lv_iload_n hx hb d_M_feed_32 rfl (lv_at hl 3 rfl) ?_
              refine lv_iload_n hx hb d_M_feed_33 rfl (lv_at hl 2 rfl) ?_
              refine nt_icmp_ge (a := i) (b := k) (tgt := 63) hx hb (by omega) (by omega) d_M_feed_34 (by decide) (fun hc5 => ?_) (fun hc5 => absurd hc5 (by omega))
              have hik : i = k := by omega
              subst hik
              refine lv_iconst (v := nI 1) hx hb d_M_feed_63 (by decide) ?_
              refine tpi (z := (bz true)) rfl ?_
              exact hret _ _ _ _ _ () d_M_feed_64 (bz_nz _) rfl (hP.sub [0, 1] rfl) (hD.sub [0, 1] (by decide) rfl) hS
            | succ j ih =>
              intro i hij ls H locs hP hD hS hl
              refine lv_iload_n hx hb d_M_feed_32 rfl (lv_at hl 3 rfl) ?_
              refine lv_iload_n hx hb d_M_feed_33 rfl (lv_at hl 2 rfl) ?_
              refine nt_icmp_ge (a := i) (b := k) (tgt := 63) hx hb (by omega) (by omega) d_M_feed_34 (by decide) (fun hc5 => absurd hc5 (by omega)) (fun hc5 => ?_)
              refine lv_aload_n hx hb d_M_feed_37 rfl (lv_at hl 0 rfl) ?_
              refine gf_M_34 (v := .ref b0) F hK hP 0 rfl rfl d_M_feed_38 ?_
              refine lv_aload_n hx hb d_M_feed_41 rfl (lv_at hl 0 rfl) ?_
              refine gf_M_46 (v := .int (nI (cnt + i))) F hK hP 0 rfl rfl d_M_feed_42 ?_
              refine lv_iload_n hx hb d_M_feed_45 rfl (lv_at hl 1 rfl) ?_
              refine nt_iast (j := (cnt + i)) hx hb hK hP hD hS 1 rfl (by omega) (by decide) d_M_feed_46 (fun H locs hP hD hS => ?_)
              rw [fill_i] at hP hD
              have hP : va_P D classes [(m0, .inr (3, mf n po fi la d o b0 (cnt + i))), (b0, .inl (cI, 5000, .inl (fun j => nI (q_fill dt cnt b (i + 1) j))))] H := hP
              have hD : va_D A [(m0, .inr (3, mf n po fi la d o b0 (cnt + i))), (b0, .inl (cI, 5000, .inl (fun j => nI (q_fill dt cnt b (i + 1) j))))] := hD
              refine lv_aload_n hx hb d_M_feed_47 rfl (lv_at hl 0 rfl) ?_
              refine lv_dup hx hb d_M_feed_48 rfl ?_
              refine gf_M_46 (v := .int (nI (cnt + i))) F hK hP 0 rfl rfl d_M_feed_49 ?_
              refine lv_iconst (v := nI 1) hx hb d_M_feed_52 (by decide) ?_
              refine nt_iadd (x := (cnt + i)) hx hb d_M_feed_53 ?_
              refine pf_M_46 F hK hP hD hS 0 rfl rfl rfl (Nat.le_of_ble_eq_true rfl) d_M_feed_54 (fun H locs hP hD hS => ?_)
              have hP : va_P D classes [(m0, .inr (3, mf n po fi la d o b0 (cnt + i + 1))), (b0, .inl (cI, 5000, .inl (fun j => nI (q_fill dt cnt b (i + 1) j))))] H := hP
              have hD : va_D A [(m0, .inr (3, mf n po fi la d o b0 (cnt + i + 1))), (b0, .inl (cI, 5000, .inl (fun j => nI (q_fill dt cnt b (i + 1) j))))] := hD
              refine lv_iinc (v := (nI (i + 1))) (lv' := [(3, .int (nI (i + 1))), (0, .ref m0), (1, .int (nI b)), (2, .int (nI k))]) hx hb d_M_feed_57 hl (k := 3) rfl (nI_inc1 _) (by decide) rfl (fun ls hl => ?_)
              refine lv_goto (tgt := 32) hx hb d_M_feed_60 (by decide) ?_
              exact ih (i + 1) (by omega) ls H locs hP hD hS (lv_sub hl [1, 2, 3, 0] rfl)
          exact loop32 (k) 0 (by omega) ls s.heap [] hP hD hS (lv_sub hl [1, 2, 3, 0] rfl)
        · refine lv_iconst (v := nI 0) hx hb d_M_feed_28 (by decide) ?_
          have hk := fok_no4 (b := bb) (nle_g hc4)
          rw [fdt_no hk, fcnt_no hk, hk] at hret
          refine tpi (z := (bz false)) rfl ?_
          exact hret _ _ _ _ _ () d_M_feed_29 (bz_nz _) rfl (hP.sub [0, 1] rfl) (hD.sub [0, 1] (by decide) rfl) hS

theorem p_lt {k : Nat} (h : k < 8) : 1 * 2 ^ k < 2 ^ 32 := by rw [Nat.one_mul]; exact Nat.pow_lt_pow_right (by decide) (by omega)
set_option maxHeartbeats 4000000 in
set_option maxRecDepth 100000 in
theorem c_M_flip (l : Launch) (D : va_G) (cL cB cI : ClassId) (m0 b0 cnt n : Nat) (po fi la : BitVec 64) (d o : Bool) (dt : Nat → Nat) (ii : Int32) (sz : Nat) (hc5 : cnt ≤ 5000) : Met l y_M_flip (Cond.code y_M_flip b_M_flip 2 (some .boolean) :: g_tbl) (rmA 0 0 0 0) (MuP D cL cB cI [(m0, .inr (3, mf n po fi la d o b0 cnt)), (b0, .inl (cI, 5000, .inl (fun j => nI (dt j))))] sz [.ref m0, .int ii]) (va_Qi (S := Unit) (fun r _ => r = bz (q_lok cnt ii)) (MuB D [(m0, .inr (3, mf n po fi la d o b0 cnt)), (b0, .inl (cI, 5000, .inl (fun j => nI (dt j))))] sz (fun _ => [(m0, .inr (3, mf n po fi la d o b0 cnt)), (b0, .inl (cI, 5000, .inl (fun j => nI (s_ldt d dt cnt ii j))))])) (va_A [(m0, .inr (3, mf n po fi la d o b0 cnt)), (b0, .inl (cI, 5000, .inl (fun j => nI (dt j))))] sz)) 0 0 (va_A [(m0, .inr (3, mf n po fi la d o b0 cnt)), (b0, .inl (cI, 5000, .inl (fun j => nI (dt j))))] sz) := by
  refine mu_startZ sz (by decide) (Nat.le_of_ble_eq_true rfl) ?_
  intro p e s m below meth c ls Q A F hnm hP hK hD hA hl hret
  have hx := F.1
  have hb := F.2.1
  have hown := F.2.2.2.1
  have hT := F.2.2.2.2
  have hS : va_S A s.heap s.heap [] := va_S.rf
  have hl : lv_has ls 2 [(0, .ref m0), (1, .int ii)] := hl
  refine lv_iload_n hx hb d_M_flip_0 rfl (lv_at hl 1 rfl) ?_
  refine lv_if_lt (tgt := 15) hx hb d_M_flip_1 (by decide) (fun hc => ?_) (fun hc => ?_)
  · refine lv_iconst (v := nI 0) hx hb d_M_flip_15 (by decide) ?_
    have hk := lok_no1 (cnt := cnt) hc
    rw [ldt_no hk, hk] at hret
    refine tpi (z := (bz false)) rfl ?_
    exact hret _ _ _ _ _ () d_M_flip_16 (bz_nz _) rfl (hP.sub [0, 1] rfl) (hD.sub [0, 1] (by decide) rfl) hS
  · obtain ⟨k, hk2, rfl⟩ := nI_of hc
    refine lv_iload_n hx hb d_M_flip_4 rfl (lv_at hl 1 rfl) ?_
    refine lv_bipush (v := nI 8) hx hb d_M_flip_5 (by decide) ?_
    refine lv_aload_n hx hb d_M_flip_7 rfl (lv_at hl 0 rfl) ?_
    refine gf_M_46 (v := .int (nI cnt)) F hK hP 0 rfl rfl d_M_flip_8 ?_
    refine nt_imul (x := 8) hx hb d_M_flip_11 ?_
    refine nt_icmp_lt (a := k) (b := (8 * cnt)) (tgt := 17) hx hb (by omega) (by omega) d_M_flip_12 (by decide) (fun hc2 => ?_) (fun hc2 => ?_)
    · have hok := lok_yes hk2 (show k / 8 < cnt by omega)
      rw [ldt_yes hk2 hok, hok] at hret
      refine lv_aload_n hx hb d_M_flip_17 rfl (lv_at hl 0 rfl) ?_
      refine gf_M_34 (v := .ref b0) F hK hP 0 rfl rfl d_M_flip_18 ?_
      refine lv_iload_n hx hb d_M_flip_21 rfl (lv_at hl 1 rfl) ?_
      refine lv_bipush (v := nI 8) hx hb d_M_flip_22 (by decide) ?_
      refine lv_idiv hx hb d_M_flip_24 (by decide) ?_
      refine tpi (z := (nI (k / 8))) (pk_div hk2 (by decide) (by decide)) ?_
      refine lv_dup2_11 hx hb d_M_flip_25 rfl rfl ?_
      refine nt_iald (j := (k / 8)) hx hb hK hP 1 rfl (by omega) (by decide) d_M_flip_26 ?_
      refine lv_aload_n hx hb d_M_flip_27 rfl (lv_at hl 0 rfl) ?_
      refine gf_M_27 (v := .int (bz d)) F hK hP 0 rfl rfl d_M_flip_28 ?_
      refine bz_ifeq (b := d) (tgt := 43) hx hb d_M_flip_31 (by decide) (fun hc3 => ?_) (fun hc3 => ?_)
      · subst hc3
        refine lv_sipush (v := nI 128) hx hb d_M_flip_43 (by decide) ?_
        refine lv_iload_n hx hb d_M_flip_46 rfl (lv_at hl 1 rfl) ?_
        refine lv_bipush (v := nI 8) hx hb d_M_flip_47 (by decide) ?_
        refine lv_irem hx hb d_M_flip_49 (by decide) ?_
        refine tpi (z := (nI (k % 8))) (pk_rem hk2 (by decide) (by decide)) ?_
        refine nt_ishr (x := 128) hx hb (by decide) (by omega) d_M_flip_50 ?_
        refine tpi (z := (nI (2 ^ (7 - k % 8)))) (by rw [p7 _ (by omega)]) ?_
        refine nt_ixor (x := (dt (k / 8))) hx hb d_M_flip_51 ?_
        refine nt_iast (j := (k / 8)) hx hb hK hP hD hS 1 rfl (by omega) (by decide) d_M_flip_52 (fun H locs hP hD hS => ?_)
        rw [flip_i] at hP hD
        have hP : va_P D classes [(m0, .inr (3, mf n po fi la false o b0 cnt)), (b0, .inl (cI, 5000, .inl (fun j => nI (if j = k / 8 then dt j ^^^ 2 ^ (7 - k % 8) else dt j))))] H := hP
        have hD : va_D A [(m0, .inr (3, mf n po fi la false o b0 cnt)), (b0, .inl (cI, 5000, .inl (fun j => nI (if j = k / 8 then dt j ^^^ 2 ^ (7 - k % 8) else dt j))))] := hD
        refine lv_iconst (v := nI 1) hx hb d_M_flip_53 (by decide) ?_
        refine tpi (z := (bz true)) rfl ?_
        exact hret _ _ _ _ _ () d_M_flip_54 (bz_nz _) rfl (hP.sub [0, 1] rfl) (hD.sub [0, 1] (by decide) rfl) hS
      · subst hc3
        refine lv_iconst (v := nI 1) hx hb d_M_flip_34 (by decide) ?_
        refine lv_iload_n hx hb d_M_flip_35 rfl (lv_at hl 1 rfl) ?_
        refine lv_bipush (v := nI 8) hx hb d_M_flip_36 (by decide) ?_
        refine lv_irem hx hb d_M_flip_38 (by decide) ?_
        refine tpi (z := (nI (k % 8))) (pk_rem hk2 (by decide) (by decide)) ?_
        refine nt_ishl (x := 1) hx hb (by omega) (p_lt (by omega)) d_M_flip_39 ?_
        refine lv_goto (tgt := 51) hx hb d_M_flip_40 (by decide) ?_
        refine tpi (z := (nI (2 ^ (k % 8)))) (by rw [Nat.one_mul]) ?_
        refine nt_ixor (x := (dt (k / 8))) hx hb d_M_flip_51 ?_
        refine nt_iast (j := (k / 8)) hx hb hK hP hD hS 1 rfl (by omega) (by decide) d_M_flip_52 (fun H locs hP hD hS => ?_)
        rw [flip_i] at hP hD
        have hP : va_P D classes [(m0, .inr (3, mf n po fi la true o b0 cnt)), (b0, .inl (cI, 5000, .inl (fun j => nI (if j = k / 8 then dt j ^^^ 2 ^ (k % 8) else dt j))))] H := hP
        have hD : va_D A [(m0, .inr (3, mf n po fi la true o b0 cnt)), (b0, .inl (cI, 5000, .inl (fun j => nI (if j = k / 8 then dt j ^^^ 2 ^ (k % 8) else dt j))))] := hD
        refine lv_iconst (v := nI 1) hx hb d_M_flip_53 (by decide) ?_
        refine tpi (z := (bz true)) rfl ?_
        exact hret _ _ _ _ _ () d_M_flip_54 (bz_nz _) rfl (hP.sub [0, 1] rfl) (hD.sub [0, 1] (by decide) rfl) hS
    · refine lv_iconst (v := nI 0) hx hb d_M_flip_15 (by decide) ?_
      have hk := lok_no2 (cnt := cnt) hk2 (by omega)
      rw [ldt_no hk, hk] at hret
      refine tpi (z := (bz false)) rfl ?_
      exact hret _ _ _ _ _ () d_M_flip_16 (bz_nz _) rfl (hP.sub [0, 1] rfl) (hD.sub [0, 1] (by decide) rfl) hS

set_option maxHeartbeats 4000000 in
set_option maxRecDepth 100000 in
theorem c_M_kind (l : Launch) (D : va_G) (cL cB cI : ClassId) (m0 b0 cnt n : Nat) (po fi la : BitVec 64) (d o : Bool) (dt : Nat → Nat) (wd : Int32) (P1 F1 : BitVec 64) (d1 o1 : Bool) (L1 : BitVec 64) (sz : Nat)  : Met l y_M_kind (Cond.code y_M_kind b_M_kind 10 (some .boolean) :: g_tbl) (rmA 2 0 0 44) (MuP D cL cB cI [(m0, .inr (3, mf n po fi la d o b0 cnt)), (b0, .inl (cI, 5000, .inl (fun j => nI (dt j))))] sz [.ref m0, .int wd, .long (lB P1), .long (lB F1), .int (bz d1), .int (bz o1), .long (lB L1)]) (va_Qi (S := (Nat × BitVec 64 × BitVec 64 × BitVec 64 × Bool × Bool)) (fun r u => r = bz (q_kok wd) ∧ q_kp wd (wd.toNatClampNeg, P1 &&& q_mk wd.toNatClampNeg, F1 &&& q_mk wd.toNatClampNeg, L1 &&& q_mk wd.toNatClampNeg, d1, o1) (n, po, fi, la, d, o) u) (MuB D [(m0, .inr (3, mf n po fi la d o b0 cnt)), (b0, .inl (cI, 5000, .inl (fun j => nI (dt j))))] sz (fun u => match u with | (n, po, fi, la, d, o) => [(m0, .inr (3, mf n po fi la d o b0 cnt)), (b0, .inl (cI, 5000, .inl (fun j => nI (dt j))))])) (va_A [(m0, .inr (3, mf n po fi la d o b0 cnt)), (b0, .inl (cI, 5000, .inl (fun j => nI (dt j))))] sz)) 0 0 (va_A [(m0, .inr (3, mf n po fi la d o b0 cnt)), (b0, .inl (cI, 5000, .inl (fun j => nI (dt j))))] sz) := by
  refine mu_startZ sz (by decide) (Nat.le_of_ble_eq_true rfl) ?_
  intro p e s m below meth c ls Q A F hnm hP hK hD hA hl hret
  have hx := F.1
  have hb := F.2.1
  have hown := F.2.2.2.1
  have hT := F.2.2.2.2
  have hS : va_S A s.heap s.heap [] := va_S.rf
  have hl : lv_has ls 10 [(0, .ref m0), (1, .int wd), (2, .long (lB P1)), (4, .long (lB F1)), (6, .int (bz d1)), (7, .int (bz o1)), (8, .long (lB L1))] := hl
  refine lv_iload_n hx hb d_M_kind_0 rfl (lv_at hl 1 rfl) ?_
  refine lv_iconst (v := nI 1) hx hb d_M_kind_1 (by decide) ?_
  refine lv_icmp_lt (tgt := 11) hx hb d_M_kind_2 (by decide) (fun hc => ?_) (fun hc => ?_)
  · refine lv_iconst (v := nI 0) hx hb d_M_kind_11 (by decide) ?_
    have hk := kok_no1 hc
    refine tpi (z := (bz false)) rfl ?_
    exact hret _ _ _ _ _ (n, po, fi, la, d, o) d_M_kind_12 (bz_nz _) ⟨by rw [hk], fun q => absurd (hk ▸ q) (by decide), fun _ => rfl⟩ (hP.sub [0, 1] rfl) (hD.sub [0, 1] (by decide) rfl) hS
  · refine lv_iload_n hx hb d_M_kind_5 rfl (lv_at hl 1 rfl) ?_
    refine lv_bipush (v := nI 64) hx hb d_M_kind_6 (by decide) ?_
    refine lv_icmp_le (tgt := 13) hx hb d_M_kind_8 (by decide) (fun hc2 => ?_) (fun hc2 => ?_)
    · have hok := kok_yes hc (le_ng hc2)
      obtain ⟨k, hk1, hk2, rfl⟩ := kok_of hc (le_ng hc2)
      refine lv_aload_n hx hb d_M_kind_13 rfl (lv_at hl 0 rfl) ?_
      refine lv_iload_n hx hb d_M_kind_14 rfl (lv_at hl 1 rfl) ?_
      refine pf_M_7 F hK hP hD hS 0 rfl rfl rfl (Nat.le_of_ble_eq_true rfl) d_M_kind_15 (fun H locs hP hD hS => ?_)
      have hP : va_P D classes [(m0, .inr (3, mf k po fi la d o b0 cnt)), (b0, .inl (cI, 5000, .inl (fun j => nI (dt j))))] H := hP
      have hD : va_D A [(m0, .inr (3, mf k po fi la d o b0 cnt)), (b0, .inl (cI, 5000, .inl (fun j => nI (dt j))))] := hD
      refine lv_aload_n hx hb d_M_kind_18 rfl (lv_at hl 0 rfl) ?_
      refine lv_aload_n hx hb d_M_kind_19 rfl (lv_at hl 0 rfl) ?_
      refine lv_lload_n hx hb d_M_kind_20 rfl (lv_at hl 2 rfl) ?_
      refine roVL (rest := [.ref m0]) F (c_M_cut l D cL cB cI m0 b0 cnt k po fi la d o P1 ⟨hk1, hk2⟩) k_M_cut ml_M_42 ⟨rfl, rfl, by decide, by decide⟩ hK hP hS (hP.sub [0] rfl) rfl rfl rfl rfl hl.1 rfl (Nat.le_of_ble_eq_true rfl) d_M_kind_21 ⟨Nat.le_of_ble_eq_true rfl, Nat.le_of_ble_eq_true rfl⟩ (fun H locs hP hS => ?_)
      refine pf_M_15 F hK hP hD hS 0 rfl rfl rfl (Nat.le_of_ble_eq_true rfl) d_M_kind_24 (fun H locs hP hD hS => ?_)
      have hP : va_P D classes [(m0, .inr (3, mf k (P1 &&& q_mk k) fi la d o b0 cnt)), (b0, .inl (cI, 5000, .inl (fun j => nI (dt j))))] H := hP
      have hD : va_D A [(m0, .inr (3, mf k (P1 &&& q_mk k) fi la d o b0 cnt)), (b0, .inl (cI, 5000, .inl (fun j => nI (dt j))))] := hD
      refine lv_aload_n hx hb d_M_kind_27 rfl (lv_at hl 0 rfl) ?_
      refine lv_aload_n hx hb d_M_kind_28 rfl (lv_at hl 0 rfl) ?_
      refine lv_lload hx hb d_M_kind_29 (lv_at hl 3 rfl) ?_
      refine roVL (rest := [.ref m0]) F (c_M_cut l D cL cB cI m0 b0 cnt k (P1 &&& q_mk k) fi la d o F1 ⟨hk1, hk2⟩) k_M_cut ml_M_42 ⟨rfl, rfl, by decide, by decide⟩ hK hP hS (hP.sub [0] rfl) rfl rfl rfl rfl hl.1 rfl (Nat.le_of_ble_eq_true rfl) d_M_kind_31 ⟨Nat.le_of_ble_eq_true rfl, Nat.le_of_ble_eq_true rfl⟩ (fun H locs hP hS => ?_)
      refine pf_M_21 F hK hP hD hS 0 rfl rfl rfl (Nat.le_of_ble_eq_true rfl) d_M_kind_34 (fun H locs hP hD hS => ?_)
      have hP : va_P D classes [(m0, .inr (3, mf k (P1 &&& q_mk k) (F1 &&& q_mk k) la d o b0 cnt)), (b0, .inl (cI, 5000, .inl (fun j => nI (dt j))))] H := hP
      have hD : va_D A [(m0, .inr (3, mf k (P1 &&& q_mk k) (F1 &&& q_mk k) la d o b0 cnt)), (b0, .inl (cI, 5000, .inl (fun j => nI (dt j))))] := hD
      refine lv_aload_n hx hb d_M_kind_37 rfl (lv_at hl 0 rfl) ?_
      refine lv_aload_n hx hb d_M_kind_38 rfl (lv_at hl 0 rfl) ?_
      refine lv_lload hx hb d_M_kind_39 (lv_at hl 6 rfl) ?_
      refine roVL (rest := [.ref m0]) F (c_M_cut l D cL cB cI m0 b0 cnt k (P1 &&& q_mk k) (F1 &&& q_mk k) la d o L1 ⟨hk1, hk2⟩) k_M_cut ml_M_42 ⟨rfl, rfl, by decide, by decide⟩ hK hP hS (hP.sub [0] rfl) rfl rfl rfl rfl hl.1 rfl (Nat.le_of_ble_eq_true rfl) d_M_kind_41 ⟨Nat.le_of_ble_eq_true rfl, Nat.le_of_ble_eq_true rfl⟩ (fun H locs hP hS => ?_)
      refine pf_M_24 F hK hP hD hS 0 rfl rfl rfl (Nat.le_of_ble_eq_true rfl) d_M_kind_44 (fun H locs hP hD hS => ?_)
      have hP : va_P D classes [(m0, .inr (3, mf k (P1 &&& q_mk k) (F1 &&& q_mk k) (L1 &&& q_mk k) d o b0 cnt)), (b0, .inl (cI, 5000, .inl (fun j => nI (dt j))))] H := hP
      have hD : va_D A [(m0, .inr (3, mf k (P1 &&& q_mk k) (F1 &&& q_mk k) (L1 &&& q_mk k) d o b0 cnt)), (b0, .inl (cI, 5000, .inl (fun j => nI (dt j))))] := hD
      refine lv_aload_n hx hb d_M_kind_47 rfl (lv_at hl 0 rfl) ?_
      refine lv_iload hx hb d_M_kind_48 (lv_at hl 4 rfl) ?_
      refine pf_M_27 F hK hP hD hS 0 rfl (bz_nz _) (bz_fit _) (Nat.le_of_ble_eq_true rfl) d_M_kind_50 (fun H locs hP hD hS => ?_)
      have hP : va_P D classes [(m0, .inr (3, mf k (P1 &&& q_mk k) (F1 &&& q_mk k) (L1 &&& q_mk k) d1 o b0 cnt)), (b0, .inl (cI, 5000, .inl (fun j => nI (dt j))))] H := hP
      have hD : va_D A [(m0, .inr (3, mf k (P1 &&& q_mk k) (F1 &&& q_mk k) (L1 &&& q_mk k) d1 o b0 cnt)), (b0, .inl (cI, 5000, .inl (fun j => nI (dt j))))] := hD
      refine lv_aload_n hx hb d_M_kind_53 rfl (lv_at hl 0 rfl) ?_
      refine lv_iload hx hb d_M_kind_54 (lv_at hl 5 rfl) ?_
      refine pf_M_31 F hK hP hD hS 0 rfl (bz_nz _) (bz_fit _) (Nat.le_of_ble_eq_true rfl) d_M_kind_56 (fun H locs hP hD hS => ?_)
      have hP : va_P D classes [(m0, .inr (3, mf k (P1 &&& q_mk k) (F1 &&& q_mk k) (L1 &&& q_mk k) d1 o1 b0 cnt)), (b0, .inl (cI, 5000, .inl (fun j => nI (dt j))))] H := hP
      have hD : va_D A [(m0, .inr (3, mf k (P1 &&& q_mk k) (F1 &&& q_mk k) (L1 &&& q_mk k) d1 o1 b0 cnt)), (b0, .inl (cI, 5000, .inl (fun j => nI (dt j))))] := hD
      refine lv_iconst (v := nI 1) hx hb d_M_kind_59 (by decide) ?_
      refine tpi (z := (bz true)) rfl ?_
      exact hret _ _ _ _ _ (k, P1 &&& q_mk k, F1 &&& q_mk k, L1 &&& q_mk k, d1, o1) d_M_kind_60 (bz_nz _) ⟨by rw [hok], fun _ => by rw [nI_clamp (by omega)], fun q => absurd (hok ▸ q) (by decide)⟩ (hP.sub [0, 1] rfl) (hD.sub [0, 1] (by decide) rfl) hS
    · refine lv_iconst (v := nI 0) hx hb d_M_kind_11 (by decide) ?_
      have hk := kok_no2 (nle_g hc2)
      refine tpi (z := (bz false)) rfl ?_
      exact hret _ _ _ _ _ (n, po, fi, la, d, o) d_M_kind_12 (bz_nz _) ⟨by rw [hk], fun q => absurd (hk ▸ q) (by decide), fun _ => rfl⟩ (hP.sub [0, 1] rfl) (hD.sub [0, 1] (by decide) rfl) hS
end
section
/-! ===== the class's registers as they stand; tables; slices ===== -/
theorem st_xor (d : Bool) (P a b : BitVec 64) (c e : Bool) : q_st d P (a ^^^ b) (c ^^ e) = q_st d P a c ^^^ q_st d P b e := by
  cases d
  · rw [st_out, st_out, st_out, BitVec.shiftLeft_xor_distrib, BitVec.getLsbD_xor, ite_xor, xor4]
  · rw [st_in, st_in, st_in, BitVec.ushiftRight_xor_distrib, BitVec.getLsbD_xor, ite_xor, xor4]
/-- steps over any row of bits -/
def q_fs (d : Bool) (P S : BitVec 64) (c : Nat → Bool) : Nat → BitVec 64
  | 0 => S
  | k + 1 => q_st d P (q_fs d P S c k) (c k)
theorem sh_fs (d : Bool) (P S : BitVec 64) (x : Nat) : ∀ k, q_sh d P S x k = q_fs d P S (q_ba d x) k
  | 0 => rfl
  | k + 1 => by rw [q_sh, sh_fs d P S x k]; rfl
theorem fs_congr {d : Bool} {P S : BitVec 64} {c e : Nat → Bool} : ∀ {k : Nat}, (∀ i, i < k → c i = e i) → q_fs d P S c k = q_fs d P S e k
  | 0, _ => rfl
  | k + 1, h => by rw [q_fs, fs_congr (fun i hi => h i (by omega)), h k (by omega)]; rfl
theorem fs_xor (d : Bool) (P a b : BitVec 64) (c e : Nat → Bool) : ∀ k, q_fs d P (a ^^^ b) (fun i => c i ^^ e i) k = q_fs d P a c k ^^^ q_fs d P b e k
  | 0 => rfl
  | k + 1 => by rw [q_fs, fs_xor d P a b c e k, st_xor]; rfl
theorem fs_in (P S : BitVec 64) (c : Nat → Bool) : ∀ k, q_fs true P S c k = (S >>> k) ^^^ q_fs true P 0#64 (fun i => S.getLsbD i ^^ c i) k
  | 0 => by show S = (S >>> 0) ^^^ 0#64; simp
  | k + 1 => by
    have h := fs_in P S c k
    rw [q_fs, h, q_fs]
    generalize q_fs true P 0#64 (fun i => S.getLsbD i ^^ c i) k = X
    rw [st_in, st_in, BitVec.ushiftRight_xor_distrib, BitVec.getLsbD_xor, BitVec.getLsbD_ushiftRight, Nat.add_zero, ← BitVec.shiftRight_add, BitVec.xor_assoc]
    congr 1; congr 1
    cases S.getLsbD k <;> cases X.getLsbD 0 <;> cases c k <;> rfl
theorem fs_out (P S : BitVec 64) (c : Nat → Bool) : ∀ k, k ≤ 64 → q_fs false P S c k = (S <<< k) ^^^ q_fs false P 0#64 (fun i => S.getLsbD (63 - i) ^^ c i) k
  | 0, _ => by show S = (S <<< 0) ^^^ 0#64; simp
  | k + 1, hk => by
    have h := fs_out P S c k (by omega)
    rw [q_fs, h, q_fs]
    generalize q_fs false P 0#64 (fun i => S.getLsbD (63 - i) ^^ c i) k = X
    have e63 : (S <<< k).getLsbD 63 = S.getLsbD (63 - k) := by
      rw [BitVec.getLsbD_shiftLeft]; simp; omega
    rw [st_out, st_out, BitVec.shiftLeft_xor_distrib, BitVec.getLsbD_xor, e63, ← BitVec.shiftLeft_add, BitVec.xor_assoc]
    congr 1; congr 1
    cases S.getLsbD (63 - k) <;> cases X.getLsbD 63 <;> cases c k <;> rfl
/-- shifted on by so many bits -/
def q_on (d : Bool) (S : BitVec 64) (k : Nat) : BitVec 64 := if d then S >>> k else S <<< k
/-- the byte that meets next -/
def q_lo (d : Bool) (S : BitVec 64) : Nat := if d then (S &&& 255#64).toNat else (S >>> 56).toNat
theorem lo_lt (d : Bool) (S : BitVec 64) : q_lo d S < 256 := by cases d <;> first | exact q_56_lt S | exact q_lt S
theorem and255_tb (S : BitVec 64) {i : Nat} (h : i < 8) : (S &&& 255#64).toNat.testBit i = S.getLsbD i := by
  rw [BitVec.testBit_toNat, BitVec.getLsbD_and, (show ∀ i, i < 8 → (255#64).getLsbD i = true by decide) i h, Bool.and_true]
theorem sh56_tb (S : BitVec 64) {i : Nat} : (S >>> 56).toNat.testBit i = S.getLsbD (56 + i) := by
  rw [BitVec.testBit_toNat, BitVec.getLsbD_ushiftRight]
theorem sh_split (d : Bool) (P S : BitVec 64) (x : Nat) : q_sh d P S x 8 = q_on d S 8 ^^^ q_sh d P 0#64 (q_lo d S ^^^ x) 8 := by
  rw [sh_fs, sh_fs]
  cases d
  · rw [fs_out P S _ 8 (by decide)]
    congr 1
    apply fs_congr
    intro i hi
    show (S.getLsbD (63 - i) ^^ x.testBit (7 - i)) = (((S >>> 56).toNat) ^^^ x).testBit (7 - i)
    rw [Nat.testBit_xor, sh56_tb, show 56 + (7 - i) = 63 - i by omega]
  · rw [fs_in P S _ 8]
    congr 1
    apply fs_congr
    intro i hi
    show (S.getLsbD i ^^ x.testBit i) = (((S &&& 255#64).toNat) ^^^ x).testBit i
    rw [Nat.testBit_xor, and255_tb S hi]
theorem nx_sh {d : Bool} {P : BitVec 64} {f : Nat → Int64} (hf : ∀ j, j < 256 → f j = lB (q_sh d P 0#64 j 8)) (S : BitVec 64) {x : Nat} (hx : x < 256) : q_nx d f S x = q_sh d P S x 8 := by
  rw [sh_split]
  have h := x_lt (lo_lt d S) hx
  unfold q_nx
  cases d
  · show (S <<< 8) ^^^ (f (q_lo false S ^^^ x)).toBitVec = _
    rw [hf _ h]; rfl
  · show (S >>> 8) ^^^ (f (q_lo true S ^^^ x)).toBitVec = _
    rw [hf _ h]; rfl
/-! tables -/
def q_tb (d : Bool) (P : BitVec 64) (b : Nat) : Nat → BitVec 64
  | 0 => q_sh d P 0#64 b 8
  | k + 1 => q_sh d P (q_tb d P b k) 0 8
def q_tab (d : Bool) (P : BitVec 64) (j : Nat) : BitVec 64 := q_tb d P (j % 256) (j / 256)
theorem tab_at (d : Bool) (P : BitVec 64) {k b : Nat} (hb : b < 256) : q_tab d P (256 * k + b) = q_tb d P b k := by
  unfold q_tab
  rw [show (256 * k + b) % 256 = b by omega, show (256 * k + b) / 256 = k by omega]
theorem tab_lo (d : Bool) (P : BitVec 64) {b : Nat} (hb : b < 256) : q_tab d P b = q_sh d P 0#64 b 8 := by
  have := tab_at d P (k := 0) hb
  rw [Nat.mul_zero, Nat.zero_add] at this
  exact this
theorem tab_fill {d : Bool} {P : BitVec 64} {f : Nat → Int64} {i : Nat} (hf : ∀ j, j < i → f j = lB (q_tab d P j)) {v : BitVec 64} (hv : v = q_tab d P i) : ∀ j, j < i + 1 → vp_updL f i (lB v) j = lB (q_tab d P j) := by
  intro j hj
  by_cases h : j = i
  · subst h; rw [pk_uLs, hv]
  · rw [pk_uLn h]; exact hf j (by omega)
theorem tab_step {d : Bool} {P : BitVec 64} {f : Nat → Int64} {k b : Nat} (hk : 1 ≤ k) (hb : b < 256) (hf : ∀ j, j < 256 * k + b → f j = lB (q_tab d P j)) : q_nx d f (f (256 * (k - 1) + b)).toBitVec 0 = q_tab d P (256 * k + b) := by
  rw [nx_sh (P := P) (fun j hj => by rw [hf j (by omega), tab_lo d P hj]) _ (by decide), hf _ (by omega), lB_bv, tab_at d P hb, tab_at d P hb]
  rw [show k = (k - 1) + 1 by omega]
  rfl
/-! linear in the register -/
theorem sh_xor (d : Bool) (P a b : BitVec 64) (x : Nat) : ∀ k, q_sh d P (a ^^^ b) x k = q_sh d P a x k ^^^ q_sh d P b 0 k
  | 0 => rfl
  | k + 1 => by
    rw [q_sh, sh_xor d P a b x k, q_sh, q_sh]
    have e : q_ba d x k = (q_ba d x k ^^ q_ba d 0 k) := by
      unfold q_ba; rw [Nat.zero_testBit]; simp
    conv => lhs; rw [e]
    exact st_xor d P _ _ _ _
theorem sh_0 (d : Bool) (P : BitVec 64) : ∀ k, q_sh d P 0#64 0 k = 0#64
  | 0 => rfl
  | k + 1 => by
    rw [q_sh, sh_0 d P k]
    unfold q_ba
    rw [Nat.zero_testBit]
    cases d
    · rw [st_out]; simp
    · rw [st_in]; simp
theorem su_sh (d : Bool) (P : BitVec 64) (f : Nat → BitVec 64) (k : Nat) : ∀ m, q_sh d P (q_su f m) 0 k = q_su (fun i => q_sh d P (f i) 0 k) m
  | 0 => sh_0 d P k
  | m + 1 => by rw [su_s, sh_xor, su_sh d P f k m]; rfl
/-- eight bytes, one by one -/
def q_b8 (d : Bool) (P S : BitVec 64) (x : Nat → Nat) : Nat → BitVec 64
  | 0 => S
  | i + 1 => q_sh d P (q_b8 d P S x i) (x i) 8
theorem b8_sum (d : Bool) (P S : BitVec 64) (x : Nat → Nat) : ∀ i, q_b8 d P S x i = q_on d S (8 * i) ^^^ q_su (fun k => q_tb d P (q_lo d (q_on d S (8 * k)) ^^^ x k) (i - 1 - k)) i
  | 0 => by cases d <;> simp [q_b8, q_on, q_su]
  | i + 1 => by
    rw [q_b8, b8_sum d P S x i, sh_xor, sh_split, su_sh, su_s]
    have e1 : q_on d (q_on d S (8 * i)) 8 = q_on d S (8 * (i + 1)) := by
      cases d
      · show (S <<< (8 * i)) <<< 8 = S <<< (8 * (i + 1)); rw [← BitVec.shiftLeft_add]; rfl
      · show (S >>> (8 * i)) >>> 8 = S >>> (8 * (i + 1)); rw [← BitVec.shiftRight_add]; rfl
    rw [e1, BitVec.xor_assoc]
    congr 1
    rw [BitVec.xor_comm, show i + 1 - 1 - i = 0 by omega]
    congr 1
    apply su_congr
    intro k hk
    rw [show i + 1 - 1 - k = (i - 1 - k) + 1 by omega]
    rfl
theorem sl_sum (d : Bool) (f : Nat → Int64) (V : BitVec 64) : ∀ m, q_sl d f V m = q_su (fun k => (f (256 * (7 - k) + q_by d V k)).toBitVec) m
  | 0 => rfl
  | m + 1 => by rw [su_s, ← sl_sum d f V m]; rfl
/-- eight bytes as one number -/
def q_e8 (d : Bool) (x : Nat → Nat) : Nat → BitVec 64
  | 0 => 0#64
  | i + 1 => q_e8 d x i ||| (BitVec.ofNat 64 (x i) <<< (if d then 8 * i else 56 - 8 * i))
theorem by_lt (d : Bool) (V : BitVec 64) {k j : Nat} (hj : j < 8) : (q_by d V k).testBit j = (V >>> (if d then 8 * k else 56 - 8 * k)).getLsbD j := by
  unfold q_by
  cases d
  · exact and255_tb _ hj
  · exact and255_tb _ hj
theorem byte_hi {a j : Nat} (ha : a < 256) (hj : 8 ≤ j) : a.testBit j = false := Nat.testBit_lt_two_pow (Nat.lt_of_lt_of_le ha (show 2 ^ 8 ≤ 2 ^ j from Nat.pow_le_pow_right (by decide) hj))
theorem byte_ext {a b : Nat} (ha : a < 256) (hb : b < 256) (h : ∀ j, j < 8 → a.testBit j = b.testBit j) : a = b := by
  apply Nat.eq_of_testBit_eq
  intro j
  by_cases hj : j < 8
  · exact h j hj
  · rw [byte_hi ha (by omega), byte_hi hb (by omega)]
theorem by_xor (d : Bool) (V U : BitVec 64) (k : Nat) : q_by d (V ^^^ U) k = q_by d V k ^^^ q_by d U k := by
  apply byte_ext (q_by_lt _ _ _) (x_lt (q_by_lt _ _ _) (q_by_lt _ _ _))
  intro j hj
  rw [Nat.testBit_xor, by_lt d _ hj, by_lt d _ hj, by_lt d _ hj, BitVec.ushiftRight_xor_distrib, BitVec.getLsbD_xor]
theorem by_lo (d : Bool) (S : BitVec 64) {k : Nat} (hk : k < 8) : q_by d S k = q_lo d (q_on d S (8 * k)) := by
  apply byte_ext (q_by_lt _ _ _) (lo_lt _ _)
  intro j hj
  rw [by_lt d _ hj]
  cases d
  · show (S >>> (56 - 8 * k)).getLsbD j = ((S <<< (8 * k)) >>> 56).toNat.testBit j
    rw [sh56_tb, BitVec.getLsbD_ushiftRight, BitVec.getLsbD_shiftLeft, show 56 + j - 8 * k = 56 - 8 * k + j by omega]
    simp [show 56 + j < 64 by omega, show ¬ 56 + j < 8 * k by omega]
  · show (S >>> (8 * k)).getLsbD j = ((S >>> (8 * k)) &&& 255#64).toNat.testBit j
    rw [and255_tb _ hj]
theorem e8_bit (d : Bool) {x : Nat → Nat} (hx : ∀ i, x i < 256) {p : Nat} (hp : p < 64) : ∀ m, m ≤ 8 → (q_e8 d x m).getLsbD p = (decide ((if d then p / 8 else 7 - p / 8) < m) && (x (if d then p / 8 else 7 - p / 8)).testBit (p % 8))
  | 0, _ => by simp [q_e8]
  | i + 1, h => by
    rw [q_e8, BitVec.getLsbD_or, e8_bit d hx hp i (by omega), BitVec.getLsbD_shiftLeft, BitVec.getLsbD_ofNat]
    generalize hq : (if d then p / 8 else 7 - p / 8) = q
    generalize hs : (if d then 8 * i else 56 - 8 * i) = sh
    by_cases hqi : q = i
    · subst hqi
      have h1 : sh ≤ p ∧ p - sh = p % 8 := by cases d <;> simp at hq hs <;> omega
      simp [show ¬ p < sh by omega, hp, h1.2, show p % 8 < 64 by omega]
    · have h2 : (x i).testBit (p - sh) = false ∨ p < sh := by
        by_cases h3 : p < sh
        · exact Or.inr h3
        · left
          apply byte_hi (hx i)
          cases d <;> simp at hq hs <;> omega
      have e : decide (q < i + 1) = decide (q < i) := by simp; omega
      rw [e]
      rcases h2 with h2 | h2
      · rw [h2]; simp
      · simp [h2]
theorem by_e8 (d : Bool) {x : Nat → Nat} (hx : ∀ i, x i < 256) {k : Nat} (hk : k < 8) : q_by d (q_e8 d x 8) k = x k := by
  apply byte_ext (q_by_lt _ _ _) (hx k)
  intro j hj
  rw [by_lt d _ hj, BitVec.getLsbD_ushiftRight, e8_bit d hx (by cases d <;> simp <;> omega) 8 (by decide)]
  have h1 : (if d then ((if d then 8 * k else 56 - 8 * k) + j) / 8 else 7 - ((if d then 8 * k else 56 - 8 * k) + j) / 8) = k := by cases d <;> simp <;> omega
  have h2 : ((if d then 8 * k else 56 - 8 * k) + j) % 8 = j := by cases d <;> simp <;> omega
  rw [h1, h2]; simp [hk]
/-- a slice is eight bytes, one by one -/
theorem sl_b8 {d : Bool} {P S : BitVec 64} {f : Nat → Int64} {x : Nat → Nat} (hx : ∀ i, x i < 256) (hf : ∀ j, j < 2048 → f j = lB (q_tab d P j)) : q_sl d f (S ^^^ q_e8 d x 8) 8 = q_b8 d P S x 8 := by
  rw [sl_sum, b8_sum]
  have e0 : q_on d S (8 * 8) = 0#64 := by
    apply BitVec.eq_of_getLsbD_eq
    intro i hi
    cases d
    · show (S <<< 64).getLsbD i = _
      rw [BitVec.getLsbD_shiftLeft]; simp [hi]
    · show (S >>> 64).getLsbD i = _
      rw [BitVec.getLsbD_ushiftRight, BitVec.getLsbD_of_ge _ _ (by omega)]; simp
  rw [e0, BitVec.zero_xor]
  apply su_congr
  intro k hk
  have hb := q_by_lt d (S ^^^ q_e8 d x 8) k
  rw [hf _ (by omega), lB_bv, tab_at d P hb, by_xor, by_e8 d hx hk, by_lo d S hk]
/-! standing and lying -/
theorem sd_in {n : Nat} (hn : n ≤ 64) (V : BitVec 64) (i : Nat) : (q_sd true n V).getLsbD i = (decide (i < n) && V.getLsbD (n - 1 - i)) := by
  show (q_tn n (V &&& q_mk n)).getLsbD i = _
  rw [tn_bit hn, and_mk_bit hn]
  by_cases h : i < n
  · simp [h, show n - 1 - i < n by omega]
  · simp [h]
theorem sd_out {n : Nat} (hn : n ≤ 64) (V : BitVec 64) {i : Nat} (hi : i < 64) : (q_sd false n V).getLsbD i = (decide (64 - n ≤ i) && V.getLsbD (i - (64 - n))) := by
  show ((V &&& q_mk n) <<< (64 - n)).getLsbD i = _
  rw [BitVec.getLsbD_shiftLeft, and_mk_bit hn]
  by_cases h : 64 - n ≤ i
  · simp [h, hi, show i - (64 - n) < n by omega, show ¬ i < 64 - n by omega]
  · simp [h, show i < 64 - n by omega]
theorem bt_bit {n : Nat} (hn : n ≤ 64) (po R : BitVec 64) (c : Bool) {i : Nat} (hi : i < 64) : (q_bt n po R c).getLsbD i = ((decide (1 ≤ i) && R.getLsbD (i - 1) && decide (i < n)) ^^ (((R.getLsbD (n - 1)) != c) && po.getLsbD i)) := by
  unfold q_bt
  rw [BitVec.getLsbD_xor, and_mk_bit hn, BitVec.getLsbD_shiftLeft]
  have e : (if (R.getLsbD (n - 1)) != c then po else 0#64).getLsbD i = (((R.getLsbD (n - 1)) != c) && po.getLsbD i) := by
    cases ((R.getLsbD (n - 1)) != c) <;> simp
  rw [e]
  congr 1
  by_cases h : 1 ≤ i
  · simp [hi, h, show ¬ i < 1 by omega]
  · simp [h, show i < 1 by omega]
theorem st_sd {d : Bool} {n : Nat} (hn : 1 ≤ n ∧ n ≤ 64) {po R : BitVec 64} (c : Bool) : q_st d (q_sd d n po) (q_sd d n R) c = q_sd d n (q_bt n po R c) := by
  apply BitVec.eq_of_getLsbD_eq
  intro i hi
  cases d
  · rw [st_out, BitVec.getLsbD_xor, BitVec.getLsbD_shiftLeft, sd_out hn.2 R (show 63 < 64 by decide), sd_out hn.2 _ hi]
    have e : (if (decide (64 - n ≤ 63) && R.getLsbD (63 - (64 - n))) != c then q_sd false n po else 0#64).getLsbD i = ((R.getLsbD (n - 1) != c) && (decide (64 - n ≤ i) && po.getLsbD (i - (64 - n)))) := by
      rw [show 63 - (64 - n) = n - 1 by omega, show decide (64 - n ≤ 63) = true by simp; omega, Bool.true_and]
      cases (R.getLsbD (n - 1) != c)
      · simp
      · show (q_sd false n po).getLsbD i = _
        rw [sd_out hn.2 po hi, Bool.true_and]
    rw [e]
    by_cases h : 64 - n ≤ i
    · rw [bt_bit hn.2 po R c (by omega)]
      by_cases h1 : i < 1
      · simp [h1, show i = 0 by omega, h]
        have : ¬ 1 ≤ i - (64 - n) := by omega
        simp [show 64 - n = 0 by omega]
      · rw [sd_out hn.2 R (by omega)]
        by_cases h2 : 64 - n ≤ i - 1
        · simp [h, h1, h2, hi, show 1 ≤ i - (64 - n) by omega, show i - 1 - (64 - n) = i - (64 - n) - 1 by omega, show i - (64 - n) < n by omega]
        · simp [h, h1, h2, show ¬ 1 ≤ i - (64 - n) by omega]
    · by_cases h1 : i < 1
      · simp [h, h1]
      · rw [sd_out hn.2 R (by omega)]
        simp [h, show ¬ 64 - n ≤ i - 1 by omega]
  · rw [st_in, BitVec.getLsbD_xor, BitVec.getLsbD_ushiftRight, sd_in hn.2, sd_in hn.2, sd_in hn.2]
    have e : (if (decide (0 < n) && R.getLsbD (n - 1 - 0)) != c then q_sd true n po else 0#64).getLsbD i = ((R.getLsbD (n - 1) != c) && (decide (i < n) && po.getLsbD (n - 1 - i))) := by
      rw [Nat.sub_zero, show decide (0 < n) = true by simp; omega, Bool.true_and]
      cases (R.getLsbD (n - 1) != c)
      · simp
      · show (q_sd true n po).getLsbD i = _
        rw [sd_in hn.2, Bool.true_and]
    rw [e]
    by_cases h : i < n
    · rw [bt_bit hn.2 po R c (by omega)]
      by_cases h1 : 1 + i < n
      · simp [h, h1, show 1 ≤ n - 1 - i by omega, show n - 1 - i - 1 = n - 1 - (1 + i) by omega, show n - 1 - i < n by omega]
      · simp [h, h1, show ¬ 1 ≤ n - 1 - i by omega]
    · simp [h, show ¬ 1 + i < n by omega]
theorem sh_sd {d : Bool} {n : Nat} (hn : 1 ≤ n ∧ n ≤ 64) {po R : BitVec 64} (x : Nat) : ∀ k, q_sh d (q_sd d n po) (q_sd d n R) x k = q_sd d n (q_ob n po d R x k)
  | 0 => rfl
  | k + 1 => by rw [q_sh, sh_sd hn x k, st_sd hn]; rfl
theorem li_sd {d : Bool} {n : Nat} (hn : 1 ≤ n ∧ n ≤ 64) (R : BitVec 64) : q_li d n (q_sd d n R) = R &&& q_mk n := by
  cases d
  · show ((R &&& q_mk n) <<< (64 - n)) >>> (64 - n) = _
    apply BitVec.eq_of_getLsbD_eq
    intro i hi
    rw [BitVec.getLsbD_ushiftRight, BitVec.getLsbD_shiftLeft, and_mk_bit hn.2, and_mk_bit hn.2, show 64 - n + i - (64 - n) = i by omega]
    by_cases h : i < n
    · simp [h, show 64 - n + i < 64 by omega]
    · simp [h]
  · exact tn_tn hn.2 (M_and R)
theorem sd_0 (d : Bool) (n : Nat) : q_sd d n 0#64 = 0#64 := by
  cases d
  · show (0#64 &&& q_mk n) <<< (64 - n) = 0#64
    simp
  · show ((0#64 &&& q_mk n).reverse) >>> (64 - n) = 0#64
    apply BitVec.eq_of_getLsbD_eq
    intro i hi
    simp [BitVec.getLsbD_reverse]
theorem sd_xor {d : Bool} {n : Nat} (hn : n ≤ 64) (a b : BitVec 64) : q_sd d n (a ^^^ b) = q_sd d n a ^^^ q_sd d n b := by
  cases d
  · show ((a ^^^ b) &&& q_mk n) <<< (64 - n) = _
    rw [xor_and, BitVec.shiftLeft_xor_distrib]; rfl
  · show q_tn n ((a ^^^ b) &&& q_mk n) = _
    rw [xor_and, tn_xor hn]; rfl
theorem sd_mk (d : Bool) (n : Nat) (R : BitVec 64) : q_sd d n (R &&& q_mk n) = q_sd d n R := by
  unfold q_sd
  rw [BitVec.and_assoc, BitVec.and_self]
theorem li_sh1 {d : Bool} {n : Nat} (hn : 1 ≤ n ∧ n ≤ 64) {po R : BitVec 64} (hp : q_M n po) : q_li d n (q_sh d (q_sd d n po) (q_sd d n R) 0 1) = q_bt n po R false := by
  rw [sh_sd hn, li_sd hn]
  show q_bt n po R (q_ba d 0 0) &&& q_mk n = _
  have e : q_ba d 0 0 = false := by unfold q_ba; rw [Nat.zero_testBit]
  rw [e]
  exact bt_M hn.2 hp _ _
theorem ob_0 (n : Nat) (po : BitVec 64) (d : Bool) (R : BitVec 64) : ∀ k, q_ob n po d R 0 k = q_xp n po R k
  | 0 => rfl
  | k + 1 => by
    rw [q_ob, ob_0 n po d R k]
    unfold q_ba; rw [Nat.zero_testBit]; rfl
theorem tb_sd {d : Bool} {n : Nat} (hn : 1 ≤ n ∧ n ≤ 64) {po : BitVec 64} (b : Nat) : ∀ k, q_tb d (q_sd d n po) b k = q_sd d n (q_xp n po (q_ob n po d 0#64 b 8) (8 * k))
  | 0 => by
    show q_sh d (q_sd d n po) 0#64 b 8 = _
    rw [← sd_0 d n, sh_sd hn, sd_0]; rfl
  | k + 1 => by
    rw [q_tb, tb_sd hn b k, sh_sd hn, ob_0, ← xp_add]; rfl
/-- bytes by the standing way are bytes of the register -/
theorem b8_rn {d : Bool} {n : Nat} (hn : 1 ≤ n ∧ n ≤ 64) {po R : BitVec 64} (D : Nat → Nat) (a : Nat) : ∀ k, q_b8 d (q_sd d n po) (q_sd d n R) (fun i => D (a + i)) k = q_sd d n (q_rn n po d D a R k)
  | 0 => rfl
  | k + 1 => by rw [q_b8, b8_rn hn D a k, sh_sd hn]; rfl
theorem rn_add (n : Nat) (po : BitVec 64) (d : Bool) (D : Nat → Nat) (a : Nat) (R : BitVec 64) (k : Nat) : ∀ m, q_rn n po d D a R (k + m) = q_rn n po d D (a + k) (q_rn n po d D a R k) m
  | 0 => rfl
  | m + 1 => by rw [← Nat.add_assoc, q_rn, rn_add n po d D a R k m, ← Nat.add_assoc]; rfl
theorem rn_M {n : Nat} {po : BitVec 64} {d : Bool} {D : Nat → Nat} {a : Nat} {R : BitVec 64} (hn : n ≤ 64) (hp : q_M n po) (hR : q_M n R) : ∀ k, q_M n (q_rn n po d D a R k)
  | 0 => hR
  | k + 1 => ob_M hn hp (rn_M hn hp hR k) 8
theorem fn_sd {d o : Bool} {n : Nat} (hn : 1 ≤ n ∧ n ≤ 64) {la R : BitVec 64} (hR : q_M n R) : q_fn d o n la (q_sd d n R) = q_tl n o la R := by
  unfold q_fn q_tl
  rw [li_sd hn, show R &&& q_mk n = R from hR]
end
section
set_option maxHeartbeats 4000000 in
set_option maxRecDepth 100000 in
theorem c_M_init (l : Launch) (D : va_G) (cL cB cI : ClassId) (m0 : Nat) (sz : Nat)  : Met l y_M_init (Cond.code y_M_init b_M_init 1 none :: g_tbl) (rmA 1 1 5000 14) (MuP D cL cB cI [(m0, .inr (3, [.int 0, .long 0, .long 0, .long 0, .int 0, .int 0, .null, .int 0]))] sz [.ref m0]) (va_Qv (S := Nat) (fun _ => True) (MuB D [(m0, .inr (3, [.int 0, .long 0, .long 0, .long 0, .int 0, .int 0, .null, .int 0]))] sz (fun b0 => [(m0, .inr (3, mf 32 79764919#64 4294967295#64 4294967295#64 true true b0 0)), (b0, .inl (cI, 5000, .inl (fun _ => nI 0)))])) (va_A [(m0, .inr (3, [.int 0, .long 0, .long 0, .long 0, .int 0, .int 0, .null, .int 0]))] sz)) 1 5000 (va_A [(m0, .inr (3, [.int 0, .long 0, .long 0, .long 0, .int 0, .int 0, .null, .int 0]))] sz) := by
  refine mu_startV sz (by decide) (Nat.le_of_ble_eq_true rfl) ?_
  intro p e s m below meth c ls Q A F hnm hP hK hD hA hl hret
  have hx := F.1
  have hb := F.2.1
  have hown := F.2.2.2.1
  have hT := F.2.2.2.2
  have hS : va_S A s.heap s.heap [] := va_S.rf
  have hl : lv_has ls 1 [(0, .ref m0)] := hl
  refine lv_aload_n hx hb d_M_init_0 rfl (lv_at hl 0 rfl) ?_
  refine W.objInit hx hb hown (hT _ ml_M_1) (hT _ im_O_init) (hT _ cd_O_init) rfl (by rw [F.2.2.1]; exact hl.1) rfl d_M_init_1 (Nat.le_of_ble_eq_true rfl) (Nat.le_of_ble_eq_true rfl) ?_
  refine W.eq (g2 := F0 m 4 ls []) rfl ?_
  refine lv_aload_n hx hb d_M_init_4 rfl (lv_at hl 0 rfl) ?_
  refine lv_bipush (v := nI 32) hx hb d_M_init_5 (by decide) ?_
  refine pf_M_7 F hK hP hD hS 0 rfl rfl rfl (Nat.le_of_ble_eq_true rfl) d_M_init_7 (fun H locs hP hD hS => ?_)
  have hP : va_P D classes [(m0, .inr (3, [.int (nI 32), .long 0, .long 0, .long 0, .int 0, .int 0, .null, .int 0]))] H := hP
  have hD : va_D A [(m0, .inr (3, [.int (nI 32), .long 0, .long 0, .long 0, .int 0, .int 0, .null, .int 0]))] := hD
  refine lv_aload_n hx hb d_M_init_10 rfl (lv_at hl 0 rfl) ?_
  refine lv_ldc2 hx hb hown (hT _ cj_M_13) d_M_init_11 ?_
  refine tpl (z := lB 79764919#64) (by decide) ?_
  refine pf_M_15 F hK hP hD hS 0 rfl rfl rfl (Nat.le_of_ble_eq_true rfl) d_M_init_14 (fun H locs hP hD hS => ?_)
  have hP : va_P D classes [(m0, .inr (3, [.int (nI 32), .long (lB 79764919#64), .long 0, .long 0, .int 0, .int 0, .null, .int 0]))] H := hP
  have hD : va_D A [(m0, .inr (3, [.int (nI 32), .long (lB 79764919#64), .long 0, .long 0, .int 0, .int 0, .null, .int 0]))] := hD
  refine lv_aload_n hx hb d_M_init_17 rfl (lv_at hl 0 rfl) ?_
  refine lv_ldc2 hx hb hown (hT _ cj_M_19) d_M_init_18 ?_
  refine tpl (z := lB 4294967295#64) (by decide) ?_
  refine pf_M_21 F hK hP hD hS 0 rfl rfl rfl (Nat.le_of_ble_eq_true rfl) d_M_init_21 (fun H locs hP hD hS => ?_)
  have hP : va_P D classes [(m0, .inr (3, [.int (nI 32), .long (lB 79764919#64), .long (lB 4294967295#64), .long 0, .int 0, .int 0, .null, .int 0]))] H := hP
  have hD : va_D A [(m0, .inr (3, [.int (nI 32), .long (lB 79764919#64), .long (lB 4294967295#64), .long 0, .int 0, .int 0, .null, .int 0]))] := hD
  refine lv_aload_n hx hb d_M_init_24 rfl (lv_at hl 0 rfl) ?_
  refine lv_ldc2 hx hb hown (hT _ cj_M_19) d_M_init_25 ?_
  refine tpl (z := lB 4294967295#64) (by decide) ?_
  refine pf_M_24 F hK hP hD hS 0 rfl rfl rfl (Nat.le_of_ble_eq_true rfl) d_M_init_28 (fun H locs hP hD hS => ?_)
  have hP : va_P D classes [(m0, .inr (3, [.int (nI 32), .long (lB 79764919#64), .long (lB 4294967295#64), .long (lB 4294967295#64), .int 0, .int 0, .null, .int 0]))] H := hP
  have hD : va_D A [(m0, .inr (3, [.int (nI 32), .long (lB 79764919#64), .long (lB 4294967295#64), .long (lB 4294967295#64), .int 0, .int 0, .null, .int 0]))] := hD
  refine lv_aload_n hx hb d_M_init_31 rfl (lv_at hl 0 rfl) ?_
  refine lv_iconst (v := nI 1) hx hb d_M_init_32 (by decide) ?_
  refine pf_M_27 F hK hP hD hS 0 rfl rfl rfl (Nat.le_of_ble_eq_true rfl) d_M_init_33 (fun H locs hP hD hS => ?_)
  have hP : va_P D classes [(m0, .inr (3, [.int (nI 32), .long (lB 79764919#64), .long (lB 4294967295#64), .long (lB 4294967295#64), .int (nI 1), .int 0, .null, .int 0]))] H := hP
  have hD : va_D A [(m0, .inr (3, [.int (nI 32), .long (lB 79764919#64), .long (lB 4294967295#64), .long (lB 4294967295#64), .int (nI 1), .int 0, .null, .int 0]))] := hD
  refine lv_aload_n hx hb d_M_init_36 rfl (lv_at hl 0 rfl) ?_
  refine lv_iconst (v := nI 1) hx hb d_M_init_37 (by decide) ?_
  refine pf_M_31 F hK hP hD hS 0 rfl rfl rfl (Nat.le_of_ble_eq_true rfl) d_M_init_38 (fun H locs hP hD hS => ?_)
  have hP : va_P D classes [(m0, .inr (3, [.int (nI 32), .long (lB 79764919#64), .long (lB 4294967295#64), .long (lB 4294967295#64), .int (nI 1), .int (nI 1), .null, .int 0]))] H := hP
  have hD : va_D A [(m0, .inr (3, [.int (nI 32), .long (lB 79764919#64), .long (lB 4294967295#64), .long (lB 4294967295#64), .int (nI 1), .int (nI 1), .null, .int 0]))] := hD
  refine lv_aload_n hx hb d_M_init_41 rfl (lv_at hl 0 rfl) ?_
  refine lv_sipush (v := nI 5000) hx hb d_M_init_42 (by decide) ?_
  refine nw_arr (cL := cL) (cB := cB) (cI := cI) (N := 5000) (a0 := (5000, .inl (fun _ => nI 0))) hx hb hT 2 rfl rfl ac_int hK hP hD hS hA (fun _ => rfl) (by decide) (by decide) (by decide) (Nat.le_of_ble_eq_true rfl) (Nat.le_of_ble_eq_true rfl) d_M_init_45 (fun b0 H hP hD hS => ?_)
  have hP : va_P D classes [(m0, .inr (3, [.int (nI 32), .long (lB 79764919#64), .long (lB 4294967295#64), .long (lB 4294967295#64), .int (nI 1), .int (nI 1), .null, .int 0])), (b0, .inl (cI, 5000, .inl (fun _ => nI 0)))] H := hP
  have hD : va_D A [(m0, .inr (3, [.int (nI 32), .long (lB 79764919#64), .long (lB 4294967295#64), .long (lB 4294967295#64), .int (nI 1), .int (nI 1), .null, .int 0])), (b0, .inl (cI, 5000, .inl (fun _ => nI 0)))] := hD
  refine pf_M_34 F hnm hK hP hD hS 0 rfl rfl rfl (Nat.le_of_ble_eq_true rfl) d_M_init_47 (fun H locs hP hD hS => ?_)
  have hP : va_P D classes [(m0, .inr (3, [.int (nI 32), .long (lB 79764919#64), .long (lB 4294967295#64), .long (lB 4294967295#64), .int (nI 1), .int (nI 1), .ref b0, .int 0])), (b0, .inl (cI, 5000, .inl (fun _ => nI 0)))] H := hP
  have hD : va_D A [(m0, .inr (3, [.int (nI 32), .long (lB 79764919#64), .long (lB 4294967295#64), .long (lB 4294967295#64), .int (nI 1), .int (nI 1), .ref b0, .int 0])), (b0, .inl (cI, 5000, .inl (fun _ => nI 0)))] := hD
  exact hret _ _ _ _ b0 d_M_init_50 trivial (hP.sub [0, 1] rfl) (hD.sub [0, 1] (by decide) rfl) hS

set_option maxHeartbeats 4000000 in
set_option maxRecDepth 100000 in
theorem c_P_init (l : Launch) (D : va_G) (cL cB cI : ClassId) (p0 : Nat) (sz : Nat)  : Met l y_P_init (Cond.code y_P_init b_P_init 1 none :: g_tbl) (rmA 1 2 128 14) (MuP D cL cB cI [(p0, .inr (1, [.null, .null]))] sz [.ref p0]) (va_Qv (S := (Nat × Nat)) (fun _ => True) (MuB D [(p0, .inr (1, [.null, .null]))] sz (fun u => match u with | (n0, s0) => [(p0, .inr (1, [.ref n0, .ref s0])), (n0, .inl (cL, 64, .inr (.inl (fun _ => 0)))), (s0, .inl (cL, 64, .inr (.inl (fun _ => 0))))])) (va_A [(p0, .inr (1, [.null, .null]))] sz)) 2 128 (va_A [(p0, .inr (1, [.null, .null]))] sz) := by
  refine mu_startV sz (by decide) (Nat.le_of_ble_eq_true rfl) ?_
  intro p e s m below meth c ls Q A F hnm hP hK hD hA hl hret
  have hx := F.1
  have hb := F.2.1
  have hown := F.2.2.2.1
  have hT := F.2.2.2.2
  have hS : va_S A s.heap s.heap [] := va_S.rf
  have hl : lv_has ls 1 [(0, .ref p0)] := hl
  refine lv_aload_n hx hb d_P_init_0 rfl (lv_at hl 0 rfl) ?_
  refine W.objInit hx hb hown (hT _ ml_P_3) (hT _ im_O_init) (hT _ cd_O_init) rfl (by rw [F.2.2.1]; exact hl.1) rfl d_P_init_1 (Nat.le_of_ble_eq_true rfl) (Nat.le_of_ble_eq_true rfl) ?_
  refine W.eq (g2 := F0 m 4 ls []) rfl ?_
  refine lv_aload_n hx hb d_P_init_4 rfl (lv_at hl 0 rfl) ?_
  refine lv_bipush (v := nI 64) hx hb d_P_init_5 (by decide) ?_
  refine nw_arr (cL := cL) (cB := cB) (cI := cI) (N := 64) (a0 := (64, .inr (.inl (fun _ => 0)))) hx hb hT 0 rfl rfl ac_long hK hP hD hS hA (fun _ => rfl) (by decide) (by decide) (by decide) (Nat.le_of_ble_eq_true rfl) (Nat.le_of_ble_eq_true rfl) d_P_init_7 (fun n0 H hP hD hS => ?_)
  have hP : va_P D classes [(p0, .inr (1, [.null, .null])), (n0, .inl (cL, 64, .inr (.inl (fun _ => 0))))] H := hP
  have hD : va_D A [(p0, .inr (1, [.null, .null])), (n0, .inl (cL, 64, .inr (.inl (fun _ => 0))))] := hD
  refine pf_P_9 F hnm hK hP hD hS 0 rfl rfl rfl (Nat.le_of_ble_eq_true rfl) d_P_init_9 (fun H locs hP hD hS => ?_)
  have hP : va_P D classes [(p0, .inr (1, [.ref n0, .null])), (n0, .inl (cL, 64, .inr (.inl (fun _ => 0))))] H := hP
  have hD : va_D A [(p0, .inr (1, [.ref n0, .null])), (n0, .inl (cL, 64, .inr (.inl (fun _ => 0))))] := hD
  refine lv_aload_n hx hb d_P_init_12 rfl (lv_at hl 0 rfl) ?_
  refine lv_bipush (v := nI 64) hx hb d_P_init_13 (by decide) ?_
  refine nw_arr (cL := cL) (cB := cB) (cI := cI) (N := 64) (a0 := (64, .inr (.inl (fun _ => 0)))) hx hb hT 0 rfl rfl ac_long hK hP hD hS hA (fun _ => rfl) (by decide) (by decide) (by decide) (Nat.le_of_ble_eq_true rfl) (Nat.le_of_ble_eq_true rfl) d_P_init_15 (fun s0 H hP hD hS => ?_)
  have hP : va_P D classes [(p0, .inr (1, [.ref n0, .null])), (n0, .inl (cL, 64, .inr (.inl (fun _ => 0)))), (s0, .inl (cL, 64, .inr (.inl (fun _ => 0))))] H := hP
  have hD : va_D A [(p0, .inr (1, [.ref n0, .null])), (n0, .inl (cL, 64, .inr (.inl (fun _ => 0)))), (s0, .inl (cL, 64, .inr (.inl (fun _ => 0))))] := hD
  refine pf_P_15 F hnm hK hP hD hS 0 rfl rfl rfl (Nat.le_of_ble_eq_true rfl) d_P_init_17 (fun H locs hP hD hS => ?_)
  have hP : va_P D classes [(p0, .inr (1, [.ref n0, .ref s0])), (n0, .inl (cL, 64, .inr (.inl (fun _ => 0)))), (s0, .inl (cL, 64, .inr (.inl (fun _ => 0))))] H := hP
  have hD : va_D A [(p0, .inr (1, [.ref n0, .ref s0])), (n0, .inl (cL, 64, .inr (.inl (fun _ => 0)))), (s0, .inl (cL, 64, .inr (.inl (fun _ => 0))))] := hD
  exact hret _ _ _ _ (n0, s0) d_P_init_20 trivial (hP.sub [0, 1, 2] rfl) (hD.sub [0, 1, 2] (by decide) rfl) hS

set_option maxHeartbeats 4000000 in
set_option maxRecDepth 100000 in
theorem c_K_init (l : Launch) (D : va_G) (cL cB cI : ClassId) (k0 n : Nat) (po fi : BitVec 64) (d o : Bool) (la : BitVec 64) (sz : Nat) (hn : 1 ≤ n ∧ n ≤ 64) : Met l y_K_init (Cond.code y_K_init b_K_init 12 none :: g_tbl) (rmA 5 1 2048 116) (MuP D cL cB cI [(k0, .inr (0, [.int 0, .long 0, .long 0, .long 0, .long 0, .int 0, .int 0, .null]))] sz [.ref k0, .int (nI n), .long (lB po), .long (lB fi), .int (bz d), .int (bz o), .long (lB la)]) (va_Qv (S := (Nat × (Nat → Int64))) (fun u => ∀ b, b < 2048 → u.2 b = lB (q_tab d (q_sd d n (po &&& q_mk n)) b)) (MuB D [(k0, .inr (0, [.int 0, .long 0, .long 0, .long 0, .long 0, .int 0, .int 0, .null]))] sz (fun u => match u with | (t0, f) => [(k0, .inr (0, kf n (po &&& q_mk n) (fi &&& q_mk n) (la &&& q_mk n) d o t0)), (t0, .inl (cL, 2048, .inr (.inl f)))])) (va_A [(k0, .inr (0, [.int 0, .long 0, .long 0, .long 0, .long 0, .int 0, .int 0, .null]))] sz)) 1 2048 (va_A [(k0, .inr (0, [.int 0, .long 0, .long 0, .long 0, .long 0, .int 0, .int 0, .null]))] sz) := by
  refine mu_startV sz (by decide) (Nat.le_of_ble_eq_true rfl) ?_
  intro p e s m below meth c ls Q A F hnm hP hK hD hA hl hret
  have hx := F.1
  have hb := F.2.1
  have hown := F.2.2.2.1
  have hT := F.2.2.2.2
  have hS : va_S A s.heap s.heap [] := va_S.rf
  have hl : lv_has ls 12 [(0, .ref k0), (1, .int (nI n)), (2, .long (lB po)), (4, .long (lB fi)), (6, .int (bz d)), (7, .int (bz o)), (8, .long (lB la))] := hl
  refine lv_aload_n hx hb d_K_init_0 rfl (lv_at hl 0 rfl) ?_
  refine W.objInit hx hb hown (hT _ ml_K_3) (hT _ im_O_init) (hT _ cd_O_init) rfl (by rw [F.2.2.1]; exact hl.1) rfl d_K_init_1 (Nat.le_of_ble_eq_true rfl) (Nat.le_of_ble_eq_true rfl) ?_
  refine W.eq (g2 := F0 m 4 ls []) rfl ?_
  refine lv_aload_n hx hb d_K_init_4 rfl (lv_at hl 0 rfl) ?_
  refine lv_sipush (v := nI 2048) hx hb d_K_init_5 (by decide) ?_
  refine nw_arr (cL := cL) (cB := cB) (cI := cI) (N := 2048) (a0 := (2048, .inr (.inl (fun _ => 0)))) hx hb hT 0 rfl rfl ac_long hK hP hD hS hA (fun _ => rfl) (by decide) (by decide) (by decide) (Nat.le_of_ble_eq_true rfl) (Nat.le_of_ble_eq_true rfl) d_K_init_8 (fun t0 H hP hD hS => ?_)
  have hP : va_P D classes [(k0, .inr (0, [.int 0, .long 0, .long 0, .long 0, .long 0, .int 0, .int 0, .null])), (t0, .inl (cL, 2048, .inr (.inl (fun _ => 0))))] H := hP
  have hD : va_D A [(k0, .inr (0, [.int 0, .long 0, .long 0, .long 0, .long 0, .int 0, .int 0, .null])), (t0, .inl (cL, 2048, .inr (.inl (fun _ => 0))))] := hD
  refine pf_K_9 F hnm hK hP hD hS 0 rfl rfl rfl (Nat.le_of_ble_eq_true rfl) d_K_init_10 (fun H locs hP hD hS => ?_)
  have hP : va_P D classes [(k0, .inr (0, [.int 0, .long 0, .long 0, .long 0, .long 0, .int 0, .int 0, .ref t0])), (t0, .inl (cL, 2048, .inr (.inl (fun _ => 0))))] H := hP
  have hD : va_D A [(k0, .inr (0, [.int 0, .long 0, .long 0, .long 0, .long 0, .int 0, .int 0, .ref t0])), (t0, .inl (cL, 2048, .inr (.inl (fun _ => 0))))] := hD
  refine lv_aload_n hx hb d_K_init_13 rfl (lv_at hl 0 rfl) ?_
  refine lv_iload_n hx hb d_K_init_14 rfl (lv_at hl 1 rfl) ?_
  refine pf_K_15 F hnm hK hP hD hS 0 rfl rfl rfl (Nat.le_of_ble_eq_true rfl) d_K_init_15 (fun H locs hP hD hS => ?_)
  have hP : va_P D classes [(k0, .inr (0, [.int (nI n), .long 0, .long 0, .long 0, .long 0, .int 0, .int 0, .ref t0])), (t0, .inl (cL, 2048, .inr (.inl (fun _ => 0))))] H := hP
  have hD : va_D A [(k0, .inr (0, [.int (nI n), .long 0, .long 0, .long 0, .long 0, .int 0, .int 0, .ref t0])), (t0, .inl (cL, 2048, .inr (.inl (fun _ => 0))))] := hD
  refine lv_aload_n hx hb d_K_init_18 rfl (lv_at hl 0 rfl) ?_
  refine lv_ldc2 hx hb hown (hT _ cj_K_19) d_K_init_19 ?_
  refine tpl (z := lB 18446744073709551615#64) (by decide) ?_
  refine lv_bipush (v := nI 64) hx hb d_K_init_22 (by decide) ?_
  refine lv_iload_n hx hb d_K_init_24 rfl (lv_at hl 1 rfl) ?_
  refine nt_isub (x := 64) hx hb (by omega) d_K_init_25 ?_
  refine bv_lushr hx hb (by omega) d_K_init_26 ?_
  refine tpl (z := (lB (q_mk n))) rfl ?_
  refine pf_K_21 F hnm hK hP hD hS 0 rfl rfl rfl (Nat.le_of_ble_eq_true rfl) d_K_init_27 (fun H locs hP hD hS => ?_)
  have hP : va_P D classes [(k0, .inr (0, [.int (nI n), .long (lB (q_mk n)), .long 0, .long 0, .long 0, .int 0, .int 0, .ref t0])), (t0, .inl (cL, 2048, .inr (.inl (fun _ => 0))))] H := hP
  have hD : va_D A [(k0, .inr (0, [.int (nI n), .long (lB (q_mk n)), .long 0, .long 0, .long 0, .int 0, .int 0, .ref t0])), (t0, .inl (cL, 2048, .inr (.inl (fun _ => 0))))] := hD
  refine lv_aload_n hx hb d_K_init_30 rfl (lv_at hl 0 rfl) ?_
  refine lv_lload_n hx hb d_K_init_31 rfl (lv_at hl 2 rfl) ?_
  refine lv_aload_n hx hb d_K_init_32 rfl (lv_at hl 0 rfl) ?_
  refine gf_K_21 (v := .long (lB (q_mk n))) F hK hP 0 rfl rfl d_K_init_33 ?_
  refine bv_land hx hb d_K_init_36 ?_
  refine pf_K_25 F hnm hK hP hD hS 0 rfl rfl rfl (Nat.le_of_ble_eq_true rfl) d_K_init_37 (fun H locs hP hD hS => ?_)
  have hP : va_P D classes [(k0, .inr (0, [.int (nI n), .long (lB (q_mk n)), .long (lB (po &&& q_mk n)), .long 0, .long 0, .int 0, .int 0, .ref t0])), (t0, .inl (cL, 2048, .inr (.inl (fun _ => 0))))] H := hP
  have hD : va_D A [(k0, .inr (0, [.int (nI n), .long (lB (q_mk n)), .long (lB (po &&& q_mk n)), .long 0, .long 0, .int 0, .int 0, .ref t0])), (t0, .inl (cL, 2048, .inr (.inl (fun _ => 0))))] := hD
  refine lv_aload_n hx hb d_K_init_40 rfl (lv_at hl 0 rfl) ?_
  refine lv_lload hx hb d_K_init_41 (lv_at hl 3 rfl) ?_
  refine lv_aload_n hx hb d_K_init_43 rfl (lv_at hl 0 rfl) ?_
  refine gf_K_21 (v := .long (lB (q_mk n))) F hK hP 0 rfl rfl d_K_init_44 ?_
  refine bv_land hx hb d_K_init_47 ?_
  refine pf_K_28 F hnm hK hP hD hS 0 rfl rfl rfl (Nat.le_of_ble_eq_true rfl) d_K_init_48 (fun H locs hP hD hS => ?_)
  have hP : va_P D classes [(k0, .inr (0, [.int (nI n), .long (lB (q_mk n)), .long (lB (po &&& q_mk n)), .long (lB (fi &&& q_mk n)), .long 0, .int 0, .int 0, .ref t0])), (t0, .inl (cL, 2048, .inr (.inl (fun _ => 0))))] H := hP
  have hD : va_D A [(k0, .inr (0, [.int (nI n), .long (lB (q_mk n)), .long (lB (po &&& q_mk n)), .long (lB (fi &&& q_mk n)), .long 0, .int 0, .int 0, .ref t0])), (t0, .inl (cL, 2048, .inr (.inl (fun _ => 0))))] := hD
  refine lv_aload_n hx hb d_K_init_51 rfl (lv_at hl 0 rfl) ?_
  refine lv_lload hx hb d_K_init_52 (lv_at hl 6 rfl) ?_
  refine lv_aload_n hx hb d_K_init_54 rfl (lv_at hl 0 rfl) ?_
  refine gf_K_21 (v := .long (lB (q_mk n))) F hK hP 0 rfl rfl d_K_init_55 ?_
  refine bv_land hx hb d_K_init_58 ?_
  refine pf_K_31 F hnm hK hP hD hS 0 rfl rfl rfl (Nat.le_of_ble_eq_true rfl) d_K_init_59 (fun H locs hP hD hS => ?_)
  have hP : va_P D classes [(k0, .inr (0, [.int (nI n), .long (lB (q_mk n)), .long (lB (po &&& q_mk n)), .long (lB (fi &&& q_mk n)), .long (lB (la &&& q_mk n)), .int 0, .int 0, .ref t0])), (t0, .inl (cL, 2048, .inr (.inl (fun _ => 0))))] H := hP
  have hD : va_D A [(k0, .inr (0, [.int (nI n), .long (lB (q_mk n)), .long (lB (po &&& q_mk n)), .long (lB (fi &&& q_mk n)), .long (lB (la &&& q_mk n)), .int 0, .int 0, .ref t0])), (t0, .inl (cL, 2048, .inr (.inl (fun _ => 0))))] := hD
  refine lv_aload_n hx hb d_K_init_62 rfl (lv_at hl 0 rfl) ?_
  refine lv_iload hx hb d_K_init_63 (lv_at hl 4 rfl) ?_
  refine pf_K_34 F hnm hK hP hD hS 0 rfl (bz_nz _) (bz_fit _) (Nat.le_of_ble_eq_true rfl) d_K_init_65 (fun H locs hP hD hS => ?_)
  have hP : va_P D classes [(k0, .inr (0, [.int (nI n), .long (lB (q_mk n)), .long (lB (po &&& q_mk n)), .long (lB (fi &&& q_mk n)), .long (lB (la &&& q_mk n)), .int (bz d), .int 0, .ref t0])), (t0, .inl (cL, 2048, .inr (.inl (fun _ => 0))))] H := hP
  have hD : va_D A [(k0, .inr (0, [.int (nI n), .long (lB (q_mk n)), .long (lB (po &&& q_mk n)), .long (lB (fi &&& q_mk n)), .long (lB (la &&& q_mk n)), .int (bz d), .int 0, .ref t0])), (t0, .inl (cL, 2048, .inr (.inl (fun _ => 0))))] := hD
  refine lv_aload_n hx hb d_K_init_68 rfl (lv_at hl 0 rfl) ?_
  refine lv_iload hx hb d_K_init_69 (lv_at hl 5 rfl) ?_
  refine pf_K_38 F hnm hK hP hD hS 0 rfl (bz_nz _) (bz_fit _) (Nat.le_of_ble_eq_true rfl) d_K_init_71 (fun H locs hP hD hS => ?_)
  have hP : va_P D classes [(k0, .inr (0, [.int (nI n), .long (lB (q_mk n)), .long (lB (po &&& q_mk n)), .long (lB (fi &&& q_mk n)), .long (lB (la &&& q_mk n)), .int (bz d), .int (bz o), .ref t0])), (t0, .inl (cL, 2048, .inr (.inl (fun _ => 0))))] H := hP
  have hD : va_D A [(k0, .inr (0, [.int (nI n), .long (lB (q_mk n)), .long (lB (po &&& q_mk n)), .long (lB (fi &&& q_mk n)), .long (lB (la &&& q_mk n)), .int (bz d), .int (bz o), .ref t0])), (t0, .inl (cL, 2048, .inr (.inl (fun _ => 0))))] := hD
  obtain ⟨pm, hpm⟩ : ∃ z, z = po &&& q_mk n := ⟨_, rfl⟩
  obtain ⟨fm, hfm⟩ : ∃ z, z = fi &&& q_mk n := ⟨_, rfl⟩
  obtain ⟨lm, hlm⟩ : ∃ z, z = la &&& q_mk n := ⟨_, rfl⟩
  rw [← hpm, ← hfm, ← hlm] at hP hD hret
  have hP : va_P D classes [(k0, .inr (0, kf n pm fm lm d o t0)), (t0, .inl (cL, 2048, .inr (.inl (fun _ => 0))))] H := hP
  have hD : va_D A [(k0, .inr (0, kf n pm fm lm d o t0)), (t0, .inl (cL, 2048, .inr (.inl (fun _ => 0))))] := hD
  refine W.widen (k := 1) (n := 2048) (Nat.le_of_ble_eq_true rfl) (Nat.le_of_ble_eq_true rfl) ?_
  refine lv_iconst (v := nI 0) hx hb d_K_init_74 (by decide) ?_
  refine lv_istore (lv' := [(10, .int (nI 0)), (0, .ref k0), (1, .int (nI n)), (2, .long (lB po)), (4, .long (lB fi)), (6, .int (bz d)), (7, .int (bz o)), (8, .long (lB la))]) hx hb d_K_init_75 hl (by decide) rfl (fun ls hl => ?_)
  have loop110 : ∀ (kj k : Nat), k + kj = 7 → ∀ (f : Nat → Int64) (hf : ∀ b, b < 256 * (k + 1) → f b = lB (q_tab d (q_sd d n pm) b)) (ls : Array Slot) (H : Heap) (locs : List Loc), va_P D classes [(k0, .inr (0, kf n pm fm lm d o t0)), (t0, .inl (cL, 2048, .inr (.inl f)))] H → va_D A [(k0, .inr (0, kf n pm fm lm d o t0)), (t0, .inl (cL, 2048, .inr (.inl f)))] → va_S A s.heap H locs → lv_has ls 12 [(0, .ref k0), (10, .int (nI (k + 1)))] → W p l e (rmA 5 1 2048 116) s m ([.ref k0, .int (nI n), .long (lB po), .long (lB fi), .int (bz d), .int (bz o), .long (lB la)] : List Value).toArray below meth c H locs 1 2048 Q (F0 m 110 ls []) := by
    intro kj
    induction kj with
    | zero =>
      intro k hijk f hf ls H locs hP hD hS hl
      refine lv_iload hx hb d_K_init_110 (lv_at hl 1 rfl) ?_
      refine lv_bipush (v := nI 8) hx hb d_K_init_112 (by decide) ?_
      refine nt_icmp_ge (a := (k + 1)) (b := 8) (tgt := 175) hx hb (by omega) (by omega) d_K_init_114 (by decide) (fun hc => ?_) (fun hc => absurd hc (by omega))
      exact hret _ _ _ _ (t0, f) d_K_init_175 (fun b hb5 => hf b (by omega)) (hP.sub [0, 1] rfl) (hD.sub [0, 1] (by decide) rfl) hS
    | succ kj ihk =>
      intro k hijk f hf ls H locs hP hD hS hl
      refine lv_iload hx hb d_K_init_110 (lv_at hl 1 rfl) ?_
      refine lv_bipush (v := nI 8) hx hb d_K_init_112 (by decide) ?_
      refine nt_icmp_ge (a := (k + 1)) (b := 8) (tgt := 175) hx hb (by omega) (by omega) d_K_init_114 (by decide) (fun hc => absurd hc (by omega)) (fun hc => ?_)
      refine lv_iconst (v := nI 0) hx hb d_K_init_117 (by decide) ?_
      refine lv_istore (lv' := [(11, .int (nI 0)), (0, .ref k0), (10, .int (nI (k + 1)))]) hx hb d_K_init_118 hl (by decide) rfl (fun ls hl => ?_)
      have loop120 : ∀ (x y : Nat), y + x = 256 → ∀ (f : Nat → Int64) (hf : ∀ b, b < 256 * (k + 1) + y → f b = lB (q_tab d (q_sd d n pm) b)) (ls : Array Slot) (H : Heap) (locs : List Loc), va_P D classes [(k0, .inr (0, kf n pm fm lm d o t0)), (t0, .inl (cL, 2048, .inr (.inl f)))] H → va_D A [(k0, .inr (0, kf n pm fm lm d o t0)), (t0, .inl (cL, 2048, .inr (.inl f)))] → va_S A s.heap H locs → lv_has ls 12 [(0, .ref k0), (10, .int (nI (k + 1))), (11, .int (nI y))] → W p l e (rmA 5 1 2048 116) s m ([.ref k0, .int (nI n), .long (lB po), .long (lB fi), .int (bz d), .int (bz o), .long (lB la)] : List Value).toArray below meth c H locs 1 2048 Q (F0 m 120 ls []) := by
        intro x
        induction x with
        | zero =>
          intro y hijy f hf ls H locs hP hD hS hl
          refine lv_iload hx hb d_K_init_120 (lv_at hl 2 rfl) ?_
          refine lv_sipush (v := nI 256) hx hb d_K_init_122 (by decide) ?_
          refine nt_icmp_ge (a := y) (b := 256) (tgt := 169) hx hb (by omega) (by omega) d_K_init_125 (by decide) (fun hc2 => ?_) (fun hc2 => absurd hc2 (by omega))
          refine lv_iinc (v := (nI (k + 1 + 1))) (lv' := [(10, .int (nI (k + 1 + 1))), (0, .ref k0), (11, .int (nI y))]) hx hb d_K_init_169 hl (k := 1) rfl (nI_inc1 _) (by decide) rfl (fun ls hl => ?_)
          refine lv_goto (tgt := 110) hx hb d_K_init_172 (by decide) ?_
          exact ihk (k + 1) (by omega) f (fun b hb5 => hf b (by omega)) ls H locs hP hD hS (lv_sub hl [1, 0] rfl)
        | succ x ihy =>
          intro y hijy f hf ls H locs hP hD hS hl
          refine lv_iload hx hb d_K_init_120 (lv_at hl 2 rfl) ?_
          refine lv_sipush (v := nI 256) hx hb d_K_init_122 (by decide) ?_
          refine nt_icmp_ge (a := y) (b := 256) (tgt := 169) hx hb (by omega) (by omega) d_K_init_125 (by decide) (fun hc2 => absurd hc2 (by omega)) (fun hc2 => ?_)
          refine lv_aload_n hx hb d_K_init_128 rfl (lv_at hl 0 rfl) ?_
          refine gf_K_9 (v := .ref t0) F hK hP 0 rfl rfl d_K_init_129 ?_
          refine lv_sipush (v := nI 256) hx hb d_K_init_132 (by decide) ?_
          refine lv_iload hx hb d_K_init_135 (lv_at hl 1 rfl) ?_
          refine nt_imul (x := 256) hx hb d_K_init_137 ?_
          refine lv_iload hx hb d_K_init_138 (lv_at hl 2 rfl) ?_
          refine nt_iadd (x := (256 * (k + 1))) hx hb d_K_init_140 ?_
          refine lv_aload_n hx hb d_K_init_141 rfl (lv_at hl 0 rfl) ?_
          refine lv_aload_n hx hb d_K_init_142 rfl (lv_at hl 0 rfl) ?_
          refine gf_K_9 (v := .ref t0) F hK hP 0 rfl rfl d_K_init_143 ?_
          refine lv_sipush (v := nI 256) hx hb d_K_init_146 (by decide) ?_
          refine lv_iload hx hb d_K_init_149 (lv_at hl 1 rfl) ?_
          refine lv_iconst (v := nI 1) hx hb d_K_init_151 (by decide) ?_
          refine nt_isub (x := (k + 1)) hx hb (by omega) d_K_init_152 ?_
          refine nt_imul (x := 256) hx hb d_K_init_153 ?_
          refine lv_iload hx hb d_K_init_154 (lv_at hl 2 rfl) ?_
          refine nt_iadd (x := (256 * ((k + 1) - 1))) hx hb d_K_init_156 ?_
          refine nt_lald (j := ((256 * ((k + 1) - 1)) + y)) hx hb hK hP 1 rfl (by omega) (by decide) d_K_init_157 ?_
          refine lv_iconst (v := nI 0) hx hb d_K_init_158 (by decide) ?_
          refine roVL (rest := [.int (nI ((256 * (k + 1)) + y)), .ref t0]) F (c_K_next l D cL cB cI k0 t0 n pm fm lm d o f (f (256 * (k + 1 - 1) + y)).toBitVec 0 (by decide)) k_K_next ml_K_45 ⟨rfl, rfl, by decide, by decide⟩ hK hP hS (hP.sub [0, 1] rfl) rfl rfl rfl rfl hl.1 rfl (Nat.le_of_ble_eq_true rfl) d_K_init_159 ⟨Nat.le_of_ble_eq_true rfl, Nat.le_of_ble_eq_true rfl⟩ (fun H locs hP hS => ?_)
          refine nt_last (j := ((256 * (k + 1)) + y)) hx hb hK hP hD hS 1 rfl (by omega) (by decide) d_K_init_162 (fun H locs hP hD hS => ?_)
          have hP : va_P D classes [(k0, .inr (0, kf n pm fm lm d o t0)), (t0, .inl (cL, 2048, .inr (.inl (vp_updL f (256 * (k + 1) + y) (lB (q_nx d f (f (256 * (k + 1 - 1) + y)).toBitVec 0))))))] H := hP
          have hD : va_D A [(k0, .inr (0, kf n pm fm lm d o t0)), (t0, .inl (cL, 2048, .inr (.inl (vp_updL f (256 * (k + 1) + y) (lB (q_nx d f (f (256 * (k + 1 - 1) + y)).toBitVec 0))))))] := hD
          refine lv_iinc (v := (nI (y + 1))) (lv' := [(11, .int (nI (y + 1))), (0, .ref k0), (10, .int (nI (k + 1)))]) hx hb d_K_init_163 hl (k := 2) rfl (nI_inc1 _) (by decide) rfl (fun ls hl => ?_)
          refine lv_goto (tgt := 120) hx hb d_K_init_166 (by decide) ?_
          exact ihy (y + 1) (by omega) _ (tab_fill hf (tab_step (by omega) (by omega) hf)) ls H locs hP hD hS (lv_sub hl [1, 2, 0] rfl)
      exact loop120 (256) 0 (by omega) f hf ls H locs hP hD hS (lv_sub hl [1, 2, 0] rfl)
  have loop77 : ∀ (j i : Nat), i + j = 256 → ∀ (f : Nat → Int64) (hf : ∀ b, b < i → f b = lB (q_tab d (q_sd d n pm) b)) (ls : Array Slot) (H : Heap) (locs : List Loc), va_P D classes [(k0, .inr (0, kf n pm fm lm d o t0)), (t0, .inl (cL, 2048, .inr (.inl f)))] H → va_D A [(k0, .inr (0, kf n pm fm lm d o t0)), (t0, .inl (cL, 2048, .inr (.inl f)))] → va_S A s.heap H locs → lv_has ls 12 [(0, .ref k0), (10, .int (nI i))] → W p l e (rmA 5 1 2048 116) s m ([.ref k0, .int (nI n), .long (lB po), .long (lB fi), .int (bz d), .int (bz o), .long (lB la)] : List Value).toArray below meth c H locs 1 2048 Q (F0 m 77 ls []) := by
    intro j
    induction j with
    | zero =>
      intro i hiji f hf ls H locs hP hD hS hl
      refine lv_iload hx hb d_K_init_77 (lv_at hl 1 rfl) ?_
      refine lv_sipush (v := nI 256) hx hb d_K_init_79 (by decide) ?_
      refine nt_icmp_ge (a := i) (b := 256) (tgt := 107) hx hb (by omega) (by omega) d_K_init_82 (by decide) (fun hc => ?_) (fun hc => absurd hc (by omega))
      refine lv_iconst (v := nI 1) hx hb d_K_init_107 (by decide) ?_
      refine lv_istore (lv' := [(10, .int (nI 1)), (0, .ref k0)]) hx hb d_K_init_108 hl (by decide) rfl (fun ls hl => ?_)
      exact loop110 7 0 (by omega) f (fun b hb5 => hf b (by omega)) ls H locs hP hD hS (lv_sub hl [1, 0] rfl)
    | succ j ihi =>
      intro i hiji f hf ls H locs hP hD hS hl
      refine lv_iload hx hb d_K_init_77 (lv_at hl 1 rfl) ?_
      refine lv_sipush (v := nI 256) hx hb d_K_init_79 (by decide) ?_
      refine nt_icmp_ge (a := i) (b := 256) (tgt := 107) hx hb (by omega) (by omega) d_K_init_82 (by decide) (fun hc => absurd hc (by omega)) (fun hc => ?_)
      refine lv_aload_n hx hb d_K_init_85 rfl (lv_at hl 0 rfl) ?_
      refine gf_K_9 (v := .ref t0) F hK hP 0 rfl rfl d_K_init_86 ?_
      refine lv_iload hx hb d_K_init_89 (lv_at hl 1 rfl) ?_
      refine lv_aload_n hx hb d_K_init_91 rfl (lv_at hl 0 rfl) ?_
      refine lv_lconst (v := lB 0#64) hx hb d_K_init_92 rfl ?_
      refine lv_iload hx hb d_K_init_93 (lv_at hl 1 rfl) ?_
      refine lv_bipush (v := nI 8) hx hb d_K_init_95 (by decide) ?_
      refine roVL (rest := [.int (nI i), .ref t0]) F (c_K_shift l D cL cB cI k0 t0 n pm fm lm d o 0#64 i 8 hn (by omega) (by omega)) k_K_shift ml_K_41 ⟨rfl, rfl, by decide, by decide⟩ hK hP hS (hP.sub [0] rfl) rfl rfl rfl rfl hl.1 rfl (Nat.le_of_ble_eq_true rfl) d_K_init_97 ⟨Nat.le_of_ble_eq_true rfl, Nat.le_of_ble_eq_true rfl⟩ (fun H locs hP hS => ?_)
      refine nt_last (j := i) hx hb hK hP hD hS 1 rfl (by omega) (by decide) d_K_init_100 (fun H locs hP hD hS => ?_)
      have hP : va_P D classes [(k0, .inr (0, kf n pm fm lm d o t0)), (t0, .inl (cL, 2048, .inr (.inl (vp_updL f i (lB (q_sh d (q_sd d n pm) 0#64 i 8))))))] H := hP
      have hD : va_D A [(k0, .inr (0, kf n pm fm lm d o t0)), (t0, .inl (cL, 2048, .inr (.inl (vp_updL f i (lB (q_sh d (q_sd d n pm) 0#64 i 8))))))] := hD
      refine lv_iinc (v := (nI (i + 1))) (lv' := [(10, .int (nI (i + 1))), (0, .ref k0)]) hx hb d_K_init_101 hl (k := 1) rfl (nI_inc1 _) (by decide) rfl (fun ls hl => ?_)
      refine lv_goto (tgt := 77) hx hb d_K_init_104 (by decide) ?_
      exact ihi (i + 1) (by omega) _ (tab_fill hf (tab_lo d _ (by omega)).symm) ls H locs hP hD hS (lv_sub hl [1, 0] rfl)
  exact loop77 (256) 0 (by omega) _ (fun b hb5 => absurd hb5 (by omega)) ls H locs hP hD hS (lv_sub hl [1, 0] rfl)
end
section
theorem one_shl {i n : Nat} {po : BitVec 64} (hn : n ≤ 64) (hi : i < n) : 1#64 <<< i = q_xp n po 1#64 i := by
  rw [xp_one hn i hi]; rfl
theorem go_first {d : Bool} {n : Nat} (hn : 1 ≤ n ∧ n ≤ 64) {po : BitVec 64} (hp : q_M n po) {i : Nat} (hi : i < n) : q_li d n (q_sh d (q_sd d n po) (q_sd d n (1#64 <<< i)) 0 1) = q_xp n po (q_xp n po 1#64 i) 1 := by
  rw [li_sh1 hn hp, one_shl hn.2 hi]; rfl
theorem go_fill {n i : Nat} {po : BitVec 64} {e : Nat} {g : Nat → Int64} (hg : ∀ j, j < i → j < n → g j = lB (q_xp n po (q_xp n po 1#64 j) e)) {v : BitVec 64} (hv : i < n → v = q_xp n po (q_xp n po 1#64 i) e) : ∀ j, j < i + 1 → j < n → vp_updL g i (lB v) j = lB (q_xp n po (q_xp n po 1#64 j) e) := by
  intro j hj hjn
  by_cases h : j = i
  · subst h; rw [pk_uLs, hv hjn]
  · rw [pk_uLn h]; exact hg j (by omega) hjn
theorem go_sq {n i : Nat} (hn : 1 ≤ n ∧ n ≤ 64) {po : BitVec 64} (hp : q_M n po) {e : Nat} {g : Nat → Int64} (hg : ∀ j, j < n → g j = lB (q_xp n po (q_xp n po 1#64 j) e)) (hi : i < n) : q_mt g (g i).toBitVec 64 = q_xp n po (q_xp n po 1#64 i) (e + e) := by
  rw [hg i hi, lB_bv, mt_xp hn.2 (xp_M hn.2 hp (xp_M hn.2 hp (one_M hn) i) e) hg, ← xp_add]
theorem ln_and1 (k : Nat) : lN k &&& lB 1#64 = lB (BitVec.ofNat 64 (k % 2)) := by
  show lB (BitVec.ofNat 64 k) &&& lB 1#64 = _
  rw [lB_and]
  congr 1
  apply BitVec.eq_of_toNat_eq
  rw [BitVec.toNat_and]
  show (BitVec.ofNat 64 k).toNat &&& (2 ^ 1 - 1) = (BitVec.ofNat 64 (k % 2)).toNat
  rw [Nat.and_two_pow_sub_one_eq_mod, BitVec.toNat_ofNat, BitVec.toNat_ofNat]
  omega
theorem ln_shr1 {k : Nat} (h : k < 2 ^ 62) : lN k >>> ((nI 1).toInt64 &&& 63) = lN (k / 2) := by
  apply Int64.toInt_inj.mp
  have e : (lN k >>> ((nI 1).toInt64 &&& 63)).toInt = (lN k).toInt >>> 1 := by
    show ((lN k).toBitVec.sshiftRight ((((nI 1).toInt64 &&& 63).toBitVec).smod 64).toNat).toInt = _
    rw [show ((((nI 1).toInt64 &&& 63).toBitVec).smod 64).toNat = 1 by decide, BitVec.toInt_sshiftRight]
    rfl
  rw [e, pk_lT (by omega), pk_lT (by omega), Int.shiftRight_eq_div_pow]
  rfl
set_option maxHeartbeats 4000000 in
set_option maxRecDepth 100000 in
theorem c_P_go (l : Launch) (D : va_G) (cL cB cI : ClassId) (p0 n0 s0 k0 t0 n : Nat) (po fi la : BitVec 64) (d o : Bool) (nf sf : Nat → Int64) (Rg : BitVec 64) (bm : Nat) (sz : Nat) (hn : 1 ≤ n ∧ n ≤ 64) (hp : q_M n po) (hbm : bm < 2 ^ 62) : Met l y_P_go (Cond.code y_P_go b_P_go 11 (some .long) :: g_tbl) (rmA 5 0 0 116) (MuP D cL cB cI [(p0, .inr (1, [.ref n0, .ref s0])), (n0, .inl (cL, 64, .inr (.inl nf))), (s0, .inl (cL, 64, .inr (.inl sf))), (k0, .inr (0, kf n po fi la d o t0))] sz [.ref p0, .ref k0, .long (lB Rg), .long (lN bm)]) (va_Ql (S := ((Nat → Int64) × (Nat → Int64))) (fun r _ => r = lB (q_xp n po (Rg &&& q_mk n) bm)) (MuB D [(p0, .inr (1, [.ref n0, .ref s0])), (n0, .inl (cL, 64, .inr (.inl nf))), (s0, .inl (cL, 64, .inr (.inl sf))), (k0, .inr (0, kf n po fi la d o t0))] sz (fun u => match u with | (g, h) => [(p0, .inr (1, [.ref n0, .ref s0])), (n0, .inl (cL, 64, .inr (.inl g))), (s0, .inl (cL, 64, .inr (.inl h))), (k0, .inr (0, kf n po fi la d o t0))])) (va_A [(p0, .inr (1, [.ref n0, .ref s0])), (n0, .inl (cL, 64, .inr (.inl nf))), (s0, .inl (cL, 64, .inr (.inl sf))), (k0, .inr (0, kf n po fi la d o t0))] sz)) 0 0 (va_A [(p0, .inr (1, [.ref n0, .ref s0])), (n0, .inl (cL, 64, .inr (.inl nf))), (s0, .inl (cL, 64, .inr (.inl sf))), (k0, .inr (0, kf n po fi la d o t0))] sz) := by
  refine mu_startL sz (by decide) (Nat.le_of_ble_eq_true rfl) ?_
  intro p e s m below meth c ls Q A F hnm hP hK hD hA hl hret
  have hx := F.1
  have hb := F.2.1
  have hown := F.2.2.2.1
  have hT := F.2.2.2.2
  have hS : va_S A s.heap s.heap [] := va_S.rf
  have hl : lv_has ls 11 [(0, .ref p0), (1, .ref k0), (2, .long (lB Rg)), (4, .long (lN bm))] := hl
  refine lv_iconst (v := nI 0) hx hb d_P_go_0 (by decide) ?_
  refine lv_istore (lv' := [(6, .int (nI 0)), (0, .ref p0), (1, .ref k0), (2, .long (lB Rg)), (4, .long (lN bm))]) hx hb d_P_go_1 hl (by decide) rfl (fun ls hl => ?_)
  have loop66 : ∀ (fu k ee : Nat) (r : BitVec 64), k < 2 ^ fu → k < 2 ^ 62 → q_M n r → q_xp n po r (ee * k) = q_xp n po (Rg &&& q_mk n) bm → ∀ (g h : Nat → Int64), (∀ j, j < n → g j = lB (q_xp n po (q_xp n po 1#64 j) ee)) → ∀ (ls : Array Slot) (H : Heap) (locs : List Loc), va_P D classes [(p0, .inr (1, [.ref n0, .ref s0])), (n0, .inl (cL, 64, .inr (.inl g))), (s0, .inl (cL, 64, .inr (.inl h))), (k0, .inr (0, kf n po fi la d o t0))] H → va_D A [(p0, .inr (1, [.ref n0, .ref s0])), (n0, .inl (cL, 64, .inr (.inl g))), (s0, .inl (cL, 64, .inr (.inl h))), (k0, .inr (0, kf n po fi la d o t0))] → va_S A s.heap H locs → lv_has ls 11 [(0, .ref p0), (1, .ref k0), (6, .long (lB r)), (8, .long (lN k))] → W p l e (rmA 5 0 0 116) s m ([.ref p0, .ref k0, .long (lB Rg), .long (lN bm)] : List Value).toArray below meth c H locs 0 0 Q (F0 m 66 ls []) := by
    intro fu
    induction fu with
    | zero =>
      intro k ee r hk hk2 hr hz g h hg ls H locs hP hD hS hl
      refine lv_lload hx hb d_P_go_66 (lv_at hl 3 rfl) ?_
      refine lv_lconst (v := lB 0#64) hx hb d_P_go_68 rfl ?_
      refine bl_le (tgt := 159) hx hb d_P_go_69 d_P_go_70 (by decide) (fun hc => ?_) (fun hc => absurd (ln_npos hk2 hc) (by have : k < 1 := hk; omega))
      have hk0 := ln_pos hk2 hc
      subst hk0
      refine lv_lload hx hb d_P_go_159 (lv_at hl 2 rfl) ?_
      refine tpl (z := (lB (q_xp n po (Rg &&& q_mk n) bm))) (by rw [← hz, Nat.mul_zero]; rfl) ?_
      exact hret _ _ _ _ _ (g, h) d_P_go_161 rfl (hP.sub [0, 1, 2, 3] rfl) (hD.sub [0, 1, 2, 3] (by decide) rfl) hS
    | succ fu ih =>
      intro k ee r hk hk2 hr hz g h hg ls H locs hP hD hS hl
      refine lv_lload hx hb d_P_go_66 (lv_at hl 3 rfl) ?_
      refine lv_lconst (v := lB 0#64) hx hb d_P_go_68 rfl ?_
      refine bl_le (tgt := 159) hx hb d_P_go_69 d_P_go_70 (by decide) (fun hc => ?_) (fun hc => ?_)
      · have hk0 := ln_pos hk2 hc
        subst hk0
        refine lv_lload hx hb d_P_go_159 (lv_at hl 2 rfl) ?_
        refine tpl (z := (lB (q_xp n po (Rg &&& q_mk n) bm))) (by rw [← hz, Nat.mul_zero]; rfl) ?_
        exact hret _ _ _ _ _ (g, h) d_P_go_161 rfl (hP.sub [0, 1, 2, 3] rfl) (hD.sub [0, 1, 2, 3] (by decide) rfl) hS
      · have hk0 := ln_npos hk2 hc
        refine lv_lload hx hb d_P_go_73 (lv_at hl 3 rfl) ?_
        refine lv_lconst (v := lB 1#64) hx hb d_P_go_75 rfl ?_
        refine lv_land hx hb d_P_go_76 ?_
        refine tpl (z := (lB (BitVec.ofNat 64 (k % 2)))) (ln_and1 k) ?_
        refine lv_lconst (v := lB 1#64) hx hb d_P_go_77 rfl ?_
        refine bl_ne (a := (BitVec.ofNat 64 (k % 2))) (b := 1#64) (tgt := 94) hx hb d_P_go_78 d_P_go_79 (by decide) (fun hc2 => ?_) (fun hc2 => ?_)
        · have hodd := mt (ln_1 (Nat.mod_lt _ (by decide))).mpr hc2
          refine lv_lload hx hb d_P_go_94 (lv_at hl 2 rfl) ?_
          refine lv_lstore (lv' := [(6, .long (lB r)), (0, .ref p0), (1, .ref k0), (8, .long (lN k))]) hx hb d_P_go_96 hl (by decide) rfl (fun ls hl => ?_)
          refine lv_iconst (v := nI 0) hx hb d_P_go_98 (by decide) ?_
          refine lv_istore (lv' := [(10, .int (nI 0)), (6, .long (lB r)), (0, .ref p0), (1, .ref k0), (8, .long (lN k))]) hx hb d_P_go_99 hl (by decide) rfl (fun ls hl => ?_)
          have loop101 : ∀ (j i : Nat), i + j = 64 → ∀ (h : Nat → Int64) (hh : ∀ j, j < i → j < n → h j = lB (q_xp n po (q_xp n po 1#64 j) (ee + ee))) (ls : Array Slot) (H : Heap) (locs : List Loc), va_P D classes [(p0, .inr (1, [.ref n0, .ref s0])), (n0, .inl (cL, 64, .inr (.inl g))), (s0, .inl (cL, 64, .inr (.inl h))), (k0, .inr (0, kf n po fi la d o t0))] H → va_D A [(p0, .inr (1, [.ref n0, .ref s0])), (n0, .inl (cL, 64, .inr (.inl g))), (s0, .inl (cL, 64, .inr (.inl h))), (k0, .inr (0, kf n po fi la d o t0))] → va_S A s.heap H locs → lv_has ls 11 [(0, .ref p0), (1, .ref k0), (6, .long (lB r)), (8, .long (lN k)), (10, .int (nI i))] → W p l e (rmA 5 0 0 116) s m ([.ref p0, .ref k0, .long (lB Rg), .long (lN bm)] : List Value).toArray below meth c H locs 0 0 Q (F0 m 101 ls []) := by
            intro j
            induction j with
            | zero =>
              intro i hiji h hh ls H locs hP hD hS hl
              refine lv_iload hx hb d_P_go_101 (lv_at hl 4 rfl) ?_
              refine lv_bipush (v := nI 64) hx hb d_P_go_103 (by decide) ?_
              refine nt_icmp_ge (a := i) (b := 64) (tgt := 135) hx hb (by omega) (by omega) d_P_go_105 (by decide) (fun hc3 => ?_) (fun hc3 => absurd hc3 (by omega))
              refine lv_aload_n hx hb d_P_go_135 rfl (lv_at hl 0 rfl) ?_
              refine gf_P_15 (v := .ref s0) F hK hP 0 rfl rfl d_P_go_136 ?_
              refine lv_iconst (v := nI 0) hx hb d_P_go_139 (by decide) ?_
              refine lv_aload_n hx hb d_P_go_140 rfl (lv_at hl 0 rfl) ?_
              refine gf_P_9 (v := .ref n0) F hK hP 0 rfl rfl d_P_go_141 ?_
              refine lv_iconst (v := nI 0) hx hb d_P_go_144 (by decide) ?_
              refine lv_bipush (v := nI 64) hx hb d_P_go_145 (by decide) ?_
              refine va_copyl hx hb (by rw [F.2.2.1]; exact hl.1.symm) hown (hT _ ml_P_43) (hT _ nm_S_arraycopy) (hT _ sm_S_arraycopy) (hT _ in_S) hK.1 hP hD hS 2 1 0 0 rfl rfl rfl rfl rfl (by decide) (by decide) (by decide) (by decide) (by decide) (fun _ _ => rfl) (by decide) (by decide) d_P_go_147 (fun H locs hP hD hS => ?_)
              rw [show (nI 0).toNatClampNeg = 0 by decide, show (nI 64).toNatClampNeg = 64 by decide] at hP hD
              have hP : va_P D classes [(p0, .inr (1, [.ref n0, .ref s0])), (n0, .inl (cL, 64, .inr (.inl (va_cpy h g 0 0 64)))), (s0, .inl (cL, 64, .inr (.inl h))), (k0, .inr (0, kf n po fi la d o t0))] H := hP
              have hD : va_D A [(p0, .inr (1, [.ref n0, .ref s0])), (n0, .inl (cL, 64, .inr (.inl (va_cpy h g 0 0 64)))), (s0, .inl (cL, 64, .inr (.inl h))), (k0, .inr (0, kf n po fi la d o t0))] := hD
              refine lv_lload hx hb d_P_go_150 (lv_at hl 3 rfl) ?_
              refine lv_iconst (v := nI 1) hx hb d_P_go_152 (by decide) ?_
              refine lv_lshr hx hb d_P_go_153 (ln_shr1 hk2) ?_
              refine lv_lstore (lv' := [(8, .long (lN (k / 2))), (0, .ref p0), (1, .ref k0), (6, .long (lB r)), (10, .int (nI i))]) hx hb d_P_go_154 hl (by decide) rfl (fun ls hl => ?_)
              refine lv_goto (tgt := 66) hx hb d_P_go_156 (by decide) ?_
              exact ih (k / 2) (ee + ee) (r) (by rw [Nat.pow_succ] at hk; omega) (by omega) hr (by rw [← xp_even hodd]; exact hz) _ h (fun j hj => by rw [pk_cpy_in (Nat.zero_le _) (by omega)]; rw [Nat.sub_zero, Nat.zero_add]; exact hh j (by omega) hj) ls H locs hP hD hS (lv_sub hl [1, 2, 3, 0] rfl)
            | succ j ihi =>
              intro i hiji h hh ls H locs hP hD hS hl
              refine lv_iload hx hb d_P_go_101 (lv_at hl 4 rfl) ?_
              refine lv_bipush (v := nI 64) hx hb d_P_go_103 (by decide) ?_
              refine nt_icmp_ge (a := i) (b := 64) (tgt := 135) hx hb (by omega) (by omega) d_P_go_105 (by decide) (fun hc3 => absurd hc3 (by omega)) (fun hc3 => ?_)
              refine lv_aload_n hx hb d_P_go_108 rfl (lv_at hl 0 rfl) ?_
              refine gf_P_15 (v := .ref s0) F hK hP 0 rfl rfl d_P_go_109 ?_
              refine lv_iload hx hb d_P_go_112 (lv_at hl 4 rfl) ?_
              refine lv_aload_n hx hb d_P_go_114 rfl (lv_at hl 0 rfl) ?_
              refine gf_P_9 (v := .ref n0) F hK hP 0 rfl rfl d_P_go_115 ?_
              refine lv_aload_n hx hb d_P_go_118 rfl (lv_at hl 0 rfl) ?_
              refine gf_P_9 (v := .ref n0) F hK hP 0 rfl rfl d_P_go_119 ?_
              refine lv_iload hx hb d_P_go_122 (lv_at hl 4 rfl) ?_
              refine nt_lald (j := i) hx hb hK hP 1 rfl (by omega) (by decide) d_P_go_124 ?_
              refine roSL (rest := [.int (nI i), .ref s0]) F (c_P_times l D cL cB cI n0 g (g i).toBitVec) k_P_times ml_P_39 ⟨rfl, rfl, by decide, by decide⟩ hK hP hS (hP.sub [1] rfl) rfl hl.1 rfl (Nat.le_of_ble_eq_true rfl) d_P_go_125 ⟨Nat.le_of_ble_eq_true rfl, Nat.le_of_ble_eq_true rfl⟩ (fun H locs hP hS => ?_)
              refine nt_last (j := i) hx hb hK hP hD hS 2 rfl (by omega) (by decide) d_P_go_128 (fun H locs hP hD hS => ?_)
              have hP : va_P D classes [(p0, .inr (1, [.ref n0, .ref s0])), (n0, .inl (cL, 64, .inr (.inl g))), (s0, .inl (cL, 64, .inr (.inl (vp_updL h i (lB (q_mt g (g i).toBitVec 64)))))), (k0, .inr (0, kf n po fi la d o t0))] H := hP
              have hD : va_D A [(p0, .inr (1, [.ref n0, .ref s0])), (n0, .inl (cL, 64, .inr (.inl g))), (s0, .inl (cL, 64, .inr (.inl (vp_updL h i (lB (q_mt g (g i).toBitVec 64)))))), (k0, .inr (0, kf n po fi la d o t0))] := hD
              refine lv_iinc (v := (nI (i + 1))) (lv' := [(10, .int (nI (i + 1))), (0, .ref p0), (1, .ref k0), (6, .long (lB r)), (8, .long (lN k))]) hx hb d_P_go_129 hl (k := 4) rfl (nI_inc1 _) (by decide) rfl (fun ls hl => ?_)
              refine lv_goto (tgt := 101) hx hb d_P_go_132 (by decide) ?_
              exact ihi (i + 1) (by omega) _ (go_fill hh (fun hin => go_sq hn hp hg hin)) ls H locs hP hD hS (lv_sub hl [1, 2, 3, 4, 0] rfl)
          exact loop101 (64) 0 (by omega) h (fun j hj _ => absurd hj (by omega)) ls H locs hP hD hS (lv_sub hl [2, 3, 1, 4, 0] rfl)
        · have hodd := (ln_1 (Nat.mod_lt _ (by decide))).mp hc2
          refine lv_aload_n hx hb d_P_go_82 rfl (lv_at hl 0 rfl) ?_
          refine gf_P_9 (v := .ref n0) F hK hP 0 rfl rfl d_P_go_83 ?_
          refine lv_lload hx hb d_P_go_86 (lv_at hl 2 rfl) ?_
          refine roSL (rest := []) F (c_P_times l D cL cB cI n0 g r) k_P_times ml_P_39 ⟨rfl, rfl, by decide, by decide⟩ hK hP hS (hP.sub [1] rfl) rfl hl.1 rfl (Nat.le_of_ble_eq_true rfl) d_P_go_88 ⟨Nat.le_of_ble_eq_true rfl, Nat.le_of_ble_eq_true rfl⟩ (fun H locs hP hS => ?_)
          refine tpl (z := (lB (q_xp n po r ee))) (congrArg lB (mt_xp hn.2 hr hg)) ?_
          refine lv_goto (tgt := 96) hx hb d_P_go_91 (by decide) ?_
          refine lv_lstore (lv' := [(6, .long (lB (q_xp n po r ee))), (0, .ref p0), (1, .ref k0), (8, .long (lN k))]) hx hb d_P_go_96 hl (by decide) rfl (fun ls hl => ?_)
          refine lv_iconst (v := nI 0) hx hb d_P_go_98 (by decide) ?_
          refine lv_istore (lv' := [(10, .int (nI 0)), (6, .long (lB (q_xp n po r ee))), (0, .ref p0), (1, .ref k0), (8, .long (lN k))]) hx hb d_P_go_99 hl (by decide) rfl (fun ls hl => ?_)
          have loop101 : ∀ (j i : Nat), i + j = 64 → ∀ (h : Nat → Int64) (hh : ∀ j, j < i → j < n → h j = lB (q_xp n po (q_xp n po 1#64 j) (ee + ee))) (ls : Array Slot) (H : Heap) (locs : List Loc), va_P D classes [(p0, .inr (1, [.ref n0, .ref s0])), (n0, .inl (cL, 64, .inr (.inl g))), (s0, .inl (cL, 64, .inr (.inl h))), (k0, .inr (0, kf n po fi la d o t0))] H → va_D A [(p0, .inr (1, [.ref n0, .ref s0])), (n0, .inl (cL, 64, .inr (.inl g))), (s0, .inl (cL, 64, .inr (.inl h))), (k0, .inr (0, kf n po fi la d o t0))] → va_S A s.heap H locs → lv_has ls 11 [(0, .ref p0), (1, .ref k0), (6, .long (lB (q_xp n po r ee))), (8, .long (lN k)), (10, .int (nI i))] → W p l e (rmA 5 0 0 116) s m ([.ref p0, .ref k0, .long (lB Rg), .long (lN bm)] : List Value).toArray below meth c H locs 0 0 Q (F0 m 101 ls []) := by
            intro j
            induction j with
            | zero =>
              intro i hiji h hh ls H locs hP hD hS hl
              refine lv_iload hx hb d_P_go_101 (lv_at hl 4 rfl) ?_
              refine lv_bipush (v := nI 64) hx hb d_P_go_103 (by decide) ?_
              refine nt_icmp_ge (a := i) (b := 64) (tgt := 135) hx hb (by omega) (by omega) d_P_go_105 (by decide) (fun hc3 => ?_) (fun hc3 => absurd hc3 (by omega))
              refine lv_aload_n hx hb d_P_go_135 rfl (lv_at hl 0 rfl) ?_
              refine gf_P_15 (v := .ref s0) F hK hP 0 rfl rfl d_P_go_136 ?_
              refine lv_iconst (v := nI 0) hx hb d_P_go_139 (by decide) ?_
              refine lv_aload_n hx hb d_P_go_140 rfl (lv_at hl 0 rfl) ?_
              refine gf_P_9 (v := .ref n0) F hK hP 0 rfl rfl d_P_go_141 ?_
              refine lv_iconst (v := nI 0) hx hb d_P_go_144 (by decide) ?_
              refine lv_bipush (v := nI 64) hx hb d_P_go_145 (by decide) ?_
              refine va_copyl hx hb (by rw [F.2.2.1]; exact hl.1.symm) hown (hT _ ml_P_43) (hT _ nm_S_arraycopy) (hT _ sm_S_arraycopy) (hT _ in_S) hK.1 hP hD hS 2 1 0 0 rfl rfl rfl rfl rfl (by decide) (by decide) (by decide) (by decide) (by decide) (fun _ _ => rfl) (by decide) (by decide) d_P_go_147 (fun H locs hP hD hS => ?_)
              rw [show (nI 0).toNatClampNeg = 0 by decide, show (nI 64).toNatClampNeg = 64 by decide] at hP hD
              have hP : va_P D classes [(p0, .inr (1, [.ref n0, .ref s0])), (n0, .inl (cL, 64, .inr (.inl (va_cpy h g 0 0 64)))), (s0, .inl (cL, 64, .inr (.inl h))), (k0, .inr (0, kf n po fi la d o t0))] H := hP
              have hD : va_D A [(p0, .inr (1, [.ref n0, .ref s0])), (n0, .inl (cL, 64, .inr (.inl (va_cpy h g 0 0 64)))), (s0, .inl (cL, 64, .inr (.inl h))), (k0, .inr (0, kf n po fi la d o t0))] := hD
              refine lv_lload hx hb d_P_go_150 (lv_at hl 3 rfl) ?_
              refine lv_iconst (v := nI 1) hx hb d_P_go_152 (by decide) ?_
              refine lv_lshr hx hb d_P_go_153 (ln_shr1 hk2) ?_
              refine lv_lstore (lv' := [(8, .long (lN (k / 2))), (0, .ref p0), (1, .ref k0), (6, .long (lB (q_xp n po r ee))), (10, .int (nI i))]) hx hb d_P_go_154 hl (by decide) rfl (fun ls hl => ?_)
              refine lv_goto (tgt := 66) hx hb d_P_go_156 (by decide) ?_
              exact ih (k / 2) (ee + ee) (q_xp n po r ee) (by rw [Nat.pow_succ] at hk; omega) (by omega) (xp_M hn.2 hp hr ee) (by rw [← xp_odd hodd]; exact hz) _ h (fun j hj => by rw [pk_cpy_in (Nat.zero_le _) (by omega)]; rw [Nat.sub_zero, Nat.zero_add]; exact hh j (by omega) hj) ls H locs hP hD hS (lv_sub hl [1, 2, 3, 0] rfl)
            | succ j ihi =>
              intro i hiji h hh ls H locs hP hD hS hl
              refine lv_iload hx hb d_P_go_101 (lv_at hl 4 rfl) ?_
              refine lv_bipush (v := nI 64) hx hb d_P_go_103 (by decide) ?_
              refine nt_icmp_ge (a := i) (b := 64) (tgt := 135) hx hb (by omega) (by omega) d_P_go_105 (by decide) (fun hc3 => absurd hc3 (by omega)) (fun hc3 => ?_)
              refine lv_aload_n hx hb d_P_go_108 rfl (lv_at hl 0 rfl) ?_
              refine gf_P_15 (v := .ref s0) F hK hP 0 rfl rfl d_P_go_109 ?_
              refine lv_iload hx hb d_P_go_112 (lv_at hl 4 rfl) ?_
              refine lv_aload_n hx hb d_P_go_114 rfl (lv_at hl 0 rfl) ?_
              refine gf_P_9 (v := .ref n0) F hK hP 0 rfl rfl d_P_go_115 ?_
              refine lv_aload_n hx hb d_P_go_118 rfl (lv_at hl 0 rfl) ?_
              refine gf_P_9 (v := .ref n0) F hK hP 0 rfl rfl d_P_go_119 ?_
              refine lv_iload hx hb d_P_go_122 (lv_at hl 4 rfl) ?_
              refine nt_lald (j := i) hx hb hK hP 1 rfl (by omega) (by decide) d_P_go_124 ?_
              refine roSL (rest := [.int (nI i), .ref s0]) F (c_P_times l D cL cB cI n0 g (g i).toBitVec) k_P_times ml_P_39 ⟨rfl, rfl, by decide, by decide⟩ hK hP hS (hP.sub [1] rfl) rfl hl.1 rfl (Nat.le_of_ble_eq_true rfl) d_P_go_125 ⟨Nat.le_of_ble_eq_true rfl, Nat.le_of_ble_eq_true rfl⟩ (fun H locs hP hS => ?_)
              refine nt_last (j := i) hx hb hK hP hD hS 2 rfl (by omega) (by decide) d_P_go_128 (fun H locs hP hD hS => ?_)
              have hP : va_P D classes [(p0, .inr (1, [.ref n0, .ref s0])), (n0, .inl (cL, 64, .inr (.inl g))), (s0, .inl (cL, 64, .inr (.inl (vp_updL h i (lB (q_mt g (g i).toBitVec 64)))))), (k0, .inr (0, kf n po fi la d o t0))] H := hP
              have hD : va_D A [(p0, .inr (1, [.ref n0, .ref s0])), (n0, .inl (cL, 64, .inr (.inl g))), (s0, .inl (cL, 64, .inr (.inl (vp_updL h i (lB (q_mt g (g i).toBitVec 64)))))), (k0, .inr (0, kf n po fi la d o t0))] := hD
              refine lv_iinc (v := (nI (i + 1))) (lv' := [(10, .int (nI (i + 1))), (0, .ref p0), (1, .ref k0), (6, .long (lB (q_xp n po r ee))), (8, .long (lN k))]) hx hb d_P_go_129 hl (k := 4) rfl (nI_inc1 _) (by decide) rfl (fun ls hl => ?_)
              refine lv_goto (tgt := 101) hx hb d_P_go_132 (by decide) ?_
              exact ihi (i + 1) (by omega) _ (go_fill hh (fun hin => go_sq hn hp hg hin)) ls H locs hP hD hS (lv_sub hl [1, 2, 3, 4, 0] rfl)
          exact loop101 (64) 0 (by omega) h (fun j hj _ => absurd hj (by omega)) ls H locs hP hD hS (lv_sub hl [2, 3, 1, 4, 0] rfl)
  have loop3 : ∀ (j i : Nat), i + j = 64 → ∀ (g : Nat → Int64) (hg : ∀ j, j < i → j < n → g j = lB (q_xp n po (q_xp n po 1#64 j) 1)) (ls : Array Slot) (H : Heap) (locs : List Loc), va_P D classes [(p0, .inr (1, [.ref n0, .ref s0])), (n0, .inl (cL, 64, .inr (.inl g))), (s0, .inl (cL, 64, .inr (.inl sf))), (k0, .inr (0, kf n po fi la d o t0))] H → va_D A [(p0, .inr (1, [.ref n0, .ref s0])), (n0, .inl (cL, 64, .inr (.inl g))), (s0, .inl (cL, 64, .inr (.inl sf))), (k0, .inr (0, kf n po fi la d o t0))] → va_S A s.heap H locs → lv_has ls 11 [(0, .ref p0), (1, .ref k0), (2, .long (lB Rg)), (4, .long (lN bm)), (6, .int (nI i))] → W p l e (rmA 5 0 0 116) s m ([.ref p0, .ref k0, .long (lB Rg), .long (lN bm)] : List Value).toArray below meth c H locs 0 0 Q (F0 m 3 ls []) := by
    intro j
    induction j with
    | zero =>
      intro i hiji g hg ls H locs hP hD hS hl
      refine lv_iload hx hb d_P_go_3 (lv_at hl 4 rfl) ?_
      refine lv_bipush (v := nI 64) hx hb d_P_go_5 (by decide) ?_
      refine nt_icmp_ge (a := i) (b := 64) (tgt := 54) hx hb (by omega) (by omega) d_P_go_7 (by decide) (fun hc => ?_) (fun hc => absurd hc (by omega))
      refine lv_lload_n hx hb d_P_go_54 rfl (lv_at hl 2 rfl) ?_
      refine lv_aload_n hx hb d_P_go_55 rfl (lv_at hl 1 rfl) ?_
      refine gf_P_35 (v := .long (lB (q_mk n))) F hK hP 3 rfl rfl d_P_go_56 ?_
      refine bv_land hx hb d_P_go_59 ?_
      refine lv_lstore (lv' := [(6, .long (lB (Rg &&& (q_mk n)))), (0, .ref p0), (1, .ref k0), (2, .long (lB Rg)), (4, .long (lN bm))]) hx hb d_P_go_60 hl (by decide) rfl (fun ls hl => ?_)
      refine lv_lload hx hb d_P_go_62 (lv_at hl 4 rfl) ?_
      refine lv_lstore (lv' := [(8, .long (lN bm)), (6, .long (lB (Rg &&& (q_mk n)))), (0, .ref p0), (1, .ref k0), (2, .long (lB Rg)), (4, .long (lN bm))]) hx hb d_P_go_64 hl (by decide) rfl (fun ls hl => ?_)
      exact loop66 62 bm 1 (Rg &&& q_mk n) hbm hbm (M_and _) (by rw [Nat.one_mul]) g sf (fun j hj => hg j (by omega) hj) ls H locs hP hD hS (lv_sub hl [2, 3, 1, 0] rfl)
    | succ j ihi =>
      intro i hiji g hg ls H locs hP hD hS hl
      refine lv_iload hx hb d_P_go_3 (lv_at hl 4 rfl) ?_
      refine lv_bipush (v := nI 64) hx hb d_P_go_5 (by decide) ?_
      refine nt_icmp_ge (a := i) (b := 64) (tgt := 54) hx hb (by omega) (by omega) d_P_go_7 (by decide) (fun hc => absurd hc (by omega)) (fun hc => ?_)
      refine lv_aload_n hx hb d_P_go_10 rfl (lv_at hl 0 rfl) ?_
      refine gf_P_9 (v := .ref n0) F hK hP 0 rfl rfl d_P_go_11 ?_
      refine lv_iload hx hb d_P_go_14 (lv_at hl 4 rfl) ?_
      refine lv_iload hx hb d_P_go_16 (lv_at hl 4 rfl) ?_
      refine lv_aload_n hx hb d_P_go_18 rfl (lv_at hl 1 rfl) ?_
      refine gf_P_18 (v := .int (nI n)) F hK hP 3 rfl rfl d_P_go_19 ?_
      refine nt_icmp_ge (a := i) (b := n) (tgt := 46) hx hb (by omega) (by omega) d_P_go_22 (by decide) (fun hc2 => ?_) (fun hc2 => ?_)
      · refine lv_lconst (v := lB 0#64) hx hb d_P_go_46 rfl ?_
        refine nt_last (j := i) hx hb hK hP hD hS 1 rfl (by omega) (by decide) d_P_go_47 (fun H locs hP hD hS => ?_)
        have hP : va_P D classes [(p0, .inr (1, [.ref n0, .ref s0])), (n0, .inl (cL, 64, .inr (.inl (vp_updL g i (lB 0#64))))), (s0, .inl (cL, 64, .inr (.inl sf))), (k0, .inr (0, kf n po fi la d o t0))] H := hP
        have hD : va_D A [(p0, .inr (1, [.ref n0, .ref s0])), (n0, .inl (cL, 64, .inr (.inl (vp_updL g i (lB 0#64))))), (s0, .inl (cL, 64, .inr (.inl sf))), (k0, .inr (0, kf n po fi la d o t0))] := hD
        refine lv_iinc (v := (nI (i + 1))) (lv' := [(6, .int (nI (i + 1))), (0, .ref p0), (1, .ref k0), (2, .long (lB Rg)), (4, .long (lN bm))]) hx hb d_P_go_48 hl (k := 4) rfl (nI_inc1 _) (by decide) rfl (fun ls hl => ?_)
        refine lv_goto (tgt := 3) hx hb d_P_go_51 (by decide) ?_
        exact ihi (i + 1) (by omega) _ (go_fill hg (fun hin => absurd hin (by omega))) ls H locs hP hD hS (lv_sub hl [1, 2, 3, 4, 0] rfl)
      · refine lv_aload_n hx hb d_P_go_25 rfl (lv_at hl 1 rfl) ?_
        refine lv_aload_n hx hb d_P_go_26 rfl (lv_at hl 1 rfl) ?_
        refine lv_aload_n hx hb d_P_go_27 rfl (lv_at hl 1 rfl) ?_
        refine lv_lconst (v := lB 1#64) hx hb d_P_go_28 rfl ?_
        refine lv_iload hx hb d_P_go_29 (lv_at hl 4 rfl) ?_
        refine bv_lshl hx hb (by omega) d_P_go_31 ?_
        refine roVL (rest := [.ref k0, .ref k0, .int (nI i), .ref n0]) F (c_K_stand l D cL cB cI k0 t0 n po fi la d o (1#64 <<< i) hn) k_K_stand ml_P_24 ⟨rfl, rfl, by decide, by decide⟩ hK hP hS (hP.sub [3] rfl) rfl rfl rfl rfl hl.1 rfl (Nat.le_of_ble_eq_true rfl) d_P_go_32 ⟨Nat.le_of_ble_eq_true rfl, Nat.le_of_ble_eq_true rfl⟩ (fun H locs hP hS => ?_)
        refine lv_iconst (v := nI 0) hx hb d_P_go_35 (by decide) ?_
        refine lv_iconst (v := nI 1) hx hb d_P_go_36 (by decide) ?_
        refine roVL (rest := [.ref k0, .int (nI i), .ref n0]) F (c_K_shift l D cL cB cI k0 t0 n po fi la d o (q_sd d n (1#64 <<< i)) 0 1 hn (by decide) (by decide)) k_K_shift ml_P_28 ⟨rfl, rfl, by decide, by decide⟩ hK hP hS (hP.sub [3] rfl) rfl rfl rfl rfl hl.1 rfl (Nat.le_of_ble_eq_true rfl) d_P_go_37 ⟨Nat.le_of_ble_eq_true rfl, Nat.le_of_ble_eq_true rfl⟩ (fun H locs hP hS => ?_)
        refine roVL (rest := [.int (nI i), .ref n0]) F (c_K_lie l D cL cB cI k0 t0 n po fi la d o (q_sh d (q_sd d n po) (q_sd d n (1#64 <<< i)) 0 1) hn) k_K_lie ml_P_32 ⟨rfl, rfl, by decide, by decide⟩ hK hP hS (hP.sub [3] rfl) rfl rfl rfl rfl hl.1 rfl (Nat.le_of_ble_eq_true rfl) d_P_go_40 ⟨Nat.le_of_ble_eq_true rfl, Nat.le_of_ble_eq_true rfl⟩ (fun H locs hP hS => ?_)
        refine lv_goto (tgt := 47) hx hb d_P_go_43 (by decide) ?_
        refine nt_last (j := i) hx hb hK hP hD hS 1 rfl (by omega) (by decide) d_P_go_47 (fun H locs hP hD hS => ?_)
        have hP : va_P D classes [(p0, .inr (1, [.ref n0, .ref s0])), (n0, .inl (cL, 64, .inr (.inl (vp_updL g i (lB (q_li d n (q_sh d (q_sd d n po) (q_sd d n (1#64 <<< i)) 0 1))))))), (s0, .inl (cL, 64, .inr (.inl sf))), (k0, .inr (0, kf n po fi la d o t0))] H := hP
        have hD : va_D A [(p0, .inr (1, [.ref n0, .ref s0])), (n0, .inl (cL, 64, .inr (.inl (vp_updL g i (lB (q_li d n (q_sh d (q_sd d n po) (q_sd d n (1#64 <<< i)) 0 1))))))), (s0, .inl (cL, 64, .inr (.inl sf))), (k0, .inr (0, kf n po fi la d o t0))] := hD
        refine lv_iinc (v := (nI (i + 1))) (lv' := [(6, .int (nI (i + 1))), (0, .ref p0), (1, .ref k0), (2, .long (lB Rg)), (4, .long (lN bm))]) hx hb d_P_go_48 hl (k := 4) rfl (nI_inc1 _) (by decide) rfl (fun ls hl => ?_)
        refine lv_goto (tgt := 3) hx hb d_P_go_51 (by decide) ?_
        exact ihi (i + 1) (by omega) _ (go_fill hg (fun hin => go_first hn hp hin)) ls H locs hP hD hS (lv_sub hl [1, 2, 3, 4, 0] rfl)
  exact loop3 (64) 0 (by omega) nf (fun j hj _ => absurd hj (by omega)) ls s.heap [] hP hD hS (lv_sub hl [1, 2, 3, 4, 0] rfl)
end
section
theorem and7m (i : Nat) : i &&& 7 = i % 8 := Nat.and_two_pow_sub_one_eq_mod i 3
theorem in_lt {x lo hi : Int32} (h : x < lo) : false = q_in x lo hi := by simp [q_in, h]
theorem in_gt {x lo hi : Int32} (h : hi < x) : false = q_in x lo hi := by simp [q_in, h]
theorem in_ok {x lo hi : Int32} (h1 : ¬ x < lo) (h2 : ¬ hi < x) : true = q_in x lo hi := by simp [q_in, h1, h2]
theorem in_yes {x lo hi : Int32} (h : q_in x lo hi = true) : ¬ x < lo ∧ ¬ hi < x := by
  unfold q_in at h
  constructor
  · intro q; simp [q] at h
  · intro q; simp [q] at h
theorem in_no {x lo hi : Int32} (h : q_in x lo hi = false) : x < lo ∨ hi < x := by
  unfold q_in at h
  by_cases h1 : x < lo
  · exact Or.inl h1
  · by_cases h2 : hi < x
    · exact Or.inr h2
    · simp [h1, h2] at h
set_option maxHeartbeats 4000000 in
set_option maxRecDepth 100000 in
theorem c_X_within (l : Launch) (D : va_G) (cL cB cI : ClassId) (a b u : Int32)  : Met l y_X_within (Cond.code y_X_within b_X_within 3 (some .boolean) :: g_tbl) (rmO 0 0) (RoP D cL cB cI [] [.int a, .int b, .int u]) (RoI (bz (q_in a b u))) 0 0 (fun _ => False) := by
  refine ro_startZ (by decide) (Nat.le_of_ble_eq_true rfl) (bz_nz _) ?_
  intro p e s m below meth c ls Q F hP hK hl hret
  have hx := F.1
  have hb := F.2.1
  have hown := F.2.2.2.1
  have hT := F.2.2.2.2
  have hS : va_S (fun _ => False) s.heap s.heap [] := va_S.rf
  have hl : lv_has ls 3 [(0, .int a), (1, .int b), (2, .int u)] := hl
  refine lv_iload_n hx hb d_X_within_0 rfl (lv_at hl 0 rfl) ?_
  refine lv_iload_n hx hb d_X_within_1 rfl (lv_at hl 1 rfl) ?_
  refine lv_icmp_lt (tgt := 14) hx hb d_X_within_2 (by decide) (fun hc => ?_) (fun hc => ?_)
  · refine lv_iconst (v := nI 0) hx hb d_X_within_14 (by decide) ?_
    refine tpi (z := (bz false)) rfl ?_
    refine tpi (z := (bz (q_in a b u))) (congrArg bz (in_lt hc)) ?_
    exact hret _ _ _ _ d_X_within_15 hS
  · refine lv_iload_n hx hb d_X_within_5 rfl (lv_at hl 0 rfl) ?_
    refine lv_iload_n hx hb d_X_within_6 rfl (lv_at hl 2 rfl) ?_
    refine lv_icmp_gt (tgt := 14) hx hb d_X_within_7 (by decide) (fun hc2 => ?_) (fun hc2 => ?_)
    · refine lv_iconst (v := nI 0) hx hb d_X_within_14 (by decide) ?_
      refine tpi (z := (bz false)) rfl ?_
      refine tpi (z := (bz (q_in a b u))) (congrArg bz (in_gt hc2)) ?_
      exact hret _ _ _ _ d_X_within_15 hS
    · refine lv_iconst (v := nI 1) hx hb d_X_within_10 (by decide) ?_
      refine lv_goto (tgt := 15) hx hb d_X_within_11 (by decide) ?_
      refine tpi (z := (bz true)) rfl ?_
      refine tpi (z := (bz (q_in a b u))) (congrArg bz (in_ok hc hc2)) ?_
      exact hret _ _ _ _ d_X_within_15 hS

set_option maxHeartbeats 4000000 in
set_option maxRecDepth 100000 in
theorem c_X_place (l : Launch) (D : va_G) (cL cB cI : ClassId) (x0 k0 t0 p0 b0 r0 cnt n : Nat) (po fi la : BitVec 64) (d o : Bool) (i : Nat)  : Met l y_X_place (Cond.code y_X_place b_X_place 2 (some .int) :: g_tbl) (rmO 0 0) (RoP D cL cB cI [(x0, .inr (2, xf k0 p0 b0 r0 cnt)), (k0, .inr (0, kf n po fi la d o t0))] [.ref x0, .int (nI i)]) (RoI (nI (q_pl d i))) 0 0 (fun _ => False) := by
  refine ro_startI (by decide) (Nat.le_of_ble_eq_true rfl) ?_
  intro p e s m below meth c ls Q F hP hK hl hret
  have hx := F.1
  have hb := F.2.1
  have hown := F.2.2.2.1
  have hT := F.2.2.2.2
  have hS : va_S (fun _ => False) s.heap s.heap [] := va_S.rf
  have hl : lv_has ls 2 [(0, .ref x0), (1, .int (nI i))] := hl
  refine lv_aload_n hx hb d_X_place_0 rfl (lv_at hl 0 rfl) ?_
  refine gf_X_16 (v := .ref k0) F hK hP 0 rfl rfl d_X_place_1 ?_
  refine gf_X_45 (v := .int (bz d)) F hK hP 1 rfl rfl d_X_place_4 ?_
  refine bz_ifeq (b := d) (tgt := 17) hx hb d_X_place_7 (by decide) (fun hc => ?_) (fun hc => ?_)
  · subst hc
    refine lv_bipush (v := nI 7) hx hb d_X_place_17 (by decide) ?_
    refine lv_iload_n hx hb d_X_place_19 rfl (lv_at hl 1 rfl) ?_
    refine lv_bipush (v := nI 7) hx hb d_X_place_20 (by decide) ?_
    refine nt_iand (x := i) hx hb d_X_place_22 ?_
    refine nt_isub (x := 7) hx hb (by have := and7m i; omega) d_X_place_23 ?_
    refine tpi (z := (nI (q_pl false i))) (by rw [and7m]; rfl) ?_
    exact hret _ _ _ _ d_X_place_24 hS
  · subst hc
    refine lv_iload_n hx hb d_X_place_10 rfl (lv_at hl 1 rfl) ?_
    refine lv_bipush (v := nI 7) hx hb d_X_place_11 (by decide) ?_
    refine nt_iand (x := i) hx hb d_X_place_13 ?_
    refine lv_goto (tgt := 24) hx hb d_X_place_14 (by decide) ?_
    refine tpi (z := (nI (q_pl true i))) (by rw [and7m]; rfl) ?_
    exact hret _ _ _ _ d_X_place_24 hS

theorem nx_rn {d : Bool} {n : Nat} (hn : 1 ≤ n ∧ n ≤ 64) {po fi : BitVec 64} {f : Nat → Int64} {dt : Nat → Nat} (hf : ∀ b, b < 2048 → f b = lB (q_tab d (q_sd d n po) b)) (hd : ∀ j, dt j < 256) {a i : Nat} : q_nx d f (q_sd d n (q_rn n po d dt a fi i)) (dt (a + i)) = q_sd d n (q_rn n po d dt a fi (i + 1)) := by
  rw [nx_sh (P := q_sd d n po) (fun j hj => by rw [hf j (by omega), tab_lo _ _ hj]) _ (hd _), sh_sd hn]; rfl
theorem sl_rn {d : Bool} {n : Nat} (hn : 1 ≤ n ∧ n ≤ 64) {po fi : BitVec 64} {f : Nat → Int64} {dt : Nat → Nat} (hf : ∀ b, b < 2048 → f b = lB (q_tab d (q_sd d n po) b)) (hd : ∀ j, dt j < 256) {a i : Nat} : q_sl d f (q_sd d n (q_rn n po d dt a fi (8 * i)) ^^^ q_e8 d (fun j => dt (a + 8 * i + j)) 8) 8 = q_sd d n (q_rn n po d dt a fi (8 * (i + 1))) := by
  rw [sl_b8 (P := q_sd d n po) (fun _ => hd _) hf, b8_rn hn, Nat.mul_add, Nat.mul_one, rn_add]
set_option maxHeartbeats 4000000 in
set_option maxRecDepth 100000 in
theorem c_X_byBits (l : Launch) (D : va_G) (cL cB cI : ClassId) (x0 k0 t0 p0 b0 r0 cnt n : Nat) (po fi la : BitVec 64) (d o : Bool) (f : Nat → Int64) (dt : Nat → Nat) (a b : Nat) (hn : 1 ≤ n ∧ n ≤ 64) (hp : q_M n po) (hfi : q_M n fi) (hd : ∀ j, dt j < 256) (hab : a ≤ b) (hb5 : b ≤ 5000) : Met l y_X_byBits (Cond.code y_X_byBits b_X_byBits 6 (some .long) :: g_tbl) (rmO 5 116) (RoP D cL cB cI [(x0, .inr (2, xf k0 p0 b0 r0 cnt)), (k0, .inr (0, kf n po fi la d o t0)), (t0, .inl (cL, 2048, .inr (.inl f))), (b0, .inl (cB, 5000, .inl (fun j => sb (dt j))))] [.ref x0, .int (nI a), .int (nI b)]) (RoL (lB (q_ck n po fi la d o dt a b))) 0 0 (fun _ => False) := by
  refine ro_startL (by decide) (Nat.le_of_ble_eq_true rfl) ?_
  intro p e s m below meth c ls Q F hP hK hl hret
  have hx := F.1
  have hb := F.2.1
  have hown := F.2.2.2.1
  have hT := F.2.2.2.2
  have hS : va_S (fun _ => False) s.heap s.heap [] := va_S.rf
  have hl : lv_has ls 6 [(0, .ref x0), (1, .int (nI a)), (2, .int (nI b))] := hl
  refine lv_aload_n hx hb d_X_byBits_0 rfl (lv_at hl 0 rfl) ?_
  refine gf_X_16 (v := .ref k0) F hK hP 0 rfl rfl d_X_byBits_1 ?_
  refine lv_aload_n hx hb d_X_byBits_4 rfl (lv_at hl 0 rfl) ?_
  refine gf_X_16 (v := .ref k0) F hK hP 0 rfl rfl d_X_byBits_5 ?_
  refine gf_X_53 (v := .long (lB fi)) F hK hP 1 rfl rfl d_X_byBits_8 ?_
  refine roVL (rest := []) F (c_K_stand l D cL cB cI k0 t0 n po fi la d o fi hn) k_K_stand ml_X_57 ⟨rfl, rfl, by decide, by decide⟩ hK hP hS (hP.sub [1] rfl) rfl rfl rfl rfl hl.1 rfl (Nat.le_of_ble_eq_true rfl) d_X_byBits_11 ⟨Nat.zero_le _, Nat.zero_le _⟩ (fun H locs hP hS => ?_)
  refine tpl (z := (lB (q_sd d n (q_rn n po d dt a fi 0)))) rfl ?_
  refine lv_lstore_n (lv' := [(3, .long (lB (q_sd d n (q_rn n po d dt a fi 0)))), (0, .ref x0), (1, .int (nI a)), (2, .int (nI b))]) hx hb d_X_byBits_14 rfl hl (by decide) rfl (fun ls hl => ?_)
  refine lv_iload_n hx hb d_X_byBits_15 rfl (lv_at hl 2 rfl) ?_
  refine lv_istore (lv' := [(5, .int (nI a)), (3, .long (lB (q_sd d n (q_rn n po d dt a fi 0)))), (0, .ref x0), (1, .int (nI a)), (2, .int (nI b))]) hx hb d_X_byBits_16 hl (by decide) rfl (fun ls hl => ?_)
  have loop18 : ∀ (j i : Nat), i + j = (b - a) → ∀ (ls : Array Slot) (H : Heap) (locs : List Loc), va_P D classes [(x0, .inr (2, xf k0 p0 b0 r0 cnt)), (k0, .inr (0, kf n po fi la d o t0)), (t0, .inl (cL, 2048, .inr (.inl f))), (b0, .inl (cB, 5000, .inl (fun j => sb (dt j))))] H → va_S (fun _ => False) s.heap H locs → lv_has ls 6 [(0, .ref x0), (2, .int (nI b)), (3, .long (lB (q_sd d n (q_rn n po d dt a fi i)))), (5, .int (nI (a + i)))] → W p l e (rmO 5 116) s m ([.ref x0, .int (nI a), .int (nI b)] : List Value).toArray below meth c H locs 0 0 Q (F0 m 18 ls []) := by
    intro j
    induction j with
    | zero =>
      intro i hij ls H locs hP hS hl
      refine lv_iload hx hb d_X_byBits_18 (lv_at hl 3 rfl) ?_
      refine lv_iload_n hx hb d_X_byBits_20 rfl (lv_at hl 1 rfl) ?_
      refine nt_icmp_ge (a := (a + i)) (b := b) (tgt := 52) hx hb (by omega) (by omega) d_X_byBits_21 (by decide) (fun hc => ?_) (fun hc => absurd hc (by omega))
      refine lv_aload_n hx hb d_X_byBits_52 rfl (lv_at hl 0 rfl) ?_
      refine gf_X_16 (v := .ref k0) F hK hP 0 rfl rfl d_X_byBits_53 ?_
      refine lv_lload_n hx hb d_X_byBits_56 rfl (lv_at hl 2 rfl) ?_
      refine roVL (rest := []) F (c_K_finish l D cL cB cI k0 t0 n po fi la d o (q_sd d n (q_rn n po d dt a fi i)) hn) k_K_finish ml_X_65 ⟨rfl, rfl, by decide, by decide⟩ hK hP hS (hP.sub [1] rfl) rfl rfl rfl rfl hl.1 rfl (Nat.le_of_ble_eq_true rfl) d_X_byBits_57 ⟨Nat.zero_le _, Nat.zero_le _⟩ (fun H locs hP hS => ?_)
      refine tpl (z := (lB (q_ck n po fi la d o dt a b))) (by rw [fn_sd hn (rn_M hn.2 hp hfi i), show i = b - a by omega]; rfl) ?_
      exact hret _ _ _ _ d_X_byBits_60 hS
    | succ j ih =>
      intro i hij ls H locs hP hS hl
      refine lv_iload hx hb d_X_byBits_18 (lv_at hl 3 rfl) ?_
      refine lv_iload_n hx hb d_X_byBits_20 rfl (lv_at hl 1 rfl) ?_
      refine nt_icmp_ge (a := (a + i)) (b := b) (tgt := 52) hx hb (by omega) (by omega) d_X_byBits_21 (by decide) (fun hc => absurd hc (by omega)) (fun hc => ?_)
      refine lv_aload_n hx hb d_X_byBits_24 rfl (lv_at hl 0 rfl) ?_
      refine gf_X_16 (v := .ref k0) F hK hP 0 rfl rfl d_X_byBits_25 ?_
      refine lv_lload_n hx hb d_X_byBits_28 rfl (lv_at hl 2 rfl) ?_
      refine lv_aload_n hx hb d_X_byBits_29 rfl (lv_at hl 0 rfl) ?_
      refine gf_X_29 (v := .ref b0) F hK hP 0 rfl rfl d_X_byBits_30 ?_
      refine lv_iload hx hb d_X_byBits_33 (lv_at hl 3 rfl) ?_
      refine nt_bald (j := (a + i)) hx hb hK hP 3 rfl (by omega) (by decide) d_X_byBits_35 ?_
      refine lv_sipush (v := nI 255) hx hb d_X_byBits_36 (by decide) ?_
      refine lv_iand hx hb d_X_byBits_39 ?_
      refine tpi (z := (nI (dt (a + i)))) (sb_255 (hd _)) ?_
      refine lv_bipush (v := nI 8) hx hb d_X_byBits_40 (by decide) ?_
      refine roVL (rest := []) F (c_K_shift l D cL cB cI k0 t0 n po fi la d o (q_sd d n (q_rn n po d dt a fi i)) (dt (a + i)) 8 hn (Nat.lt_trans (hd _) (by decide)) (by decide)) k_K_shift ml_X_61 ⟨rfl, rfl, by decide, by decide⟩ hK hP hS (hP.sub [1] rfl) rfl rfl rfl rfl hl.1 rfl (Nat.le_of_ble_eq_true rfl) d_X_byBits_42 ⟨Nat.zero_le _, Nat.zero_le _⟩ (fun H locs hP hS => ?_)
      refine tpl (z := (lB (q_sd d n (q_rn n po d dt a fi (i + 1))))) (congrArg lB (sh_sd hn _ 8)) ?_
      refine lv_lstore_n (lv' := [(3, .long (lB (q_sd d n (q_rn n po d dt a fi (i + 1))))), (0, .ref x0), (2, .int (nI b)), (5, .int (nI (a + i)))]) hx hb d_X_byBits_45 rfl hl (by decide) rfl (fun ls hl => ?_)
      refine lv_iinc (v := (nI (a + i + 1))) (lv' := [(5, .int (nI (a + i + 1))), (3, .long (lB (q_sd d n (q_rn n po d dt a fi (i + 1))))), (0, .ref x0), (2, .int (nI b))]) hx hb d_X_byBits_46 hl (k := 3) rfl (nI_inc1 _) (by decide) rfl (fun ls hl => ?_)
      refine lv_goto (tgt := 18) hx hb d_X_byBits_49 (by decide) ?_
      exact ih (i + 1) (by omega) ls H locs hP hS (lv_sub hl [2, 3, 1, 0] rfl)
  exact loop18 ((b - a)) 0 (by omega) ls H locs hP hS (lv_sub hl [2, 4, 1, 0] rfl)

set_option maxHeartbeats 4000000 in
set_option maxRecDepth 100000 in
theorem c_X_byBytes (l : Launch) (D : va_G) (cL cB cI : ClassId) (x0 k0 t0 p0 b0 r0 cnt n : Nat) (po fi la : BitVec 64) (d o : Bool) (f : Nat → Int64) (dt : Nat → Nat) (a b : Nat) (hn : 1 ≤ n ∧ n ≤ 64) (hp : q_M n po) (hfi : q_M n fi) (hf : ∀ b, b < 2048 → f b = lB (q_tab d (q_sd d n po) b)) (hd : ∀ j, dt j < 256) (hab : a ≤ b) (hb5 : b ≤ 5000) : Met l y_X_byBytes (Cond.code y_X_byBytes b_X_byBytes 6 (some .long) :: g_tbl) (rmO 5 110) (RoP D cL cB cI [(x0, .inr (2, xf k0 p0 b0 r0 cnt)), (k0, .inr (0, kf n po fi la d o t0)), (t0, .inl (cL, 2048, .inr (.inl f))), (b0, .inl (cB, 5000, .inl (fun j => sb (dt j))))] [.ref x0, .int (nI a), .int (nI b)]) (RoL (lB (q_ck n po fi la d o dt a b))) 0 0 (fun _ => False) := by
  refine ro_startL (by decide) (Nat.le_of_ble_eq_true rfl) ?_
  intro p e s m below meth c ls Q F hP hK hl hret
  have hx := F.1
  have hb := F.2.1
  have hown := F.2.2.2.1
  have hT := F.2.2.2.2
  have hS : va_S (fun _ => False) s.heap s.heap [] := va_S.rf
  have hl : lv_has ls 6 [(0, .ref x0), (1, .int (nI a)), (2, .int (nI b))] := hl
  refine lv_aload_n hx hb d_X_byBytes_0 rfl (lv_at hl 0 rfl) ?_
  refine gf_X_16 (v := .ref k0) F hK hP 0 rfl rfl d_X_byBytes_1 ?_
  refine lv_aload_n hx hb d_X_byBytes_4 rfl (lv_at hl 0 rfl) ?_
  refine gf_X_16 (v := .ref k0) F hK hP 0 rfl rfl d_X_byBytes_5 ?_
  refine gf_X_53 (v := .long (lB fi)) F hK hP 1 rfl rfl d_X_byBytes_8 ?_
  refine roVL (rest := []) F (c_K_stand l D cL cB cI k0 t0 n po fi la d o fi hn) k_K_stand ml_X_57 ⟨rfl, rfl, by decide, by decide⟩ hK hP hS (hP.sub [1] rfl) rfl rfl rfl rfl hl.1 rfl (Nat.le_of_ble_eq_true rfl) d_X_byBytes_11 ⟨Nat.zero_le _, Nat.zero_le _⟩ (fun H locs hP hS => ?_)
  refine tpl (z := (lB (q_sd d n (q_rn n po d dt a fi 0)))) rfl ?_
  refine lv_lstore_n (lv' := [(3, .long (lB (q_sd d n (q_rn n po d dt a fi 0)))), (0, .ref x0), (1, .int (nI a)), (2, .int (nI b))]) hx hb d_X_byBytes_14 rfl hl (by decide) rfl (fun ls hl => ?_)
  refine lv_iload_n hx hb d_X_byBytes_15 rfl (lv_at hl 2 rfl) ?_
  refine lv_istore (lv' := [(5, .int (nI a)), (3, .long (lB (q_sd d n (q_rn n po d dt a fi 0)))), (0, .ref x0), (1, .int (nI a)), (2, .int (nI b))]) hx hb d_X_byBytes_16 hl (by decide) rfl (fun ls hl => ?_)
  have loop18 : ∀ (j i : Nat), i + j = (b - a) → ∀ (ls : Array Slot) (H : Heap) (locs : List Loc), va_P D classes [(x0, .inr (2, xf k0 p0 b0 r0 cnt)), (k0, .inr (0, kf n po fi la d o t0)), (t0, .inl (cL, 2048, .inr (.inl f))), (b0, .inl (cB, 5000, .inl (fun j => sb (dt j))))] H → va_S (fun _ => False) s.heap H locs → lv_has ls 6 [(0, .ref x0), (2, .int (nI b)), (3, .long (lB (q_sd d n (q_rn n po d dt a fi i)))), (5, .int (nI (a + i)))] → W p l e (rmO 5 110) s m ([.ref x0, .int (nI a), .int (nI b)] : List Value).toArray below meth c H locs 0 0 Q (F0 m 18 ls []) := by
    intro j
    induction j with
    | zero =>
      intro i hij ls H locs hP hS hl
      refine lv_iload hx hb d_X_byBytes_18 (lv_at hl 3 rfl) ?_
      refine lv_iload_n hx hb d_X_byBytes_20 rfl (lv_at hl 1 rfl) ?_
      refine nt_icmp_ge (a := (a + i)) (b := b) (tgt := 50) hx hb (by omega) (by omega) d_X_byBytes_21 (by decide) (fun hc => ?_) (fun hc => absurd hc (by omega))
      refine lv_aload_n hx hb d_X_byBytes_50 rfl (lv_at hl 0 rfl) ?_
      refine gf_X_16 (v := .ref k0) F hK hP 0 rfl rfl d_X_byBytes_51 ?_
      refine lv_lload_n hx hb d_X_byBytes_54 rfl (lv_at hl 2 rfl) ?_
      refine roVL (rest := []) F (c_K_finish l D cL cB cI k0 t0 n po fi la d o (q_sd d n (q_rn n po d dt a fi i)) hn) k_K_finish ml_X_65 ⟨rfl, rfl, by decide, by decide⟩ hK hP hS (hP.sub [1] rfl) rfl rfl rfl rfl hl.1 rfl (Nat.le_of_ble_eq_true rfl) d_X_byBytes_55 ⟨Nat.zero_le _, Nat.zero_le _⟩ (fun H locs hP hS => ?_)
      refine tpl (z := (lB (q_ck n po fi la d o dt a b))) (by rw [fn_sd hn (rn_M hn.2 hp hfi i), show i = b - a by omega]; rfl) ?_
      exact hret _ _ _ _ d_X_byBytes_58 hS
    | succ j ih =>
      intro i hij ls H locs hP hS hl
      refine lv_iload hx hb d_X_byBytes_18 (lv_at hl 3 rfl) ?_
      refine lv_iload_n hx hb d_X_byBytes_20 rfl (lv_at hl 1 rfl) ?_
      refine nt_icmp_ge (a := (a + i)) (b := b) (tgt := 50) hx hb (by omega) (by omega) d_X_byBytes_21 (by decide) (fun hc => absurd hc (by omega)) (fun hc => ?_)
      refine lv_aload_n hx hb d_X_byBytes_24 rfl (lv_at hl 0 rfl) ?_
      refine gf_X_16 (v := .ref k0) F hK hP 0 rfl rfl d_X_byBytes_25 ?_
      refine lv_lload_n hx hb d_X_byBytes_28 rfl (lv_at hl 2 rfl) ?_
      refine lv_aload_n hx hb d_X_byBytes_29 rfl (lv_at hl 0 rfl) ?_
      refine gf_X_29 (v := .ref b0) F hK hP 0 rfl rfl d_X_byBytes_30 ?_
      refine lv_iload hx hb d_X_byBytes_33 (lv_at hl 3 rfl) ?_
      refine nt_bald (j := (a + i)) hx hb hK hP 3 rfl (by omega) (by decide) d_X_byBytes_35 ?_
      refine lv_sipush (v := nI 255) hx hb d_X_byBytes_36 (by decide) ?_
      refine lv_iand hx hb d_X_byBytes_39 ?_
      refine tpi (z := (nI (dt (a + i)))) (sb_255 (hd _)) ?_
      refine roVL (rest := []) F (c_K_next l D cL cB cI k0 t0 n po fi la d o f (q_sd d n (q_rn n po d dt a fi i)) (dt (a + i)) (hd _)) k_K_next ml_X_68 ⟨rfl, rfl, by decide, by decide⟩ hK hP hS (hP.sub [1, 2] rfl) rfl rfl rfl rfl hl.1 rfl (Nat.le_of_ble_eq_true rfl) d_X_byBytes_40 ⟨Nat.zero_le _, Nat.zero_le _⟩ (fun H locs hP hS => ?_)
      refine tpl (z := (lB (q_sd d n (q_rn n po d dt a fi (i + 1))))) (congrArg lB (nx_rn hn hf hd)) ?_
      refine lv_lstore_n (lv' := [(3, .long (lB (q_sd d n (q_rn n po d dt a fi (i + 1))))), (0, .ref x0), (2, .int (nI b)), (5, .int (nI (a + i)))]) hx hb d_X_byBytes_43 rfl hl (by decide) rfl (fun ls hl => ?_)
      refine lv_iinc (v := (nI (a + i + 1))) (lv' := [(5, .int (nI (a + i + 1))), (3, .long (lB (q_sd d n (q_rn n po d dt a fi (i + 1))))), (0, .ref x0), (2, .int (nI b))]) hx hb d_X_byBytes_44 hl (k := 3) rfl (nI_inc1 _) (by decide) rfl (fun ls hl => ?_)
      refine lv_goto (tgt := 18) hx hb d_X_byBytes_47 (by decide) ?_
      exact ih (i + 1) (by omega) ls H locs hP hS (lv_sub hl [2, 3, 1, 0] rfl)
  exact loop18 ((b - a)) 0 (by omega) ls H locs hP hS (lv_sub hl [2, 4, 1, 0] rfl)

set_option maxHeartbeats 4000000 in
set_option maxRecDepth 100000 in
theorem c_X_eightAt (l : Launch) (D : va_G) (cL cB cI : ClassId) (x0 k0 t0 p0 b0 r0 cnt n : Nat) (po fi la : BitVec 64) (d o : Bool) (f : Nat → Int64) (dt : Nat → Nat) (k : Nat) (hd : ∀ j, dt j < 256) (hk : k + 8 ≤ 5000) : Met l y_X_eightAt (Cond.code y_X_eightAt b_X_eightAt 6 (some .long) :: g_tbl) (rmO 0 0) (RoP D cL cB cI [(x0, .inr (2, xf k0 p0 b0 r0 cnt)), (k0, .inr (0, kf n po fi la d o t0)), (t0, .inl (cL, 2048, .inr (.inl f))), (b0, .inl (cB, 5000, .inl (fun j => sb (dt j))))] [.ref x0, .int (nI k)]) (RoL (lB (q_e8 d (fun j => dt (k + j)) 8))) 0 0 (fun _ => False) := by
  refine ro_startL (by decide) (Nat.le_of_ble_eq_true rfl) ?_
  intro p e s m below meth c ls Q F hP hK hl hret
  have hx := F.1
  have hb := F.2.1
  have hown := F.2.2.2.1
  have hT := F.2.2.2.2
  have hS : va_S (fun _ => False) s.heap s.heap [] := va_S.rf
  have hl : lv_has ls 6 [(0, .ref x0), (1, .int (nI k))] := hl
  refine lv_lconst (v := lB 0#64) hx hb d_X_eightAt_0 rfl ?_
  refine lv_lstore_n (lv' := [(2, .long (lB 0#64)), (0, .ref x0), (1, .int (nI k))]) hx hb d_X_eightAt_1 rfl hl (by decide) rfl (fun ls hl => ?_)
  refine lv_iconst (v := nI 0) hx hb d_X_eightAt_2 (by decide) ?_
  refine lv_istore (lv' := [(4, .int (nI 0)), (2, .long (lB 0#64)), (0, .ref x0), (1, .int (nI k))]) hx hb d_X_eightAt_3 hl (by decide) rfl (fun ls hl => ?_)
  have loop5 : ∀ (j i : Nat), i + j = 8 → ∀ (ls : Array Slot) (H : Heap) (locs : List Loc), va_P D classes [(x0, .inr (2, xf k0 p0 b0 r0 cnt)), (k0, .inr (0, kf n po fi la d o t0)), (t0, .inl (cL, 2048, .inr (.inl f))), (b0, .inl (cB, 5000, .inl (fun j => sb (dt j))))] H → va_S (fun _ => False) s.heap H locs → lv_has ls 6 [(0, .ref x0), (1, .int (nI k)), (2, .long (lB (q_e8 d (fun j => dt (k + j)) i))), (4, .int (nI i))] → W p l e (rmO 0 0) s m ([.ref x0, .int (nI k)] : List Value).toArray below meth c H locs 0 0 Q (F0 m 5 ls []) := by
    intro j
    induction j with
    | zero =>
      intro i hij ls H locs hP hS hl
      refine lv_iload hx hb d_X_eightAt_5 (lv_at hl 3 rfl) ?_
      refine lv_bipush (v := nI 8) hx hb d_X_eightAt_7 (by decide) ?_
      refine nt_icmp_ge (a := i) (b := 8) (tgt := 66) hx hb (by omega) (by omega) d_X_eightAt_9 (by decide) (fun hc => ?_) (fun hc => absurd hc (by omega))
      refine lv_lload_n hx hb d_X_eightAt_66 rfl (lv_at hl 2 rfl) ?_
      refine tpl (z := (lB (q_e8 d (fun j => dt (k + j)) 8))) (by rw [show i = 8 by omega]) ?_
      exact hret _ _ _ _ d_X_eightAt_67 hS
    | succ j ih =>
      intro i hij ls H locs hP hS hl
      refine lv_iload hx hb d_X_eightAt_5 (lv_at hl 3 rfl) ?_
      refine lv_bipush (v := nI 8) hx hb d_X_eightAt_7 (by decide) ?_
      refine nt_icmp_ge (a := i) (b := 8) (tgt := 66) hx hb (by omega) (by omega) d_X_eightAt_9 (by decide) (fun hc => absurd hc (by omega)) (fun hc => ?_)
      refine lv_aload_n hx hb d_X_eightAt_12 rfl (lv_at hl 0 rfl) ?_
      refine gf_X_16 (v := .ref k0) F hK hP 0 rfl rfl d_X_eightAt_13 ?_
      refine gf_X_45 (v := .int (bz d)) F hK hP 1 rfl rfl d_X_eightAt_16 ?_
      refine bz_ifeq (b := d) (tgt := 30) hx hb d_X_eightAt_19 (by decide) (fun hc2 => ?_) (fun hc2 => ?_)
      · subst hc2
        refine lv_bipush (v := nI 56) hx hb d_X_eightAt_30 (by decide) ?_
        refine lv_bipush (v := nI 8) hx hb d_X_eightAt_32 (by decide) ?_
        refine lv_iload hx hb d_X_eightAt_34 (lv_at hl 3 rfl) ?_
        refine nt_imul (x := 8) hx hb d_X_eightAt_36 ?_
        refine nt_isub (x := 56) hx hb (by omega) d_X_eightAt_37 ?_
        refine lv_istore (lv' := [(5, .int (nI (56 - (8 * i)))), (0, .ref x0), (1, .int (nI k)), (2, .long (lB (q_e8 false (fun j => dt (k + j)) i))), (4, .int (nI i))]) hx hb d_X_eightAt_38 hl (by decide) rfl (fun ls hl => ?_)
        refine lv_lload_n hx hb d_X_eightAt_40 rfl (lv_at hl 3 rfl) ?_
        refine lv_aload_n hx hb d_X_eightAt_41 rfl (lv_at hl 1 rfl) ?_
        refine gf_X_29 (v := .ref b0) F hK hP 0 rfl rfl d_X_eightAt_42 ?_
        refine lv_iload_n hx hb d_X_eightAt_45 rfl (lv_at hl 2 rfl) ?_
        refine lv_iload hx hb d_X_eightAt_46 (lv_at hl 4 rfl) ?_
        refine nt_iadd (x := k) hx hb d_X_eightAt_48 ?_
        refine nt_bald (j := (k + i)) hx hb hK hP 3 rfl (by omega) (by decide) d_X_eightAt_49 ?_
        refine lv_sipush (v := nI 255) hx hb d_X_eightAt_50 (by decide) ?_
        refine lv_iand hx hb d_X_eightAt_53 ?_
        refine tpi (z := (nI (dt (k + i)))) (sb_255 (hd _)) ?_
        have hdi := hd (k + i)
        refine lv_i2l (v := lB (BitVec.ofNat 64 (dt (k + i)))) hx hb d_X_eightAt_54 (nI_l (by omega)) ?_
        refine lv_iload hx hb d_X_eightAt_55 (lv_at hl 0 rfl) ?_
        refine bv_lshl hx hb (by omega) d_X_eightAt_57 ?_
        refine bv_lor hx hb d_X_eightAt_58 ?_
        refine tpl (z := (lB (q_e8 false (fun j => dt (k + j)) (i + 1)))) rfl ?_
        refine lv_lstore_n (lv' := [(2, .long (lB (q_e8 false (fun j => dt (k + j)) (i + 1)))), (5, .int (nI (56 - (8 * i)))), (0, .ref x0), (1, .int (nI k)), (4, .int (nI i))]) hx hb d_X_eightAt_59 rfl hl (by decide) rfl (fun ls hl => ?_)
        refine lv_iinc (v := (nI (i + 1))) (lv' := [(4, .int (nI (i + 1))), (2, .long (lB (q_e8 false (fun j => dt (k + j)) (i + 1)))), (5, .int (nI (56 - (8 * i)))), (0, .ref x0), (1, .int (nI k))]) hx hb d_X_eightAt_60 hl (k := 4) rfl (nI_inc1 _) (by decide) rfl (fun ls hl => ?_)
        refine lv_goto (tgt := 5) hx hb d_X_eightAt_63 (by decide) ?_
        exact ih (i + 1) (by omega) ls H locs hP hS (lv_sub hl [3, 4, 1, 0] rfl)
      · subst hc2
        refine lv_bipush (v := nI 8) hx hb d_X_eightAt_22 (by decide) ?_
        refine lv_iload hx hb d_X_eightAt_24 (lv_at hl 3 rfl) ?_
        refine nt_imul (x := 8) hx hb d_X_eightAt_26 ?_
        refine lv_goto (tgt := 38) hx hb d_X_eightAt_27 (by decide) ?_
        refine lv_istore (lv' := [(5, .int (nI (8 * i))), (0, .ref x0), (1, .int (nI k)), (2, .long (lB (q_e8 true (fun j => dt (k + j)) i))), (4, .int (nI i))]) hx hb d_X_eightAt_38 hl (by decide) rfl (fun ls hl => ?_)
        refine lv_lload_n hx hb d_X_eightAt_40 rfl (lv_at hl 3 rfl) ?_
        refine lv_aload_n hx hb d_X_eightAt_41 rfl (lv_at hl 1 rfl) ?_
        refine gf_X_29 (v := .ref b0) F hK hP 0 rfl rfl d_X_eightAt_42 ?_
        refine lv_iload_n hx hb d_X_eightAt_45 rfl (lv_at hl 2 rfl) ?_
        refine lv_iload hx hb d_X_eightAt_46 (lv_at hl 4 rfl) ?_
        refine nt_iadd (x := k) hx hb d_X_eightAt_48 ?_
        refine nt_bald (j := (k + i)) hx hb hK hP 3 rfl (by omega) (by decide) d_X_eightAt_49 ?_
        refine lv_sipush (v := nI 255) hx hb d_X_eightAt_50 (by decide) ?_
        refine lv_iand hx hb d_X_eightAt_53 ?_
        refine tpi (z := (nI (dt (k + i)))) (sb_255 (hd _)) ?_
        have hdi := hd (k + i)
        refine lv_i2l (v := lB (BitVec.ofNat 64 (dt (k + i)))) hx hb d_X_eightAt_54 (nI_l (by omega)) ?_
        refine lv_iload hx hb d_X_eightAt_55 (lv_at hl 0 rfl) ?_
        refine bv_lshl hx hb (by omega) d_X_eightAt_57 ?_
        refine bv_lor hx hb d_X_eightAt_58 ?_
        refine tpl (z := (lB (q_e8 true (fun j => dt (k + j)) (i + 1)))) rfl ?_
        refine lv_lstore_n (lv' := [(2, .long (lB (q_e8 true (fun j => dt (k + j)) (i + 1)))), (5, .int (nI (8 * i))), (0, .ref x0), (1, .int (nI k)), (4, .int (nI i))]) hx hb d_X_eightAt_59 rfl hl (by decide) rfl (fun ls hl => ?_)
        refine lv_iinc (v := (nI (i + 1))) (lv' := [(4, .int (nI (i + 1))), (2, .long (lB (q_e8 true (fun j => dt (k + j)) (i + 1)))), (5, .int (nI (8 * i))), (0, .ref x0), (1, .int (nI k))]) hx hb d_X_eightAt_60 hl (k := 4) rfl (nI_inc1 _) (by decide) rfl (fun ls hl => ?_)
        refine lv_goto (tgt := 5) hx hb d_X_eightAt_63 (by decide) ?_
        exact ih (i + 1) (by omega) ls H locs hP hS (lv_sub hl [3, 4, 1, 0] rfl)
  exact loop5 (8) 0 (by omega) ls s.heap [] hP hS (lv_sub hl [2, 3, 1, 0] rfl)

set_option maxHeartbeats 4000000 in
set_option maxRecDepth 100000 in
theorem c_X_bySlices (l : Launch) (D : va_G) (cL cB cI : ClassId) (x0 k0 t0 p0 b0 r0 cnt n : Nat) (po fi la : BitVec 64) (d o : Bool) (f : Nat → Int64) (dt : Nat → Nat) (a b : Nat) (hn : 1 ≤ n ∧ n ≤ 64) (hp : q_M n po) (hfi : q_M n fi) (hf : ∀ b, b < 2048 → f b = lB (q_tab d (q_sd d n po) b)) (hd : ∀ j, dt j < 256) (hab : a ≤ b) (hb5 : b ≤ 5000) : Met l y_X_bySlices (Cond.code y_X_bySlices b_X_bySlices 6 (some .long) :: g_tbl) (rmO 5 110) (RoP D cL cB cI [(x0, .inr (2, xf k0 p0 b0 r0 cnt)), (k0, .inr (0, kf n po fi la d o t0)), (t0, .inl (cL, 2048, .inr (.inl f))), (b0, .inl (cB, 5000, .inl (fun j => sb (dt j))))] [.ref x0, .int (nI a), .int (nI b)]) (RoL (lB (q_ck n po fi la d o dt a b))) 0 0 (fun _ => False) := by
  refine ro_startL (by decide) (Nat.le_of_ble_eq_true rfl) ?_
  intro p e s m below meth c ls Q F hP hK hl hret
  have hx := F.1
  have hb := F.2.1
  have hown := F.2.2.2.1
  have hT := F.2.2.2.2
  have hS : va_S (fun _ => False) s.heap s.heap [] := va_S.rf
  have hl : lv_has ls 6 [(0, .ref x0), (1, .int (nI a)), (2, .int (nI b))] := hl
  refine lv_aload_n hx hb d_X_bySlices_0 rfl (lv_at hl 0 rfl) ?_
  refine gf_X_16 (v := .ref k0) F hK hP 0 rfl rfl d_X_bySlices_1 ?_
  refine lv_aload_n hx hb d_X_bySlices_4 rfl (lv_at hl 0 rfl) ?_
  refine gf_X_16 (v := .ref k0) F hK hP 0 rfl rfl d_X_bySlices_5 ?_
  refine gf_X_53 (v := .long (lB fi)) F hK hP 1 rfl rfl d_X_bySlices_8 ?_
  refine roVL (rest := []) F (c_K_stand l D cL cB cI k0 t0 n po fi la d o fi hn) k_K_stand ml_X_57 ⟨rfl, rfl, by decide, by decide⟩ hK hP hS (hP.sub [1] rfl) rfl rfl rfl rfl hl.1 rfl (Nat.le_of_ble_eq_true rfl) d_X_bySlices_11 ⟨Nat.zero_le _, Nat.zero_le _⟩ (fun H locs hP hS => ?_)
  refine tpl (z := (lB (q_sd d n (q_rn n po d dt a fi (8 * 0))))) rfl ?_
  refine lv_lstore_n (lv' := [(3, .long (lB (q_sd d n (q_rn n po d dt a fi (8 * 0))))), (0, .ref x0), (1, .int (nI a)), (2, .int (nI b))]) hx hb d_X_bySlices_14 rfl hl (by decide) rfl (fun ls hl => ?_)
  refine lv_iload_n hx hb d_X_bySlices_15 rfl (lv_at hl 2 rfl) ?_
  refine lv_istore (lv' := [(5, .int (nI a)), (3, .long (lB (q_sd d n (q_rn n po d dt a fi (8 * 0))))), (0, .ref x0), (1, .int (nI a)), (2, .int (nI b))]) hx hb d_X_bySlices_16 hl (by decide) rfl (fun ls hl => ?_)
  have loop48 : ∀ (j i : Nat), i + j = (b - a) → ∀ (ls : Array Slot) (H : Heap) (locs : List Loc), va_P D classes [(x0, .inr (2, xf k0 p0 b0 r0 cnt)), (k0, .inr (0, kf n po fi la d o t0)), (t0, .inl (cL, 2048, .inr (.inl f))), (b0, .inl (cB, 5000, .inl (fun j => sb (dt j))))] H → va_S (fun _ => False) s.heap H locs → lv_has ls 6 [(0, .ref x0), (2, .int (nI b)), (3, .long (lB (q_sd d n (q_rn n po d dt a fi i)))), (5, .int (nI (a + i)))] → W p l e (rmO 5 110) s m ([.ref x0, .int (nI a), .int (nI b)] : List Value).toArray below meth c H locs 0 0 Q (F0 m 48 ls []) := by
    intro j
    induction j with
    | zero =>
      intro i hij ls H locs hP hS hl
      refine lv_iload hx hb d_X_bySlices_48 (lv_at hl 3 rfl) ?_
      refine lv_iload_n hx hb d_X_bySlices_50 rfl (lv_at hl 1 rfl) ?_
      refine nt_icmp_ge (a := (a + i)) (b := b) (tgt := 80) hx hb (by omega) (by omega) d_X_bySlices_51 (by decide) (fun hc => ?_) (fun hc => absurd hc (by omega))
      refine lv_aload_n hx hb d_X_bySlices_80 rfl (lv_at hl 0 rfl) ?_
      refine gf_X_16 (v := .ref k0) F hK hP 0 rfl rfl d_X_bySlices_81 ?_
      refine lv_lload_n hx hb d_X_bySlices_84 rfl (lv_at hl 2 rfl) ?_
      refine roVL (rest := []) F (c_K_finish l D cL cB cI k0 t0 n po fi la d o (q_sd d n (q_rn n po d dt a fi i)) hn) k_K_finish ml_X_65 ⟨rfl, rfl, by decide, by decide⟩ hK hP hS (hP.sub [1] rfl) rfl rfl rfl rfl hl.1 rfl (Nat.le_of_ble_eq_true rfl) d_X_bySlices_85 ⟨Nat.zero_le _, Nat.zero_le _⟩ (fun H locs hP hS => ?_)
      refine tpl (z := (lB (q_ck n po fi la d o dt a b))) (by rw [fn_sd hn (rn_M hn.2 hp hfi i), show i = b - a by omega]; rfl) ?_
      exact hret _ _ _ _ d_X_bySlices_88 hS
    | succ j ih =>
      intro i hij ls H locs hP hS hl
      refine lv_iload hx hb d_X_bySlices_48 (lv_at hl 3 rfl) ?_
      refine lv_iload_n hx hb d_X_bySlices_50 rfl (lv_at hl 1 rfl) ?_
      refine nt_icmp_ge (a := (a + i)) (b := b) (tgt := 80) hx hb (by omega) (by omega) d_X_bySlices_51 (by decide) (fun hc => absurd hc (by omega)) (fun hc => ?_)
      refine lv_aload_n hx hb d_X_bySlices_54 rfl (lv_at hl 0 rfl) ?_
      refine gf_X_16 (v := .ref k0) F hK hP 0 rfl rfl d_X_bySlices_55 ?_
      refine lv_lload_n hx hb d_X_bySlices_58 rfl (lv_at hl 2 rfl) ?_
      refine lv_aload_n hx hb d_X_bySlices_59 rfl (lv_at hl 0 rfl) ?_
      refine gf_X_29 (v := .ref b0) F hK hP 0 rfl rfl d_X_bySlices_60 ?_
      refine lv_iload hx hb d_X_bySlices_63 (lv_at hl 3 rfl) ?_
      refine nt_bald (j := (a + i)) hx hb hK hP 3 rfl (by omega) (by decide) d_X_bySlices_65 ?_
      refine lv_sipush (v := nI 255) hx hb d_X_bySlices_66 (by decide) ?_
      refine lv_iand hx hb d_X_bySlices_69 ?_
      refine tpi (z := (nI (dt (a + i)))) (sb_255 (hd _)) ?_
      refine roVL (rest := []) F (c_K_next l D cL cB cI k0 t0 n po fi la d o f (q_sd d n (q_rn n po d dt a fi i)) (dt (a + i)) (hd _)) k_K_next ml_X_68 ⟨rfl, rfl, by decide, by decide⟩ hK hP hS (hP.sub [1, 2] rfl) rfl rfl rfl rfl hl.1 rfl (Nat.le_of_ble_eq_true rfl) d_X_bySlices_70 ⟨Nat.zero_le _, Nat.zero_le _⟩ (fun H locs hP hS => ?_)
      refine tpl (z := (lB (q_sd d n (q_rn n po d dt a fi (i + 1))))) (congrArg lB (nx_rn hn hf hd)) ?_
      refine lv_lstore_n (lv' := [(3, .long (lB (q_sd d n (q_rn n po d dt a fi (i + 1))))), (0, .ref x0), (2, .int (nI b)), (5, .int (nI (a + i)))]) hx hb d_X_bySlices_73 rfl hl (by decide) rfl (fun ls hl => ?_)
      refine lv_iinc (v := (nI (a + i + 1))) (lv' := [(5, .int (nI (a + i + 1))), (3, .long (lB (q_sd d n (q_rn n po d dt a fi (i + 1))))), (0, .ref x0), (2, .int (nI b))]) hx hb d_X_bySlices_74 hl (k := 3) rfl (nI_inc1 _) (by decide) rfl (fun ls hl => ?_)
      refine lv_goto (tgt := 48) hx hb d_X_bySlices_77 (by decide) ?_
      exact ih (i + 1) (by omega) ls H locs hP hS (lv_sub hl [2, 3, 1, 0] rfl)
  have loop18 : ∀ (j i : Nat), i + j = ((b - a) / 8) → ∀ (ls : Array Slot) (H : Heap) (locs : List Loc), va_P D classes [(x0, .inr (2, xf k0 p0 b0 r0 cnt)), (k0, .inr (0, kf n po fi la d o t0)), (t0, .inl (cL, 2048, .inr (.inl f))), (b0, .inl (cB, 5000, .inl (fun j => sb (dt j))))] H → va_S (fun _ => False) s.heap H locs → lv_has ls 6 [(0, .ref x0), (2, .int (nI b)), (3, .long (lB (q_sd d n (q_rn n po d dt a fi (8 * i))))), (5, .int (nI (a + 8 * i)))] → W p l e (rmO 5 110) s m ([.ref x0, .int (nI a), .int (nI b)] : List Value).toArray below meth c H locs 0 0 Q (F0 m 18 ls []) := by
    intro j
    induction j with
    | zero =>
      intro i hij ls H locs hP hS hl
      refine lv_iload hx hb d_X_bySlices_18 (lv_at hl 3 rfl) ?_
      refine lv_bipush (v := nI 8) hx hb d_X_bySlices_20 (by decide) ?_
      refine nt_iadd (x := (a + 8 * i)) hx hb d_X_bySlices_22 ?_
      refine lv_iload_n hx hb d_X_bySlices_23 rfl (lv_at hl 1 rfl) ?_
      refine nt_icmp_gt (a := ((a + 8 * i) + 8)) (b := b) (tgt := 48) hx hb (by omega) (by omega) d_X_bySlices_24 (by decide) (fun hc => ?_) (fun hc => absurd hc (by omega))
      exact loop48 (b - a - 8 * i) (8 * i) (by omega) ls H locs hP hS (lv_sub hl [0, 1, 2, 3] rfl)
    | succ j ih =>
      intro i hij ls H locs hP hS hl
      refine lv_iload hx hb d_X_bySlices_18 (lv_at hl 3 rfl) ?_
      refine lv_bipush (v := nI 8) hx hb d_X_bySlices_20 (by decide) ?_
      refine nt_iadd (x := (a + 8 * i)) hx hb d_X_bySlices_22 ?_
      refine lv_iload_n hx hb d_X_bySlices_23 rfl (lv_at hl 1 rfl) ?_
      refine nt_icmp_gt (a := ((a + 8 * i) + 8)) (b := b) (tgt := 48) hx hb (by omega) (by omega) d_X_bySlices_24 (by decide) (fun hc => absurd hc (by omega)) (fun hc => ?_)
      refine lv_aload_n hx hb d_X_bySlices_27 rfl (lv_at hl 0 rfl) ?_
      refine gf_X_16 (v := .ref k0) F hK hP 0 rfl rfl d_X_bySlices_28 ?_
      refine lv_lload_n hx hb d_X_bySlices_31 rfl (lv_at hl 2 rfl) ?_
      refine lv_aload_n hx hb d_X_bySlices_32 rfl (lv_at hl 0 rfl) ?_
      refine lv_iload hx hb d_X_bySlices_33 (lv_at hl 3 rfl) ?_
      refine roVL (rest := [.long (lB (q_sd d n (q_rn n po d dt a fi (8 * i)))), .ref k0]) F (c_X_eightAt l D cL cB cI x0 k0 t0 p0 b0 r0 cnt n po fi la d o f dt (a + 8 * i) hd (by omega)) k_X_eightAt ml_X_72 ⟨rfl, rfl, by decide, by decide⟩ hK hP hS (hP.sub [0, 1, 2, 3] rfl) rfl rfl rfl rfl hl.1 rfl (Nat.le_of_ble_eq_true rfl) d_X_bySlices_35 ⟨Nat.zero_le _, Nat.zero_le _⟩ (fun H locs hP hS => ?_)
      refine roVL (rest := []) F (c_K_slice l D cL cB cI k0 t0 n po fi la d o f (q_sd d n (q_rn n po d dt a fi (8 * i))) (q_e8 d (fun j => dt (a + 8 * i + j)) 8)) k_K_slice ml_X_76 ⟨rfl, rfl, by decide, by decide⟩ hK hP hS (hP.sub [1, 2] rfl) rfl rfl rfl rfl hl.1 rfl (Nat.le_of_ble_eq_true rfl) d_X_bySlices_38 ⟨Nat.zero_le _, Nat.zero_le _⟩ (fun H locs hP hS => ?_)
      refine tpl (z := (lB (q_sd d n (q_rn n po d dt a fi (8 * (i + 1)))))) (congrArg lB (sl_rn hn hf hd)) ?_
      refine lv_lstore_n (lv' := [(3, .long (lB (q_sd d n (q_rn n po d dt a fi (8 * (i + 1)))))), (0, .ref x0), (2, .int (nI b)), (5, .int (nI (a + 8 * i)))]) hx hb d_X_bySlices_41 rfl hl (by decide) rfl (fun ls hl => ?_)
      refine lv_iinc (v := (nI (a + 8 * i + 8))) (lv' := [(5, .int (nI (a + 8 * i + 8))), (3, .long (lB (q_sd d n (q_rn n po d dt a fi (8 * (i + 1)))))), (0, .ref x0), (2, .int (nI b))]) hx hb d_X_bySlices_42 hl (k := 3) rfl (nI_inc8 _) (by decide) rfl (fun ls hl => ?_)
      refine lv_goto (tgt := 18) hx hb d_X_bySlices_45 (by decide) ?_
      exact ih (i + 1) (by omega) ls H locs hP hS (lv_sub hl [2, 3, 1, 0] rfl)
  exact loop18 (((b - a) / 8)) 0 (by omega) ls H locs hP hS (lv_sub hl [2, 4, 1, 0] rfl)
end
section
/-! ===== dividing the row ===== -/
/-- the row as bits -/
def q_r0 (d : Bool) (dt : Nat → Nat) (cnt j : Nat) : Bool := decide (j < 8 * cnt) && (dt (j / 8)).testBit (q_pl d j)
def q_r1 (n : Nat) (fi : BitVec 64) (d : Bool) (dt : Nat → Nat) (cnt j : Nat) : Bool := q_r0 d dt cnt j ^^ (decide (j < n) && fi.getLsbD (n - 1 - j))
def q_pb (n : Nat) (po : BitVec 64) (k : Nat) : Bool := if k = n then true else po.getLsbD k
/-- the divisor taken away at place i, so many of its bits done -/
def q_di (n : Nat) (po : BitVec 64) (i : Nat) (rb : Nat → Bool) (k : Nat) : Nat → Bool := fun j => if i + n < j + k ∧ i ≤ j ∧ j ≤ i + n then rb j ^^ q_pb n po (i + n - j) else rb j
def q_ds (n : Nat) (po : BitVec 64) (i : Nat) (rb : Nat → Bool) : Nat → Bool := if rb i then q_di n po i rb (n + 1) else rb
def q_dv (n : Nat) (po fi : BitVec 64) (d : Bool) (dt : Nat → Nat) (cnt : Nat) : Nat → Nat → Bool
  | 0 => q_r1 n fi d dt cnt
  | i + 1 => q_ds n po i (q_dv n po fi d dt cnt i)
def q_rb (n : Nat) (po fi : BitVec 64) (d : Bool) (dt : Nat → Nat) (cnt : Nat) : Nat → BitVec 64
  | 0 => fi
  | i + 1 => q_bt n po (q_rb n po fi d dt cnt i) (q_r0 d dt cnt i)
theorem di_0 (n : Nat) (po : BitVec 64) (i : Nat) (rb : Nat → Bool) : q_di n po i rb 0 = rb := by
  funext j; unfold q_di; rw [if_neg (by omega)]
theorem di_s {n : Nat} {po : BitVec 64} {i : Nat} {rb : Nat → Bool} {k : Nat} (hk : k ≤ n) : (fun j => if j = i + n - k then (rb (i + n - k) ^^ q_pb n po k) else q_di n po i rb k j) = q_di n po i rb (k + 1) := by
  funext j
  unfold q_di
  by_cases h : j = i + n - k
  · rw [if_pos h, if_pos (by omega), h, show i + n - (i + n - k) = k by omega]
  · rw [if_neg h]
    by_cases h2 : i + n < j + k ∧ i ≤ j ∧ j ≤ i + n
    · rw [if_pos h2, if_pos (by omega)]
    · rw [if_neg h2, if_neg (by omega)]
theorem di_at {n : Nat} {po : BitVec 64} {i : Nat} {rb : Nat → Bool} {k : Nat} (hk : k ≤ n) : q_di n po i rb k (i + n - k) = rb (i + n - k) := by
  unfold q_di; rw [if_neg (by omega)]
theorem di_i {n : Nat} {po : BitVec 64} {i : Nat} {rb : Nat → Bool} {k : Nat} (hk : k ≤ n) : q_di n po i rb k i = rb i := by
  unfold q_di; rw [if_neg (by omega)]
theorem dv_rb {n : Nat} (hn : 1 ≤ n ∧ n ≤ 64) {po fi : BitVec 64} {d : Bool} {dt : Nat → Nat} {cnt : Nat} : ∀ i j, i ≤ j → q_dv n po fi d dt cnt i j = ((decide (j < i + n) && (q_rb n po fi d dt cnt i).getLsbD (n - 1 - (j - i))) ^^ q_r0 d dt cnt j)
  | 0, j, _ => by
    show (q_r0 d dt cnt j ^^ (decide (j < n) && fi.getLsbD (n - 1 - j))) = _
    rw [Nat.zero_add, Nat.sub_zero, Bool.xor_comm]; rfl
  | i + 1, j, h => by
    have hi := dv_rb hn (po := po) (fi := fi) (d := d) (dt := dt) (cnt := cnt) i i (Nat.le_refl i)
    have hj := dv_rb hn (po := po) (fi := fi) (d := d) (dt := dt) (cnt := cnt) i j (by omega)
    rw [Nat.sub_self, Nat.sub_zero, show decide (i < i + n) = true by simp; omega, Bool.true_and] at hi
    show q_ds n po i (q_dv n po fi d dt cnt i) j = ((decide (j < i + 1 + n) && (q_bt n po (q_rb n po fi d dt cnt i) (q_r0 d dt cnt i)).getLsbD (n - 1 - (j - (i + 1)))) ^^ q_r0 d dt cnt j)
    generalize q_dv n po fi d dt cnt i = rb at hi hj ⊢
    generalize q_rb n po fi d dt cnt i = R at hi hj ⊢
    generalize q_r0 d dt cnt i = c at hi ⊢
    generalize q_r0 d dt cnt j = e at hj ⊢
    by_cases hjn : j ≤ i + n
    · rw [bt_bit hn.2 po R c (by omega), show decide (j < i + 1 + n) = true by simp; omega, Bool.true_and]
      have hne : ¬ i + n - j = n := by omega
      have hp : q_pb n po (i + n - j) = po.getLsbD (n - 1 - (j - (i + 1))) := by
        unfold q_pb; rw [if_neg hne, show i + n - j = n - 1 - (j - (i + 1)) by omega]
      have h1 : (decide (1 ≤ n - 1 - (j - (i + 1))) && R.getLsbD (n - 1 - (j - (i + 1)) - 1) && decide (n - 1 - (j - (i + 1)) < n)) = (decide (j < i + n) && R.getLsbD (n - 1 - (j - i))) := by
        by_cases h2 : j < i + n
        · simp [h2, show 1 ≤ n - 1 - (j - (i + 1)) by omega, show n - 1 - (j - (i + 1)) < n by omega, show n - 1 - (j - (i + 1)) - 1 = n - 1 - (j - i) by omega]
        · simp [h2, show ¬ 1 ≤ n - 1 - (j - (i + 1)) by omega]
      rw [h1]
      unfold q_ds
      have hcond : (R.getLsbD (n - 1) != c) = rb i := by rw [hi]
      rw [hcond]
      cases hrb : rb i
      · show rb j = _
        rw [hj]; simp
      · show q_di n po i rb (n + 1) j = _
        unfold q_di
        rw [if_pos (by omega), hj, hp]
        cases (decide (j < i + n) && R.getLsbD (n - 1 - (j - i))) <;> cases e <;> cases (po.getLsbD (n - 1 - (j - (i + 1)))) <;> rfl
    · have h3 : q_ds n po i rb j = rb j := by
        unfold q_ds
        cases rb i
        · rfl
        · show q_di n po i rb (n + 1) j = _
          unfold q_di; rw [if_neg (by omega)]
      rw [h3, hj]
      simp [show ¬ j < i + n by omega, show ¬ j < i + 1 + n by omega]
theorem rb_ob {n : Nat} {po fi : BitVec 64} {d : Bool} {dt : Nat → Nat} {cnt k : Nat} (hk : k < cnt) : ∀ j, j ≤ 8 → q_rb n po fi d dt cnt (8 * k + j) = q_ob n po d (q_rb n po fi d dt cnt (8 * k)) (dt k) j
  | 0, _ => rfl
  | j + 1, h => by
    rw [← Nat.add_assoc, q_rb, rb_ob hk j (by omega), q_ob]
    congr 1
    unfold q_r0 q_ba q_pl
    rw [show (8 * k + j) / 8 = k by omega, show (8 * k + j) % 8 = j by omega, show decide (8 * k + j < 8 * cnt) = true by simp; omega, Bool.true_and]
theorem rb_rn {n : Nat} {po fi : BitVec 64} {d : Bool} {dt : Nat → Nat} {cnt : Nat} : ∀ k, k ≤ cnt → q_rb n po fi d dt cnt (8 * k) = q_rn n po d dt 0 fi k
  | 0, _ => rfl
  | k + 1, h => by
    rw [Nat.mul_add, Nat.mul_one, rb_ob (by omega) 8 (by decide), rb_rn k (by omega), q_rn, Nat.zero_add]
/-- the rest, read off the row -/
def q_rd (rb : Nat → Bool) : Nat → BitVec 64
  | 0 => 0#64
  | i + 1 => (q_rd rb i <<< 1) ||| (if rb i then 1#64 else 0#64)
theorem rd_bit (rb : Nat → Bool) (i : Nat) (hi : i < 64) : ∀ k, k ≤ 64 → (q_rd rb k).getLsbD i = (decide (i < k) && rb (k - 1 - i))
  | 0, _ => by simp [q_rd]
  | k + 1, h => by
    show ((q_rd rb k <<< 1) ||| (if rb k then 1#64 else 0#64)).getLsbD i = _
    rw [BitVec.getLsbD_or, BitVec.getLsbD_shiftLeft]
    by_cases h0 : i = 0
    · subst h0
      cases hv : rb k <;> simp [hv]
    · have e : (if rb k then 1#64 else 0#64).getLsbD i = false := by
        cases rb k
        · simp
        · show (1#64).getLsbD i = false
          rw [BitVec.getLsbD_one]; simp [h0]
      rw [e, rd_bit rb (i - 1) (by omega) k (by omega)]
      have e2 : decide (i - 1 < k) = decide (i < k + 1) := by simp; omega
      rw [e2, show k - 1 - (i - 1) = k + 1 - 1 - i by omega]
      simp [hi, show ¬ i < 1 by omega]
theorem dv_fin {n : Nat} (hn : 1 ≤ n ∧ n ≤ 64) {po fi : BitVec 64} (hp : q_M n po) (hfi : q_M n fi) {d : Bool} {dt : Nat → Nat} {cnt : Nat} : q_rd (fun i => q_dv n po fi d dt cnt (8 * cnt) (8 * cnt + i)) n = q_rn n po d dt 0 fi cnt := by
  rw [← rb_rn cnt (Nat.le_refl cnt)]
  apply BitVec.eq_of_getLsbD_eq
  intro i hi
  have hM : q_M n (q_rb n po fi d dt cnt (8 * cnt)) := by rw [rb_rn cnt (Nat.le_refl cnt)]; exact rn_M hn.2 hp hfi cnt
  rw [rd_bit _ i hi n hn.2, dv_rb hn _ _ (by omega)]
  by_cases h : i < n
  · have e : q_r0 d dt cnt (8 * cnt + (n - 1 - i)) = false := by
      unfold q_r0; simp; omega
    rw [e, show 8 * cnt + (n - 1 - i) - 8 * cnt = n - 1 - i by omega, show n - 1 - (n - 1 - i) = i by omega]
    simp [h, show 8 * cnt + (n - 1 - i) < 8 * cnt + n by omega]
  · rw [show (q_rb n po fi d dt cnt (8 * cnt)).getLsbD i = false from M_bit hn.2 hM (by omega)]; simp [h]
/-! cells of the row -/
theorem bz_b (b : Bool) : (bz b).toInt8.toInt32 = bz b := by cases b <;> rfl
theorem bz_nb (b : Bool) : vp_nar .byte (bz b) = bz b := by cases b <;> rfl
theorem bz_xor (a b : Bool) : bz a ^^^ bz b = bz (a ^^ b) := by cases a <;> cases b <;> rfl
theorem bz_l2i (b : Bool) : (lB (if b then 1#64 else 0#64)).toInt32 = bz b := by cases b <;> rfl
theorem sb_bit {x k : Nat} (hx : x < 256) (hk : k < 8) : (sb x >>> (nI k &&& 31)) &&& nI 1 = bz (x.testBit k) := (show ∀ x, x < 256 → ∀ k, k < 8 → (sb x >>> (nI k &&& 31)) &&& nI 1 = bz (x.testBit k) by decide +kernel) x hx k hk
theorem pl_lt (d : Bool) (k : Nat) : q_pl d k < 8 := by cases d <;> simp [q_pl] <;> omega
theorem row_put {rf : Nat → Int32} {rb : Nat → Bool} {N i : Nat} (hr : ∀ j, j < N → rf j = bz (rb j)) (v : Bool) : ∀ j, j < N → upd rf i (vp_nar .byte (bz v)) j = bz (if j = i then v else rb j) := by
  intro j hj
  by_cases h : j = i
  · subst h; rw [pk_us, bz_nb, if_pos rfl]
  · rw [pk_un h, if_neg h]; exact hr j hj
theorem row_fill {rf : Nat → Int32} {rb : Nat → Bool} {i : Nat} (hr : ∀ j, j < i → rf j = bz (rb j)) {v : Bool} (hv : v = rb i) : ∀ j, j < i + 1 → upd rf i (vp_nar .byte (bz v)) j = bz (rb j) := by
  intro j hj
  by_cases h : j = i
  · subst h; rw [pk_us, bz_nb, hv]
  · rw [pk_un h]; exact hr j (by omega)
/-- the first register laid over the row's head, so many bits done -/
def q_rm (n : Nat) (fi : BitVec 64) (d : Bool) (dt : Nat → Nat) (cnt i j : Nat) : Bool := q_r0 d dt cnt j ^^ (decide (j < i) && fi.getLsbD (n - 1 - j))
theorem rm_s {n : Nat} {fi : BitVec 64} {d : Bool} {dt : Nat → Nat} {cnt i : Nat} : (fun j => if j = i then (q_rm n fi d dt cnt i i ^^ fi.getLsbD (n - 1 - i)) else q_rm n fi d dt cnt i j) = q_rm n fi d dt cnt (i + 1) := by
  funext j
  unfold q_rm
  by_cases h : j = i
  · subst h; simp
  · rw [if_neg h, show decide (j < i + 1) = decide (j < i) by simp; omega]
theorem rm_0 {n : Nat} {fi : BitVec 64} {d : Bool} {dt : Nat → Nat} {cnt : Nat} : q_rm n fi d dt cnt 0 = q_r0 d dt cnt := by
  funext j; unfold q_rm; simp
theorem rm_n {n : Nat} {fi : BitVec 64} {d : Bool} {dt : Nat → Nat} {cnt : Nat} : q_rm n fi d dt cnt n = q_r1 n fi d dt cnt := rfl
/-! joined -/
theorem ob_xor {n : Nat} {po : BitVec 64} {d : Bool} (a b : BitVec 64) (x : Nat) : ∀ k, q_ob n po d (a ^^^ b) x k = q_ob n po d a x k ^^^ q_xp n po b k
  | 0 => rfl
  | k + 1 => by
    rw [q_ob, ob_xor a b x k, q_ob, xp_s, ← bt_xor, Bool.xor_false]
theorem rn_xor {n : Nat} {po : BitVec 64} {d : Bool} {D : Nat → Nat} {a : Nat} (A B : BitVec 64) : ∀ k, q_rn n po d D a (A ^^^ B) k = q_rn n po d D a A k ^^^ q_xp n po B (8 * k)
  | 0 => rfl
  | k + 1 => by rw [q_rn, rn_xor A B k, ob_xor, ← xp_add]; rfl
theorem rg_tl {n : Nat} (hn : n ≤ 64) {o : Bool} {la R : BitVec 64} (hla : q_M n la) (hR : q_M n R) : q_rg n o la (q_tl n o la R) = R := by
  have hM : q_M n (q_tl n o la R) := by
    unfold q_tl
    cases o
    · exact M_xor hn hR hla
    · exact M_xor hn (tn_M hn _) hla
  unfold q_rg
  rw [show q_tl n o la R &&& q_mk n = q_tl n o la R from hM]
  unfold q_tl
  cases o
  · show (R ^^^ la) ^^^ la = R
    rw [BitVec.xor_assoc, BitVec.xor_self, BitVec.xor_zero]
  · show q_tn n ((q_tn n R ^^^ la) ^^^ la) = R
    rw [BitVec.xor_assoc, BitVec.xor_self, BitVec.xor_zero, tn_tn hn hR]
theorem jn_ck {n : Nat} (hn : n ≤ 64) {po fi la : BitVec 64} (hp : q_M n po) (hfi : q_M n fi) (hla : q_M n la) {d o : Bool} {dt : Nat → Nat} {c cnt : Nat} (hc : c ≤ cnt) : q_jn n po fi la o (q_ck n po fi la d o dt 0 c) (q_ck n po fi la d o dt c cnt) (cnt - c) = q_ck n po fi la d o dt 0 cnt := by
  unfold q_jn q_ck
  rw [rg_tl hn hla (rn_M hn hp hfi _), rg_tl hn hla (rn_M hn hp hfi _), Nat.sub_zero, Nat.sub_zero]
  congr 1
  have h1 := rn_add n po d dt 0 fi c (cnt - c)
  rw [show c + (cnt - c) = cnt by omega, Nat.zero_add] at h1
  rw [h1, BitVec.xor_comm, ← rn_xor]
  congr 1
  rw [BitVec.xor_comm, BitVec.xor_assoc, BitVec.xor_self, BitVec.xor_zero]
theorem bg_rg {n : Nat} {d o : Bool} {la : BitVec 64} (hla : q_M n la) (C : BitVec 64) : q_bg d o n la C = q_sd d n (q_rg n o la C) := by
  unfold q_bg q_rg
  rw [xor_and, show la &&& q_mk n = la from hla]
theorem li_bg {n : Nat} (hn : 1 ≤ n ∧ n ≤ 64) {d o : Bool} {la : BitVec 64} (hla : q_M n la) (C : BitVec 64) : q_li d n (q_bg d o n la C) = q_rg n o la C := by
  rw [bg_rg hla, li_sd hn]; exact rg_M hn.2 hla C
theorem jn_x {n : Nat} (hn : 1 ≤ n ∧ n ≤ 64) {d o : Bool} {po fi la : BitVec 64} (hp : q_M n po) (hfi : q_M n fi) (hla : q_M n la) (a b : BitVec 64) (m : Nat) : q_fn d o n la (q_bg d o n la b ^^^ q_sd d n (q_xp n po ((q_rg n o la a ^^^ fi) &&& q_mk n) (8 * m))) = q_jn n po fi la o a b m := by
  have h1 : q_M n (q_rg n o la a ^^^ fi) := M_xor hn.2 (rg_M hn.2 hla a) hfi
  rw [show (q_rg n o la a ^^^ fi) &&& q_mk n = q_rg n o la a ^^^ fi from h1, bg_rg hla, ← sd_xor hn.2, fn_sd hn (M_xor hn.2 (rg_M hn.2 hla b) (xp_M hn.2 hp h1 _)), BitVec.xor_comm]; rfl
end
section
theorem r0_in {d : Bool} {dt : Nat → Nat} {cnt i : Nat} (h : i < 8 * cnt) : (dt (i / 8)).testBit (q_pl d i) = q_r0 d dt cnt i := by
  unfold q_r0; rw [show decide (i < 8 * cnt) = true by simp; omega, Bool.true_and]
theorem r0_out {d : Bool} {dt : Nat → Nat} {cnt i : Nat} (h : 8 * cnt ≤ i) : false = q_r0 d dt cnt i := by
  unfold q_r0; rw [show decide (i < 8 * cnt) = false by simp; omega, Bool.false_and]
theorem dv_no {n : Nat} {po fi : BitVec 64} {d : Bool} {dt : Nat → Nat} {cnt i : Nat} (h : q_dv n po fi d dt cnt i i = false) : q_dv n po fi d dt cnt i = q_dv n po fi d dt cnt (i + 1) := by
  show _ = q_ds n po i (q_dv n po fi d dt cnt i)
  rw [q_ds, h]; rfl
theorem dv_yes {n : Nat} {po fi : BitVec 64} {d : Bool} {dt : Nat → Nat} {cnt i : Nat} (h : q_dv n po fi d dt cnt i i = true) : q_di n po i (q_dv n po fi d dt cnt i) (n + 1) = q_dv n po fi d dt cnt (i + 1) := by
  show _ = q_ds n po i (q_dv n po fi d dt cnt i)
  rw [q_ds, h]; rfl
theorem pb_n {n k : Nat} {po : BitVec 64} (h : k = n) : 1#64 = if q_pb n po k then 1#64 else 0#64 := by unfold q_pb; rw [if_pos h]; rfl
theorem pb_ne {n k : Nat} {po : BitVec 64} (h : ¬ k = n) : (po >>> k) &&& 1#64 = if q_pb n po k then 1#64 else 0#64 := by unfold q_pb; rw [bv_bit, if_neg h]
theorem check_out {n : Nat} {po fi la : BitVec 64} {d o : Bool} {dt : Nat → Nat} {cnt : Nat} {wy : Int32} (h0 : ¬ wy = 0) (h1 : ¬ wy = 1) (h2 : ¬ wy = 2) (h3 : ¬ wy = 3) : 0#64 = s_check n po fi la d o dt cnt wy := by
  unfold s_check
  rcases sw4 h0 h1 h2 h3 with h | h
  · rw [if_pos (show wy < 0 from Int32.lt_iff_toInt_lt.mpr h)]
  · by_cases h4 : wy < 0
    · rw [if_pos h4]
    · rw [if_neg h4, if_neg]
      intro q
      have := Int32.le_iff_toInt_le.mp q
      rw [show (nI 3).toInt = 3 by decide] at this
      omega
set_option maxHeartbeats 4000000 in
set_option maxRecDepth 100000 in
theorem c_X_layBits (l : Launch) (D : va_G) (cL cB cI : ClassId) (x0 k0 t0 p0 b0 r0 cnt n : Nat) (po fi la : BitVec 64) (d o : Bool) (f : Nat → Int64) (dt : Nat → Nat) (rf : Nat → Int32) (sz : Nat) (hn : 1 ≤ n ∧ n ≤ 64) (hd : ∀ j, dt j < 256) (hc5 : cnt ≤ 5000) : Met l y_X_layBits (Cond.code y_X_layBits b_X_layBits 2 none :: g_tbl) (rmA 1 0 0 21) (MuP D cL cB cI [(x0, .inr (2, xf k0 p0 b0 r0 cnt)), (k0, .inr (0, kf n po fi la d o t0)), (t0, .inl (cL, 2048, .inr (.inl f))), (b0, .inl (cB, 5000, .inl (fun j => sb (dt j)))), (r0, .inl (cB, 40064, .inl rf))] sz [.ref x0]) (va_Qv (S := (Nat → Int32)) (fun rf => ∀ j, j < 8 * cnt + n → rf j = bz (q_r1 n fi d dt cnt j)) (MuB D [(x0, .inr (2, xf k0 p0 b0 r0 cnt)), (k0, .inr (0, kf n po fi la d o t0)), (t0, .inl (cL, 2048, .inr (.inl f))), (b0, .inl (cB, 5000, .inl (fun j => sb (dt j)))), (r0, .inl (cB, 40064, .inl rf))] sz (fun rf => [(x0, .inr (2, xf k0 p0 b0 r0 cnt)), (k0, .inr (0, kf n po fi la d o t0)), (t0, .inl (cL, 2048, .inr (.inl f))), (b0, .inl (cB, 5000, .inl (fun j => sb (dt j)))), (r0, .inl (cB, 40064, .inl rf))])) (va_A [(x0, .inr (2, xf k0 p0 b0 r0 cnt)), (k0, .inr (0, kf n po fi la d o t0)), (t0, .inl (cL, 2048, .inr (.inl f))), (b0, .inl (cB, 5000, .inl (fun j => sb (dt j)))), (r0, .inl (cB, 40064, .inl rf))] sz)) 0 0 (va_A [(x0, .inr (2, xf k0 p0 b0 r0 cnt)), (k0, .inr (0, kf n po fi la d o t0)), (t0, .inl (cL, 2048, .inr (.inl f))), (b0, .inl (cB, 5000, .inl (fun j => sb (dt j)))), (r0, .inl (cB, 40064, .inl rf))] sz) := by
  refine mu_startV sz (by decide) (Nat.le_of_ble_eq_true rfl) ?_
  intro p e s m below meth c ls Q A F hnm hP hK hD hA hl hret
  have hx := F.1
  have hb := F.2.1
  have hown := F.2.2.2.1
  have hT := F.2.2.2.2
  have hS : va_S A s.heap s.heap [] := va_S.rf
  have hl : lv_has ls 2 [(0, .ref x0)] := hl
  refine lv_iconst (v := nI 0) hx hb d_X_layBits_0 (by decide) ?_
  refine lv_istore_n (lv' := [(1, .int (nI 0)), (0, .ref x0)]) hx hb d_X_layBits_1 rfl hl (by decide) rfl (fun ls hl => ?_)
  have loop67 : ∀ (j i : Nat), i + j = n → ∀ (rf : Nat → Int32) (hr : ∀ j, j < 8 * cnt + n → rf j = bz (q_rm n fi d dt cnt i j)) (ls : Array Slot) (H : Heap) (locs : List Loc), va_P D classes [(x0, .inr (2, xf k0 p0 b0 r0 cnt)), (k0, .inr (0, kf n po fi la d o t0)), (t0, .inl (cL, 2048, .inr (.inl f))), (b0, .inl (cB, 5000, .inl (fun j => sb (dt j)))), (r0, .inl (cB, 40064, .inl rf))] H → va_D A [(x0, .inr (2, xf k0 p0 b0 r0 cnt)), (k0, .inr (0, kf n po fi la d o t0)), (t0, .inl (cL, 2048, .inr (.inl f))), (b0, .inl (cB, 5000, .inl (fun j => sb (dt j)))), (r0, .inl (cB, 40064, .inl rf))] → va_S A s.heap H locs → lv_has ls 2 [(0, .ref x0), (1, .int (nI i))] → W p l e (rmA 1 0 0 21) s m ([.ref x0] : List Value).toArray below meth c H locs 0 0 Q (F0 m 67 ls []) := by
    intro j
    induction j with
    | zero =>
      intro i hiji rf hr ls H locs hP hD hS hl
      refine lv_iload_n hx hb d_X_layBits_67 rfl (lv_at hl 1 rfl) ?_
      refine lv_aload_n hx hb d_X_layBits_68 rfl (lv_at hl 0 rfl) ?_
      refine gf_X_16 (v := .ref k0) F hK hP 0 rfl rfl d_X_layBits_69 ?_
      refine gf_X_80 (v := .int (nI n)) F hK hP 1 rfl rfl d_X_layBits_72 ?_
      refine nt_icmp_ge (a := i) (b := n) (tgt := 117) hx hb (by omega) (by omega) d_X_layBits_75 (by decide) (fun hc => ?_) (fun hc => absurd hc (by omega))
      have hin : i = n := by omega
      subst hin
      exact hret _ _ _ _ rf d_X_layBits_117 hr (hP.sub [0, 1, 2, 3, 4] rfl) (hD.sub [0, 1, 2, 3, 4] (by decide) rfl) hS
    | succ j ihi =>
      intro i hiji rf hr ls H locs hP hD hS hl
      refine lv_iload_n hx hb d_X_layBits_67 rfl (lv_at hl 1 rfl) ?_
      refine lv_aload_n hx hb d_X_layBits_68 rfl (lv_at hl 0 rfl) ?_
      refine gf_X_16 (v := .ref k0) F hK hP 0 rfl rfl d_X_layBits_69 ?_
      refine gf_X_80 (v := .int (nI n)) F hK hP 1 rfl rfl d_X_layBits_72 ?_
      refine nt_icmp_ge (a := i) (b := n) (tgt := 117) hx hb (by omega) (by omega) d_X_layBits_75 (by decide) (fun hc => absurd hc (by omega)) (fun hc => ?_)
      refine lv_aload_n hx hb d_X_layBits_78 rfl (lv_at hl 0 rfl) ?_
      refine gf_X_34 (v := .ref r0) F hK hP 0 rfl rfl d_X_layBits_79 ?_
      refine lv_iload_n hx hb d_X_layBits_82 rfl (lv_at hl 1 rfl) ?_
      refine lv_dup2_11 hx hb d_X_layBits_83 rfl rfl ?_
      refine nt_bald (j := i) hx hb hK hP 4 rfl (by omega) (by decide) d_X_layBits_84 ?_
      refine tpi (z := (bz (q_rm n fi d dt cnt i i))) (hr i (by omega)) ?_
      refine lv_aload_n hx hb d_X_layBits_85 rfl (lv_at hl 0 rfl) ?_
      refine gf_X_16 (v := .ref k0) F hK hP 0 rfl rfl d_X_layBits_86 ?_
      refine gf_X_53 (v := .long (lB fi)) F hK hP 1 rfl rfl d_X_layBits_89 ?_
      refine lv_aload_n hx hb d_X_layBits_92 rfl (lv_at hl 0 rfl) ?_
      refine gf_X_16 (v := .ref k0) F hK hP 0 rfl rfl d_X_layBits_93 ?_
      refine gf_X_80 (v := .int (nI n)) F hK hP 1 rfl rfl d_X_layBits_96 ?_
      refine lv_iconst (v := nI 1) hx hb d_X_layBits_99 (by decide) ?_
      refine nt_isub (x := n) hx hb (by omega) d_X_layBits_100 ?_
      refine lv_iload_n hx hb d_X_layBits_101 rfl (lv_at hl 1 rfl) ?_
      refine nt_isub (x := (n - 1)) hx hb (by omega) d_X_layBits_102 ?_
      refine bv_lushr hx hb (by omega) d_X_layBits_103 ?_
      refine lv_lconst (v := lB 1#64) hx hb d_X_layBits_104 rfl ?_
      refine bv_land hx hb d_X_layBits_105 ?_
      refine tpl (z := (lB (if fi.getLsbD (n - 1 - i) then 1#64 else 0#64))) (congrArg lB (bv_bit _ _)) ?_
      refine lv_l2i hx hb d_X_layBits_106 (bz_l2i _) ?_
      refine lv_i2b hx hb d_X_layBits_107 (bz_b _) ?_
      refine lv_ixor hx hb d_X_layBits_108 ?_
      refine tpi (z := (bz (q_rm n fi d dt cnt i i ^^ fi.getLsbD (n - 1 - i)))) (bz_xor _ _) ?_
      refine lv_i2b hx hb d_X_layBits_109 (bz_b _) ?_
      refine nt_bast (j := i) hx hb hK hP hD hS 4 rfl (by omega) (by decide) d_X_layBits_110 (fun H locs hP hD hS => ?_)
      have hP : va_P D classes [(x0, .inr (2, xf k0 p0 b0 r0 cnt)), (k0, .inr (0, kf n po fi la d o t0)), (t0, .inl (cL, 2048, .inr (.inl f))), (b0, .inl (cB, 5000, .inl (fun j => sb (dt j)))), (r0, .inl (cB, 40064, .inl (upd rf i (vp_nar .byte (bz (q_rm n fi d dt cnt i i ^^ fi.getLsbD (n - 1 - i)))))))] H := hP
      have hD : va_D A [(x0, .inr (2, xf k0 p0 b0 r0 cnt)), (k0, .inr (0, kf n po fi la d o t0)), (t0, .inl (cL, 2048, .inr (.inl f))), (b0, .inl (cB, 5000, .inl (fun j => sb (dt j)))), (r0, .inl (cB, 40064, .inl (upd rf i (vp_nar .byte (bz (q_rm n fi d dt cnt i i ^^ fi.getLsbD (n - 1 - i)))))))] := hD
      refine lv_iinc (v := (nI (i + 1))) (lv' := [(1, .int (nI (i + 1))), (0, .ref x0)]) hx hb d_X_layBits_111 hl (k := 1) rfl (nI_inc1 _) (by decide) rfl (fun ls hl => ?_)
      refine lv_goto (tgt := 67) hx hb d_X_layBits_114 (by decide) ?_
      exact ihi (i + 1) (by omega) _ (fun j hj => (row_put hr _ j hj).trans (congrArg bz (congrFun rm_s j))) ls H locs hP hD hS (lv_sub hl [1, 0] rfl)
  have loop2 : ∀ (j i : Nat), i + j = 8 * cnt + n → ∀ (rf : Nat → Int32) (hr : ∀ j, j < i → rf j = bz (q_r0 d dt cnt j)) (ls : Array Slot) (H : Heap) (locs : List Loc), va_P D classes [(x0, .inr (2, xf k0 p0 b0 r0 cnt)), (k0, .inr (0, kf n po fi la d o t0)), (t0, .inl (cL, 2048, .inr (.inl f))), (b0, .inl (cB, 5000, .inl (fun j => sb (dt j)))), (r0, .inl (cB, 40064, .inl rf))] H → va_D A [(x0, .inr (2, xf k0 p0 b0 r0 cnt)), (k0, .inr (0, kf n po fi la d o t0)), (t0, .inl (cL, 2048, .inr (.inl f))), (b0, .inl (cB, 5000, .inl (fun j => sb (dt j)))), (r0, .inl (cB, 40064, .inl rf))] → va_S A s.heap H locs → lv_has ls 2 [(0, .ref x0), (1, .int (nI i))] → W p l e (rmA 1 0 0 21) s m ([.ref x0] : List Value).toArray below meth c H locs 0 0 Q (F0 m 2 ls []) := by
    intro j
    induction j with
    | zero =>
      intro i hiji rf hr ls H locs hP hD hS hl
      refine lv_iload_n hx hb d_X_layBits_2 rfl (lv_at hl 1 rfl) ?_
      refine lv_bipush (v := nI 8) hx hb d_X_layBits_3 (by decide) ?_
      refine lv_aload_n hx hb d_X_layBits_5 rfl (lv_at hl 0 rfl) ?_
      refine gf_X_41 (v := .int (nI cnt)) F hK hP 0 rfl rfl d_X_layBits_6 ?_
      refine nt_imul (x := 8) hx hb d_X_layBits_9 ?_
      refine lv_aload_n hx hb d_X_layBits_10 rfl (lv_at hl 0 rfl) ?_
      refine gf_X_16 (v := .ref k0) F hK hP 0 rfl rfl d_X_layBits_11 ?_
      refine gf_X_80 (v := .int (nI n)) F hK hP 1 rfl rfl d_X_layBits_14 ?_
      refine nt_iadd (x := (8 * cnt)) hx hb d_X_layBits_17 ?_
      refine nt_icmp_ge (a := i) (b := ((8 * cnt) + n)) (tgt := 65) hx hb (by omega) (by omega) d_X_layBits_18 (by decide) (fun hc => ?_) (fun hc => absurd hc (by omega))
      refine lv_iconst (v := nI 0) hx hb d_X_layBits_65 (by decide) ?_
      refine lv_istore_n (lv' := [(1, .int (nI 0)), (0, .ref x0)]) hx hb d_X_layBits_66 rfl hl (by decide) rfl (fun ls hl => ?_)
      exact loop67 n 0 (by omega) rf (fun j hj => by rw [rm_0]; exact hr j (by omega)) ls H locs hP hD hS (lv_sub hl [1, 0] rfl)
    | succ j ihi =>
      intro i hiji rf hr ls H locs hP hD hS hl
      refine lv_iload_n hx hb d_X_layBits_2 rfl (lv_at hl 1 rfl) ?_
      refine lv_bipush (v := nI 8) hx hb d_X_layBits_3 (by decide) ?_
      refine lv_aload_n hx hb d_X_layBits_5 rfl (lv_at hl 0 rfl) ?_
      refine gf_X_41 (v := .int (nI cnt)) F hK hP 0 rfl rfl d_X_layBits_6 ?_
      refine nt_imul (x := 8) hx hb d_X_layBits_9 ?_
      refine lv_aload_n hx hb d_X_layBits_10 rfl (lv_at hl 0 rfl) ?_
      refine gf_X_16 (v := .ref k0) F hK hP 0 rfl rfl d_X_layBits_11 ?_
      refine gf_X_80 (v := .int (nI n)) F hK hP 1 rfl rfl d_X_layBits_14 ?_
      refine nt_iadd (x := (8 * cnt)) hx hb d_X_layBits_17 ?_
      refine nt_icmp_ge (a := i) (b := ((8 * cnt) + n)) (tgt := 65) hx hb (by omega) (by omega) d_X_layBits_18 (by decide) (fun hc => absurd hc (by omega)) (fun hc => ?_)
      refine lv_aload_n hx hb d_X_layBits_21 rfl (lv_at hl 0 rfl) ?_
      refine gf_X_34 (v := .ref r0) F hK hP 0 rfl rfl d_X_layBits_22 ?_
      refine lv_iload_n hx hb d_X_layBits_25 rfl (lv_at hl 1 rfl) ?_
      refine lv_iload_n hx hb d_X_layBits_26 rfl (lv_at hl 1 rfl) ?_
      refine lv_bipush (v := nI 8) hx hb d_X_layBits_27 (by decide) ?_
      refine lv_aload_n hx hb d_X_layBits_29 rfl (lv_at hl 0 rfl) ?_
      refine gf_X_41 (v := .int (nI cnt)) F hK hP 0 rfl rfl d_X_layBits_30 ?_
      refine nt_imul (x := 8) hx hb d_X_layBits_33 ?_
      refine nt_icmp_ge (a := i) (b := (8 * cnt)) (tgt := 57) hx hb (by omega) (by omega) d_X_layBits_34 (by decide) (fun hc2 => ?_) (fun hc2 => ?_)
      · refine lv_iconst (v := nI 0) hx hb d_X_layBits_57 (by decide) ?_
        refine tpi (z := (bz false)) rfl ?_
        refine nt_bast (j := i) hx hb hK hP hD hS 4 rfl (by omega) (by decide) d_X_layBits_58 (fun H locs hP hD hS => ?_)
        have hP : va_P D classes [(x0, .inr (2, xf k0 p0 b0 r0 cnt)), (k0, .inr (0, kf n po fi la d o t0)), (t0, .inl (cL, 2048, .inr (.inl f))), (b0, .inl (cB, 5000, .inl (fun j => sb (dt j)))), (r0, .inl (cB, 40064, .inl (upd rf i (vp_nar .byte (bz false)))))] H := hP
        have hD : va_D A [(x0, .inr (2, xf k0 p0 b0 r0 cnt)), (k0, .inr (0, kf n po fi la d o t0)), (t0, .inl (cL, 2048, .inr (.inl f))), (b0, .inl (cB, 5000, .inl (fun j => sb (dt j)))), (r0, .inl (cB, 40064, .inl (upd rf i (vp_nar .byte (bz false)))))] := hD
        refine lv_iinc (v := (nI (i + 1))) (lv' := [(1, .int (nI (i + 1))), (0, .ref x0)]) hx hb d_X_layBits_59 hl (k := 1) rfl (nI_inc1 _) (by decide) rfl (fun ls hl => ?_)
        refine lv_goto (tgt := 2) hx hb d_X_layBits_62 (by decide) ?_
        exact ihi (i + 1) (by omega) _ (row_fill hr (r0_out (by omega))) ls H locs hP hD hS (lv_sub hl [1, 0] rfl)
      · refine lv_aload_n hx hb d_X_layBits_37 rfl (lv_at hl 0 rfl) ?_
        refine gf_X_29 (v := .ref b0) F hK hP 0 rfl rfl d_X_layBits_38 ?_
        refine lv_iload_n hx hb d_X_layBits_41 rfl (lv_at hl 1 rfl) ?_
        refine lv_iconst (v := nI 3) hx hb d_X_layBits_42 (by decide) ?_
        refine nt_ishr (x := i) hx hb (by omega) (by omega) d_X_layBits_43 ?_
        refine tpi (z := (nI (i / 8))) rfl ?_
        refine nt_bald (j := (i / 8)) hx hb hK hP 3 rfl (by omega) (by decide) d_X_layBits_44 ?_
        refine lv_aload_n hx hb d_X_layBits_45 rfl (lv_at hl 0 rfl) ?_
        refine lv_iload_n hx hb d_X_layBits_46 rfl (lv_at hl 1 rfl) ?_
        refine roVI (rest := [.int (sb (dt (i / 8))), .int (nI i), .ref r0]) F (c_X_place l D cL cB cI x0 k0 t0 p0 b0 r0 cnt n po fi la d o i) k_X_place ml_X_49 ⟨rfl, rfl, by decide, by decide⟩ hK hP hS (hP.sub [0, 1] rfl) rfl rfl rfl rfl hl.1 rfl (Nat.le_of_ble_eq_true rfl) d_X_layBits_47 ⟨Nat.le_of_ble_eq_true rfl, Nat.le_of_ble_eq_true rfl⟩ (fun H locs hP hS => ?_)
        refine lv_ishr hx hb d_X_layBits_50 ?_
        refine lv_iconst (v := nI 1) hx hb d_X_layBits_51 (by decide) ?_
        refine lv_iand hx hb d_X_layBits_52 ?_
        refine tpi (z := (bz ((dt (i / 8)).testBit (q_pl d i)))) (sb_bit (hd _) (pl_lt _ _)) ?_
        refine lv_i2b hx hb d_X_layBits_53 (bz_b _) ?_
        refine lv_goto (tgt := 58) hx hb d_X_layBits_54 (by decide) ?_
        refine nt_bast (j := i) hx hb hK hP hD hS 4 rfl (by omega) (by decide) d_X_layBits_58 (fun H locs hP hD hS => ?_)
        have hP : va_P D classes [(x0, .inr (2, xf k0 p0 b0 r0 cnt)), (k0, .inr (0, kf n po fi la d o t0)), (t0, .inl (cL, 2048, .inr (.inl f))), (b0, .inl (cB, 5000, .inl (fun j => sb (dt j)))), (r0, .inl (cB, 40064, .inl (upd rf i (vp_nar .byte (bz ((dt (i / 8)).testBit (q_pl d i)))))))] H := hP
        have hD : va_D A [(x0, .inr (2, xf k0 p0 b0 r0 cnt)), (k0, .inr (0, kf n po fi la d o t0)), (t0, .inl (cL, 2048, .inr (.inl f))), (b0, .inl (cB, 5000, .inl (fun j => sb (dt j)))), (r0, .inl (cB, 40064, .inl (upd rf i (vp_nar .byte (bz ((dt (i / 8)).testBit (q_pl d i)))))))] := hD
        refine lv_iinc (v := (nI (i + 1))) (lv' := [(1, .int (nI (i + 1))), (0, .ref x0)]) hx hb d_X_layBits_59 hl (k := 1) rfl (nI_inc1 _) (by decide) rfl (fun ls hl => ?_)
        refine lv_goto (tgt := 2) hx hb d_X_layBits_62 (by decide) ?_
        exact ihi (i + 1) (by omega) _ (row_fill hr (r0_in (by omega))) ls H locs hP hD hS (lv_sub hl [1, 0] rfl)
  exact loop2 (8 * cnt + n) 0 (by omega) rf (fun j hj => absurd hj (by omega)) ls s.heap [] hP hD hS (lv_sub hl [1, 0] rfl)

set_option maxHeartbeats 4000000 in
set_option maxRecDepth 100000 in
theorem c_X_byDividing (l : Launch) (D : va_G) (cL cB cI : ClassId) (x0 k0 t0 p0 b0 r0 cnt n : Nat) (po fi la : BitVec 64) (d o : Bool) (f : Nat → Int64) (dt : Nat → Nat) (rf : Nat → Int32) (sz : Nat) (hn : 1 ≤ n ∧ n ≤ 64) (hp : q_M n po) (hfi : q_M n fi) (hd : ∀ j, dt j < 256) (hc5 : cnt ≤ 5000) : Met l y_X_byDividing (Cond.code y_X_byDividing b_X_byDividing 6 (some .long) :: g_tbl) (rmA 5 0 0 110) (MuP D cL cB cI [(x0, .inr (2, xf k0 p0 b0 r0 cnt)), (k0, .inr (0, kf n po fi la d o t0)), (t0, .inl (cL, 2048, .inr (.inl f))), (b0, .inl (cB, 5000, .inl (fun j => sb (dt j)))), (r0, .inl (cB, 40064, .inl rf))] sz [.ref x0]) (va_Ql (S := (Nat → Int32)) (fun r _ => r = lB (q_ck n po fi la d o dt 0 cnt)) (MuB D [(x0, .inr (2, xf k0 p0 b0 r0 cnt)), (k0, .inr (0, kf n po fi la d o t0)), (t0, .inl (cL, 2048, .inr (.inl f))), (b0, .inl (cB, 5000, .inl (fun j => sb (dt j)))), (r0, .inl (cB, 40064, .inl rf))] sz (fun rf => [(x0, .inr (2, xf k0 p0 b0 r0 cnt)), (k0, .inr (0, kf n po fi la d o t0)), (t0, .inl (cL, 2048, .inr (.inl f))), (b0, .inl (cB, 5000, .inl (fun j => sb (dt j)))), (r0, .inl (cB, 40064, .inl rf))])) (va_A [(x0, .inr (2, xf k0 p0 b0 r0 cnt)), (k0, .inr (0, kf n po fi la d o t0)), (t0, .inl (cL, 2048, .inr (.inl f))), (b0, .inl (cB, 5000, .inl (fun j => sb (dt j)))), (r0, .inl (cB, 40064, .inl rf))] sz)) 0 0 (va_A [(x0, .inr (2, xf k0 p0 b0 r0 cnt)), (k0, .inr (0, kf n po fi la d o t0)), (t0, .inl (cL, 2048, .inr (.inl f))), (b0, .inl (cB, 5000, .inl (fun j => sb (dt j)))), (r0, .inl (cB, 40064, .inl rf))] sz) := by
  refine mu_startL sz (by decide) (Nat.le_of_ble_eq_true rfl) ?_
  intro p e s m below meth c ls Q A F hnm hP hK hD hA hl hret
  have hx := F.1
  have hb := F.2.1
  have hown := F.2.2.2.1
  have hT := F.2.2.2.2
  have hS : va_S A s.heap s.heap [] := va_S.rf
  have hl : lv_has ls 6 [(0, .ref x0)] := hl
  refine lv_aload_n hx hb d_X_byDividing_0 rfl (lv_at hl 0 rfl) ?_
  refine kk_muV (wr := []) (run_muV (rest := []) F (c_X_layBits l D cL cB cI x0 k0 t0 p0 b0 r0 cnt n po fi la d o f dt rf _ hn hd hc5) k_X_layBits ml_X_83 ⟨rfl, rfl, by decide, by decide⟩ hK (hP.sub [0, 1, 2, 3, 4] rfl) (hD.sub [0, 1, 2, 3, 4] (by decide) rfl) rfl rfl rfl rfl hl.1 rfl (Nat.le_of_ble_eq_true rfl) d_X_byDividing_1 ⟨Nat.le_of_ble_eq_true rfl, Nat.le_of_ble_eq_true rfl⟩) hS hP hD hA [0, 1, 2, 3, 4] [] rfl rfl (by decide) (by decide) (fun rf H locs hr hP hD hS => ?_)
  have hP : va_P D classes [(x0, .inr (2, xf k0 p0 b0 r0 cnt)), (k0, .inr (0, kf n po fi la d o t0)), (t0, .inl (cL, 2048, .inr (.inl f))), (b0, .inl (cB, 5000, .inl (fun j => sb (dt j)))), (r0, .inl (cB, 40064, .inl rf))] H := hP
  have hD : va_D A [(x0, .inr (2, xf k0 p0 b0 r0 cnt)), (k0, .inr (0, kf n po fi la d o t0)), (t0, .inl (cL, 2048, .inr (.inl f))), (b0, .inl (cB, 5000, .inl (fun j => sb (dt j)))), (r0, .inl (cB, 40064, .inl rf))] := hD
  refine lv_iconst (v := nI 0) hx hb d_X_byDividing_4 (by decide) ?_
  refine lv_istore_n (lv' := [(1, .int (nI 0)), (0, .ref x0)]) hx hb d_X_byDividing_5 rfl hl (by decide) rfl (fun ls hl => ?_)
  have loop116 : ∀ (j i : Nat), i + j = n → ∀ (rf : Nat → Int32) (hr : ∀ j, j < 8 * cnt + n → rf j = bz (q_dv n po fi d dt cnt (8 * cnt) j)) (ls : Array Slot) (H : Heap) (locs : List Loc), va_P D classes [(x0, .inr (2, xf k0 p0 b0 r0 cnt)), (k0, .inr (0, kf n po fi la d o t0)), (t0, .inl (cL, 2048, .inr (.inl f))), (b0, .inl (cB, 5000, .inl (fun j => sb (dt j)))), (r0, .inl (cB, 40064, .inl rf))] H → va_D A [(x0, .inr (2, xf k0 p0 b0 r0 cnt)), (k0, .inr (0, kf n po fi la d o t0)), (t0, .inl (cL, 2048, .inr (.inl f))), (b0, .inl (cB, 5000, .inl (fun j => sb (dt j)))), (r0, .inl (cB, 40064, .inl rf))] → va_S A s.heap H locs → lv_has ls 6 [(0, .ref x0), (1, .long (lB (q_rd (fun i => q_dv n po fi d dt cnt (8 * cnt) (8 * cnt + i)) i))), (3, .int (nI (8 * cnt + i)))] → W p l e (rmA 5 0 0 110) s m ([.ref x0] : List Value).toArray below meth c H locs 0 0 Q (F0 m 116 ls []) := by
    intro j
    induction j with
    | zero =>
      intro i hiji rf hr ls H locs hP hD hS hl
      refine lv_iload_n hx hb d_X_byDividing_116 rfl (lv_at hl 2 rfl) ?_
      refine lv_bipush (v := nI 8) hx hb d_X_byDividing_117 (by decide) ?_
      refine lv_aload_n hx hb d_X_byDividing_119 rfl (lv_at hl 0 rfl) ?_
      refine gf_X_41 (v := .int (nI cnt)) F hK hP 0 rfl rfl d_X_byDividing_120 ?_
      refine nt_imul (x := 8) hx hb d_X_byDividing_123 ?_
      refine lv_aload_n hx hb d_X_byDividing_124 rfl (lv_at hl 0 rfl) ?_
      refine gf_X_16 (v := .ref k0) F hK hP 0 rfl rfl d_X_byDividing_125 ?_
      refine gf_X_80 (v := .int (nI n)) F hK hP 1 rfl rfl d_X_byDividing_128 ?_
      refine nt_iadd (x := (8 * cnt)) hx hb d_X_byDividing_131 ?_
      refine nt_icmp_ge (a := (8 * cnt + i)) (b := ((8 * cnt) + n)) (tgt := 153) hx hb (by omega) (by omega) d_X_byDividing_132 (by decide) (fun hc => ?_) (fun hc => absurd hc (by omega))
      refine lv_aload_n hx hb d_X_byDividing_153 rfl (lv_at hl 0 rfl) ?_
      refine gf_X_16 (v := .ref k0) F hK hP 0 rfl rfl d_X_byDividing_154 ?_
      refine lv_aload_n hx hb d_X_byDividing_157 rfl (lv_at hl 0 rfl) ?_
      refine gf_X_16 (v := .ref k0) F hK hP 0 rfl rfl d_X_byDividing_158 ?_
      refine lv_lload_n hx hb d_X_byDividing_161 rfl (lv_at hl 1 rfl) ?_
      refine roVL (rest := [.ref k0]) F (c_K_stand l D cL cB cI k0 t0 n po fi la d o (q_rd (fun i => q_dv n po fi d dt cnt (8 * cnt) (8 * cnt + i)) i) hn) k_K_stand ml_X_57 ⟨rfl, rfl, by decide, by decide⟩ hK hP hS (hP.sub [1] rfl) rfl rfl rfl rfl hl.1 rfl (Nat.le_of_ble_eq_true rfl) d_X_byDividing_162 ⟨Nat.le_of_ble_eq_true rfl, Nat.le_of_ble_eq_true rfl⟩ (fun H locs hP hS => ?_)
      refine roVL (rest := []) F (c_K_finish l D cL cB cI k0 t0 n po fi la d o (q_sd d n (q_rd (fun i => q_dv n po fi d dt cnt (8 * cnt) (8 * cnt + i)) i)) hn) k_K_finish ml_X_65 ⟨rfl, rfl, by decide, by decide⟩ hK hP hS (hP.sub [1] rfl) rfl rfl rfl rfl hl.1 rfl (Nat.le_of_ble_eq_true rfl) d_X_byDividing_165 ⟨Nat.le_of_ble_eq_true rfl, Nat.le_of_ble_eq_true rfl⟩ (fun H locs hP hS => ?_)
      refine tpl (z := (lB (q_ck n po fi la d o dt 0 cnt))) (by rw [show i = n by omega, dv_fin hn hp hfi, fn_sd hn (rn_M hn.2 hp hfi cnt)]; rfl) ?_
      exact hret _ _ _ _ _ rf d_X_byDividing_168 rfl (hP.sub [0, 1, 2, 3, 4] rfl) (hD.sub [0, 1, 2, 3, 4] (by decide) rfl) hS
    | succ j ihi =>
      intro i hiji rf hr ls H locs hP hD hS hl
      refine lv_iload_n hx hb d_X_byDividing_116 rfl (lv_at hl 2 rfl) ?_
      refine lv_bipush (v := nI 8) hx hb d_X_byDividing_117 (by decide) ?_
      refine lv_aload_n hx hb d_X_byDividing_119 rfl (lv_at hl 0 rfl) ?_
      refine gf_X_41 (v := .int (nI cnt)) F hK hP 0 rfl rfl d_X_byDividing_120 ?_
      refine nt_imul (x := 8) hx hb d_X_byDividing_123 ?_
      refine lv_aload_n hx hb d_X_byDividing_124 rfl (lv_at hl 0 rfl) ?_
      refine gf_X_16 (v := .ref k0) F hK hP 0 rfl rfl d_X_byDividing_125 ?_
      refine gf_X_80 (v := .int (nI n)) F hK hP 1 rfl rfl d_X_byDividing_128 ?_
      refine nt_iadd (x := (8 * cnt)) hx hb d_X_byDividing_131 ?_
      refine nt_icmp_ge (a := (8 * cnt + i)) (b := ((8 * cnt) + n)) (tgt := 153) hx hb (by omega) (by omega) d_X_byDividing_132 (by decide) (fun hc => absurd hc (by omega)) (fun hc => ?_)
      refine lv_lload_n hx hb d_X_byDividing_135 rfl (lv_at hl 1 rfl) ?_
      refine lv_iconst (v := nI 1) hx hb d_X_byDividing_136 (by decide) ?_
      refine bv_lshl hx hb (by omega) d_X_byDividing_137 ?_
      refine lv_aload_n hx hb d_X_byDividing_138 rfl (lv_at hl 0 rfl) ?_
      refine gf_X_34 (v := .ref r0) F hK hP 0 rfl rfl d_X_byDividing_139 ?_
      refine lv_iload_n hx hb d_X_byDividing_142 rfl (lv_at hl 2 rfl) ?_
      refine nt_bald (j := (8 * cnt + i)) hx hb hK hP 4 rfl (by omega) (by decide) d_X_byDividing_143 ?_
      refine tpi (z := (bz (q_dv n po fi d dt cnt (8 * cnt) (8 * cnt + i)))) (hr _ (by omega)) ?_
      refine lv_i2l hx hb d_X_byDividing_144 (bz_l _) ?_
      refine bv_lor hx hb d_X_byDividing_145 ?_
      refine tpl (z := (lB (q_rd (fun i => q_dv n po fi d dt cnt (8 * cnt) (8 * cnt + i)) (i + 1)))) rfl ?_
      refine lv_lstore_n (lv' := [(1, .long (lB (q_rd (fun i => q_dv n po fi d dt cnt (8 * cnt) (8 * cnt + i)) (i + 1)))), (0, .ref x0), (3, .int (nI (8 * cnt + i)))]) hx hb d_X_byDividing_146 rfl hl (by decide) rfl (fun ls hl => ?_)
      refine lv_iinc (v := (nI (8 * cnt + i + 1))) (lv' := [(3, .int (nI (8 * cnt + i + 1))), (1, .long (lB (q_rd (fun i => q_dv n po fi d dt cnt (8 * cnt) (8 * cnt + i)) (i + 1)))), (0, .ref x0)]) hx hb d_X_byDividing_147 hl (k := 2) rfl (nI_inc1 _) (by decide) rfl (fun ls hl => ?_)
      refine lv_goto (tgt := 116) hx hb d_X_byDividing_150 (by decide) ?_
      exact ihi (i + 1) (by omega) rf hr ls H locs hP hD hS (lv_sub hl [2, 1, 0] rfl)
  have loop6 : ∀ (j i : Nat), i + j = 8 * cnt → ∀ (rf : Nat → Int32) (hr : ∀ j, j < 8 * cnt + n → rf j = bz (q_dv n po fi d dt cnt i j)) (ls : Array Slot) (H : Heap) (locs : List Loc), va_P D classes [(x0, .inr (2, xf k0 p0 b0 r0 cnt)), (k0, .inr (0, kf n po fi la d o t0)), (t0, .inl (cL, 2048, .inr (.inl f))), (b0, .inl (cB, 5000, .inl (fun j => sb (dt j)))), (r0, .inl (cB, 40064, .inl rf))] H → va_D A [(x0, .inr (2, xf k0 p0 b0 r0 cnt)), (k0, .inr (0, kf n po fi la d o t0)), (t0, .inl (cL, 2048, .inr (.inl f))), (b0, .inl (cB, 5000, .inl (fun j => sb (dt j)))), (r0, .inl (cB, 40064, .inl rf))] → va_S A s.heap H locs → lv_has ls 6 [(0, .ref x0), (1, .int (nI i))] → W p l e (rmA 5 0 0 110) s m ([.ref x0] : List Value).toArray below meth c H locs 0 0 Q (F0 m 6 ls []) := by
    intro j
    induction j with
    | zero =>
      intro i hiji rf hr ls H locs hP hD hS hl
      refine lv_iload_n hx hb d_X_byDividing_6 rfl (lv_at hl 1 rfl) ?_
      refine lv_bipush (v := nI 8) hx hb d_X_byDividing_7 (by decide) ?_
      refine lv_aload_n hx hb d_X_byDividing_9 rfl (lv_at hl 0 rfl) ?_
      refine gf_X_41 (v := .int (nI cnt)) F hK hP 0 rfl rfl d_X_byDividing_10 ?_
      refine nt_imul (x := 8) hx hb d_X_byDividing_13 ?_
      refine nt_icmp_ge (a := i) (b := (8 * cnt)) (tgt := 106) hx hb (by omega) (by omega) d_X_byDividing_14 (by decide) (fun hc => ?_) (fun hc => absurd hc (by omega))
      refine lv_lconst (v := lB 0#64) hx hb d_X_byDividing_106 rfl ?_
      refine lv_lstore_n (lv' := [(1, .long (lB 0#64)), (0, .ref x0)]) hx hb d_X_byDividing_107 rfl hl (by decide) rfl (fun ls hl => ?_)
      refine lv_bipush (v := nI 8) hx hb d_X_byDividing_108 (by decide) ?_
      refine lv_aload_n hx hb d_X_byDividing_110 rfl (lv_at hl 1 rfl) ?_
      refine gf_X_41 (v := .int (nI cnt)) F hK hP 0 rfl rfl d_X_byDividing_111 ?_
      refine nt_imul (x := 8) hx hb d_X_byDividing_114 ?_
      refine lv_istore_n (lv' := [(3, .int (nI (8 * cnt))), (1, .long (lB 0#64)), (0, .ref x0)]) hx hb d_X_byDividing_115 rfl hl (by decide) rfl (fun ls hl => ?_)
      exact loop116 n 0 (by omega) rf (fun j hj => by rw [show 8 * cnt = i by omega]; exact hr j (by omega)) ls H locs hP hD hS (lv_sub hl [2, 1, 0] rfl)
    | succ j ihi =>
      intro i hiji rf hr ls H locs hP hD hS hl
      refine lv_iload_n hx hb d_X_byDividing_6 rfl (lv_at hl 1 rfl) ?_
      refine lv_bipush (v := nI 8) hx hb d_X_byDividing_7 (by decide) ?_
      refine lv_aload_n hx hb d_X_byDividing_9 rfl (lv_at hl 0 rfl) ?_
      refine gf_X_41 (v := .int (nI cnt)) F hK hP 0 rfl rfl d_X_byDividing_10 ?_
      refine nt_imul (x := 8) hx hb d_X_byDividing_13 ?_
      refine nt_icmp_ge (a := i) (b := (8 * cnt)) (tgt := 106) hx hb (by omega) (by omega) d_X_byDividing_14 (by decide) (fun hc => absurd hc (by omega)) (fun hc => ?_)
      cases hb1 : q_dv n po fi d dt cnt i i
      · refine lv_iconst (v := nI 0) hx hb d_X_byDividing_17 (by decide) ?_
        refine lv_istore_n (lv' := [(2, .int (nI 0)), (0, .ref x0), (1, .int (nI i))]) hx hb d_X_byDividing_18 rfl hl (by decide) rfl (fun ls hl => ?_)
        refine lv_iload_n hx hb d_X_byDividing_19 rfl (lv_at hl 0 rfl) ?_
        refine lv_aload_n hx hb d_X_byDividing_20 rfl (lv_at hl 1 rfl) ?_
        refine gf_X_16 (v := .ref k0) F hK hP 0 rfl rfl d_X_byDividing_21 ?_
        refine gf_X_80 (v := .int (nI n)) F hK hP 1 rfl rfl d_X_byDividing_24 ?_
        refine nt_icmp_gt (a := 0) (b := n) (tgt := 100) hx hb (by omega) (by omega) d_X_byDividing_27 (by decide) (fun hc2 => absurd hc2 (by omega)) (fun hc2 => ?_)
        refine lv_aload_n hx hb d_X_byDividing_30 rfl (lv_at hl 1 rfl) ?_
        refine gf_X_34 (v := .ref r0) F hK hP 0 rfl rfl d_X_byDividing_31 ?_
        refine lv_iload_n hx hb d_X_byDividing_34 rfl (lv_at hl 2 rfl) ?_
        refine nt_bald (j := i) hx hb hK hP 4 rfl (by omega) (by decide) d_X_byDividing_35 ?_
        refine tpi (z := (bz false)) ((hr i (by omega)).trans (by rw [hb1])) ?_
        refine lv_iconst (v := nI 1) hx hb d_X_byDividing_36 (by decide) ?_
        refine lv_icmp_ne (tgt := 100) hx hb d_X_byDividing_37 (by decide) (fun _ => ?_) (fun h => absurd h (by decide))
        refine lv_iinc (v := (nI (i + 1))) (lv' := [(1, .int (nI (i + 1))), (2, .int (nI 0)), (0, .ref x0)]) hx hb d_X_byDividing_100 hl (k := 2) rfl (nI_inc1 _) (by decide) rfl (fun ls hl => ?_)
        refine lv_goto (tgt := 6) hx hb d_X_byDividing_103 (by decide) ?_
        exact ihi (i + 1) (by omega) rf (fun j hj => (hr j hj).trans (by rw [dv_no hb1])) ls H locs hP hD hS (lv_sub hl [2, 0] rfl)
      · refine lv_iconst (v := nI 0) hx hb d_X_byDividing_17 (by decide) ?_
        refine lv_istore_n (lv' := [(2, .int (nI 0)), (0, .ref x0), (1, .int (nI i))]) hx hb d_X_byDividing_18 rfl hl (by decide) rfl (fun ls hl => ?_)
        have loop19 : ∀ (kj k : Nat), k + kj = n + 1 → ∀ (rf : Nat → Int32) (hr : ∀ j, j < 8 * cnt + n → rf j = bz (q_di n po i (q_dv n po fi d dt cnt i) k j)) (ls : Array Slot) (H : Heap) (locs : List Loc), va_P D classes [(x0, .inr (2, xf k0 p0 b0 r0 cnt)), (k0, .inr (0, kf n po fi la d o t0)), (t0, .inl (cL, 2048, .inr (.inl f))), (b0, .inl (cB, 5000, .inl (fun j => sb (dt j)))), (r0, .inl (cB, 40064, .inl rf))] H → va_D A [(x0, .inr (2, xf k0 p0 b0 r0 cnt)), (k0, .inr (0, kf n po fi la d o t0)), (t0, .inl (cL, 2048, .inr (.inl f))), (b0, .inl (cB, 5000, .inl (fun j => sb (dt j)))), (r0, .inl (cB, 40064, .inl rf))] → va_S A s.heap H locs → lv_has ls 6 [(0, .ref x0), (1, .int (nI i)), (2, .int (nI k))] → W p l e (rmA 5 0 0 110) s m ([.ref x0] : List Value).toArray below meth c H locs 0 0 Q (F0 m 19 ls []) := by
          intro kj
          induction kj with
          | zero =>
            intro k hijk rf hr ls H locs hP hD hS hl
            refine lv_iload_n hx hb d_X_byDividing_19 rfl (lv_at hl 2 rfl) ?_
            refine lv_aload_n hx hb d_X_byDividing_20 rfl (lv_at hl 0 rfl) ?_
            refine gf_X_16 (v := .ref k0) F hK hP 0 rfl rfl d_X_byDividing_21 ?_
            refine gf_X_80 (v := .int (nI n)) F hK hP 1 rfl rfl d_X_byDividing_24 ?_
            refine nt_icmp_gt (a := k) (b := n) (tgt := 100) hx hb (by omega) (by omega) d_X_byDividing_27 (by decide) (fun hc2 => ?_) (fun hc2 => absurd hc2 (by omega))
            refine lv_iinc (v := (nI (i + 1))) (lv' := [(1, .int (nI (i + 1))), (0, .ref x0), (2, .int (nI k))]) hx hb d_X_byDividing_100 hl (k := 1) rfl (nI_inc1 _) (by decide) rfl (fun ls hl => ?_)
            refine lv_goto (tgt := 6) hx hb d_X_byDividing_103 (by decide) ?_
            exact ihi (i + 1) (by omega) rf (fun j hj => (hr j hj).trans (by rw [show k = n + 1 by omega, dv_yes hb1])) ls H locs hP hD hS (lv_sub hl [1, 0] rfl)
          | succ kj ihk =>
            intro k hijk rf hr ls H locs hP hD hS hl
            refine lv_iload_n hx hb d_X_byDividing_19 rfl (lv_at hl 2 rfl) ?_
            refine lv_aload_n hx hb d_X_byDividing_20 rfl (lv_at hl 0 rfl) ?_
            refine gf_X_16 (v := .ref k0) F hK hP 0 rfl rfl d_X_byDividing_21 ?_
            refine gf_X_80 (v := .int (nI n)) F hK hP 1 rfl rfl d_X_byDividing_24 ?_
            refine nt_icmp_gt (a := k) (b := n) (tgt := 100) hx hb (by omega) (by omega) d_X_byDividing_27 (by decide) (fun hc2 => absurd hc2 (by omega)) (fun hc2 => ?_)
            refine lv_aload_n hx hb d_X_byDividing_30 rfl (lv_at hl 0 rfl) ?_
            refine gf_X_34 (v := .ref r0) F hK hP 0 rfl rfl d_X_byDividing_31 ?_
            refine lv_iload_n hx hb d_X_byDividing_34 rfl (lv_at hl 1 rfl) ?_
            refine nt_bald (j := i) hx hb hK hP 4 rfl (by omega) (by decide) d_X_byDividing_35 ?_
            refine tpi (z := (bz true)) ((hr i (by omega)).trans (by rw [di_i (by omega), hb1])) ?_
            refine lv_iconst (v := nI 1) hx hb d_X_byDividing_36 (by decide) ?_
            refine lv_icmp_ne (tgt := 100) hx hb d_X_byDividing_37 (by decide) (fun h => absurd rfl h) (fun _ => ?_)
            refine lv_iload_n hx hb d_X_byDividing_40 rfl (lv_at hl 1 rfl) ?_
            refine lv_aload_n hx hb d_X_byDividing_41 rfl (lv_at hl 0 rfl) ?_
            refine gf_X_16 (v := .ref k0) F hK hP 0 rfl rfl d_X_byDividing_42 ?_
            refine gf_X_80 (v := .int (nI n)) F hK hP 1 rfl rfl d_X_byDividing_45 ?_
            refine nt_iadd (x := i) hx hb d_X_byDividing_48 ?_
            refine lv_iload_n hx hb d_X_byDividing_49 rfl (lv_at hl 2 rfl) ?_
            refine nt_isub (x := (i + n)) hx hb (by omega) d_X_byDividing_50 ?_
            refine lv_istore_n (lv' := [(3, .int (nI ((i + n) - k))), (0, .ref x0), (1, .int (nI i)), (2, .int (nI k))]) hx hb d_X_byDividing_51 rfl hl (by decide) rfl (fun ls hl => ?_)
            refine lv_iload_n hx hb d_X_byDividing_52 rfl (lv_at hl 3 rfl) ?_
            refine lv_aload_n hx hb d_X_byDividing_53 rfl (lv_at hl 1 rfl) ?_
            refine gf_X_16 (v := .ref k0) F hK hP 0 rfl rfl d_X_byDividing_54 ?_
            refine gf_X_80 (v := .int (nI n)) F hK hP 1 rfl rfl d_X_byDividing_57 ?_
            refine nt_icmp_ne (a := k) (b := n) (tgt := 67) hx hb (by omega) (by omega) d_X_byDividing_60 (by decide) (fun hc3 => ?_) (fun hc3 => ?_)
            · refine lv_aload_n hx hb d_X_byDividing_67 rfl (lv_at hl 1 rfl) ?_
              refine gf_X_16 (v := .ref k0) F hK hP 0 rfl rfl d_X_byDividing_68 ?_
              refine gf_X_86 (v := .long (lB po)) F hK hP 1 rfl rfl d_X_byDividing_71 ?_
              refine lv_iload_n hx hb d_X_byDividing_74 rfl (lv_at hl 3 rfl) ?_
              refine bv_lushr hx hb (by omega) d_X_byDividing_75 ?_
              refine lv_lconst (v := lB 1#64) hx hb d_X_byDividing_76 rfl ?_
              refine bv_land hx hb d_X_byDividing_77 ?_
              refine tpl (z := (lB (if q_pb n po k then 1#64 else 0#64))) (congrArg lB (pb_ne hc3)) ?_
              refine lv_lstore (lv' := [(4, .long (lB (if q_pb n po k then 1#64 else 0#64))), (3, .int (nI ((i + n) - k))), (0, .ref x0), (1, .int (nI i)), (2, .int (nI k))]) hx hb d_X_byDividing_78 hl (by decide) rfl (fun ls hl => ?_)
              refine lv_aload_n hx hb d_X_byDividing_80 rfl (lv_at hl 2 rfl) ?_
              refine gf_X_34 (v := .ref r0) F hK hP 0 rfl rfl d_X_byDividing_81 ?_
              refine lv_iload_n hx hb d_X_byDividing_84 rfl (lv_at hl 1 rfl) ?_
              refine lv_dup2_11 hx hb d_X_byDividing_85 rfl rfl ?_
              refine nt_bald (j := ((i + n) - k)) hx hb hK hP 4 rfl (by omega) (by decide) d_X_byDividing_86 ?_
              refine tpi (z := (bz (q_dv n po fi d dt cnt i (i + n - k)))) ((hr _ (by omega)).trans (by rw [di_at (by omega)])) ?_
              refine lv_lload hx hb d_X_byDividing_87 (lv_at hl 0 rfl) ?_
              refine lv_l2i hx hb d_X_byDividing_89 (bz_l2i _) ?_
              refine lv_i2b hx hb d_X_byDividing_90 (bz_b _) ?_
              refine lv_ixor hx hb d_X_byDividing_91 ?_
              refine tpi (z := (bz (q_dv n po fi d dt cnt i (i + n - k) ^^ q_pb n po k))) (bz_xor _ _) ?_
              refine lv_i2b hx hb d_X_byDividing_92 (bz_b _) ?_
              refine nt_bast (j := ((i + n) - k)) hx hb hK hP hD hS 4 rfl (by omega) (by decide) d_X_byDividing_93 (fun H locs hP hD hS => ?_)
              have hP : va_P D classes [(x0, .inr (2, xf k0 p0 b0 r0 cnt)), (k0, .inr (0, kf n po fi la d o t0)), (t0, .inl (cL, 2048, .inr (.inl f))), (b0, .inl (cB, 5000, .inl (fun j => sb (dt j)))), (r0, .inl (cB, 40064, .inl (upd rf (i + n - k) (vp_nar .byte (bz (q_dv n po fi d dt cnt i (i + n - k) ^^ q_pb n po k))))))] H := hP
              have hD : va_D A [(x0, .inr (2, xf k0 p0 b0 r0 cnt)), (k0, .inr (0, kf n po fi la d o t0)), (t0, .inl (cL, 2048, .inr (.inl f))), (b0, .inl (cB, 5000, .inl (fun j => sb (dt j)))), (r0, .inl (cB, 40064, .inl (upd rf (i + n - k) (vp_nar .byte (bz (q_dv n po fi d dt cnt i (i + n - k) ^^ q_pb n po k))))))] := hD
              refine lv_iinc (v := (nI (k + 1))) (lv' := [(2, .int (nI (k + 1))), (4, .long (lB (if q_pb n po k then 1#64 else 0#64))), (3, .int (nI ((i + n) - k))), (0, .ref x0), (1, .int (nI i))]) hx hb d_X_byDividing_94 hl (k := 4) rfl (nI_inc1 _) (by decide) rfl (fun ls hl => ?_)
              refine lv_goto (tgt := 19) hx hb d_X_byDividing_97 (by decide) ?_
              exact ihk (k + 1) (by omega) _ (fun j hj => (row_put hr _ j hj).trans (congrArg bz (congrFun (di_s (by omega)) j))) ls H locs hP hD hS (lv_sub hl [3, 4, 0] rfl)
            · refine lv_lconst (v := lB 1#64) hx hb d_X_byDividing_63 rfl ?_
              refine lv_goto (tgt := 78) hx hb d_X_byDividing_64 (by decide) ?_
              refine tpl (z := (lB (if q_pb n po k then 1#64 else 0#64))) (congrArg lB (pb_n hc3)) ?_
              refine lv_lstore (lv' := [(4, .long (lB (if q_pb n po k then 1#64 else 0#64))), (3, .int (nI ((i + n) - k))), (0, .ref x0), (1, .int (nI i)), (2, .int (nI k))]) hx hb d_X_byDividing_78 hl (by decide) rfl (fun ls hl => ?_)
              refine lv_aload_n hx hb d_X_byDividing_80 rfl (lv_at hl 2 rfl) ?_
              refine gf_X_34 (v := .ref r0) F hK hP 0 rfl rfl d_X_byDividing_81 ?_
              refine lv_iload_n hx hb d_X_byDividing_84 rfl (lv_at hl 1 rfl) ?_
              refine lv_dup2_11 hx hb d_X_byDividing_85 rfl rfl ?_
              refine nt_bald (j := ((i + n) - k)) hx hb hK hP 4 rfl (by omega) (by decide) d_X_byDividing_86 ?_
              refine tpi (z := (bz (q_dv n po fi d dt cnt i (i + n - k)))) ((hr _ (by omega)).trans (by rw [di_at (by omega)])) ?_
              refine lv_lload hx hb d_X_byDividing_87 (lv_at hl 0 rfl) ?_
              refine lv_l2i hx hb d_X_byDividing_89 (bz_l2i _) ?_
              refine lv_i2b hx hb d_X_byDividing_90 (bz_b _) ?_
              refine lv_ixor hx hb d_X_byDividing_91 ?_
              refine tpi (z := (bz (q_dv n po fi d dt cnt i (i + n - k) ^^ q_pb n po k))) (bz_xor _ _) ?_
              refine lv_i2b hx hb d_X_byDividing_92 (bz_b _) ?_
              refine nt_bast (j := ((i + n) - k)) hx hb hK hP hD hS 4 rfl (by omega) (by decide) d_X_byDividing_93 (fun H locs hP hD hS => ?_)
              have hP : va_P D classes [(x0, .inr (2, xf k0 p0 b0 r0 cnt)), (k0, .inr (0, kf n po fi la d o t0)), (t0, .inl (cL, 2048, .inr (.inl f))), (b0, .inl (cB, 5000, .inl (fun j => sb (dt j)))), (r0, .inl (cB, 40064, .inl (upd rf (i + n - k) (vp_nar .byte (bz (q_dv n po fi d dt cnt i (i + n - k) ^^ q_pb n po k))))))] H := hP
              have hD : va_D A [(x0, .inr (2, xf k0 p0 b0 r0 cnt)), (k0, .inr (0, kf n po fi la d o t0)), (t0, .inl (cL, 2048, .inr (.inl f))), (b0, .inl (cB, 5000, .inl (fun j => sb (dt j)))), (r0, .inl (cB, 40064, .inl (upd rf (i + n - k) (vp_nar .byte (bz (q_dv n po fi d dt cnt i (i + n - k) ^^ q_pb n po k))))))] := hD
              refine lv_iinc (v := (nI (k + 1))) (lv' := [(2, .int (nI (k + 1))), (4, .long (lB (if q_pb n po k then 1#64 else 0#64))), (3, .int (nI ((i + n) - k))), (0, .ref x0), (1, .int (nI i))]) hx hb d_X_byDividing_94 hl (k := 4) rfl (nI_inc1 _) (by decide) rfl (fun ls hl => ?_)
              refine lv_goto (tgt := 19) hx hb d_X_byDividing_97 (by decide) ?_
              exact ihk (k + 1) (by omega) _ (fun j hj => (row_put hr _ j hj).trans (congrArg bz (congrFun (di_s (by omega)) j))) ls H locs hP hD hS (lv_sub hl [3, 4, 0] rfl)
        exact loop19 (n + 1) 0 (by omega) rf (fun j hj => by rw [di_0]; exact hr j hj) ls H locs hP hD hS (lv_sub hl [1, 2, 0] rfl)
  exact loop6 (8 * cnt) 0 (by omega) rf hr ls H locs hP hD hS (lv_sub hl [1, 0] rfl)

set_option maxHeartbeats 4000000 in
set_option maxRecDepth 100000 in
theorem c_X_check (l : Launch) (D : va_G) (cL cB cI : ClassId) (x0 k0 t0 p0 b0 r0 cnt n : Nat) (po fi la : BitVec 64) (d o : Bool) (f : Nat → Int64) (dt : Nat → Nat) (rf : Nat → Int32) (wy : Int32) (sz : Nat) (hn : 1 ≤ n ∧ n ≤ 64) (hp : q_M n po) (hfi : q_M n fi) (hf : ∀ b, b < 2048 → f b = lB (q_tab d (q_sd d n po) b)) (hd : ∀ j, dt j < 256) (hc5 : cnt ≤ 5000) : Met l y_X_check (Cond.code y_X_check b_X_check 2 (some .long) :: g_tbl) (rmA 6 0 0 141) (MuP D cL cB cI [(x0, .inr (2, xf k0 p0 b0 r0 cnt)), (k0, .inr (0, kf n po fi la d o t0)), (t0, .inl (cL, 2048, .inr (.inl f))), (b0, .inl (cB, 5000, .inl (fun j => sb (dt j)))), (r0, .inl (cB, 40064, .inl rf))] sz [.ref x0, .int wy]) (va_Ql (S := (Nat → Int32)) (fun r _ => r = lB (s_check n po fi la d o dt cnt wy)) (MuB D [(x0, .inr (2, xf k0 p0 b0 r0 cnt)), (k0, .inr (0, kf n po fi la d o t0)), (t0, .inl (cL, 2048, .inr (.inl f))), (b0, .inl (cB, 5000, .inl (fun j => sb (dt j)))), (r0, .inl (cB, 40064, .inl rf))] sz (fun rf => [(x0, .inr (2, xf k0 p0 b0 r0 cnt)), (k0, .inr (0, kf n po fi la d o t0)), (t0, .inl (cL, 2048, .inr (.inl f))), (b0, .inl (cB, 5000, .inl (fun j => sb (dt j)))), (r0, .inl (cB, 40064, .inl rf))])) (va_A [(x0, .inr (2, xf k0 p0 b0 r0 cnt)), (k0, .inr (0, kf n po fi la d o t0)), (t0, .inl (cL, 2048, .inr (.inl f))), (b0, .inl (cB, 5000, .inl (fun j => sb (dt j)))), (r0, .inl (cB, 40064, .inl rf))] sz)) 0 0 (va_A [(x0, .inr (2, xf k0 p0 b0 r0 cnt)), (k0, .inr (0, kf n po fi la d o t0)), (t0, .inl (cL, 2048, .inr (.inl f))), (b0, .inl (cB, 5000, .inl (fun j => sb (dt j)))), (r0, .inl (cB, 40064, .inl rf))] sz) := by
  refine mu_startL sz (by decide) (Nat.le_of_ble_eq_true rfl) ?_
  intro p e s m below meth c ls Q A F hnm hP hK hD hA hl hret
  have hx := F.1
  have hb := F.2.1
  have hown := F.2.2.2.1
  have hT := F.2.2.2.2
  have hS : va_S A s.heap s.heap [] := va_S.rf
  have hl : lv_has ls 2 [(0, .ref x0), (1, .int wy)] := hl
  refine lv_iload_n hx hb d_X_check_0 rfl (lv_at hl 1 rfl) ?_
  by_cases hs0 : wy = 0
  · subst hs0
    refine lv_tableIn (x := 0) (off := 31) (tgt := 32) hx hb d_X_check_1 (by decide) (by decide) rfl (by decide) ?_
    refine lv_aload_n hx hb d_X_check_32 rfl (lv_at hl 0 rfl) ?_
    refine lv_iconst (v := nI 0) hx hb d_X_check_33 (by decide) ?_
    refine lv_aload_n hx hb d_X_check_34 rfl (lv_at hl 0 rfl) ?_
    refine gf_X_41 (v := .int (nI cnt)) F hK hP 0 rfl rfl d_X_check_35 ?_
    refine roVL (rest := []) F (c_X_byBits l D cL cB cI x0 k0 t0 p0 b0 r0 cnt n po fi la d o f dt 0 cnt hn hp hfi hd (Nat.zero_le _) hc5) k_X_byBits ml_X_89 ⟨rfl, rfl, by decide, by decide⟩ hK hP hS (hP.sub [0, 1, 2, 3] rfl) rfl rfl rfl rfl hl.1 rfl (Nat.le_of_ble_eq_true rfl) d_X_check_38 ⟨Nat.le_of_ble_eq_true rfl, Nat.le_of_ble_eq_true rfl⟩ (fun H locs hP hS => ?_)
    refine tpl (z := (lB (s_check n po fi la d o dt cnt 0))) rfl ?_
    exact hret _ _ _ _ _ rf d_X_check_41 rfl (hP.sub [0, 1, 2, 3, 4] rfl) (hD.sub [0, 1, 2, 3, 4] (by decide) rfl) hS
  by_cases hs1 : wy = 1
  · subst hs1
    refine lv_tableIn (x := 1) (off := 41) (tgt := 42) hx hb d_X_check_1 (by decide) (by decide) rfl (by decide) ?_
    refine lv_aload_n hx hb d_X_check_42 rfl (lv_at hl 0 rfl) ?_
    refine lv_iconst (v := nI 0) hx hb d_X_check_43 (by decide) ?_
    refine lv_aload_n hx hb d_X_check_44 rfl (lv_at hl 0 rfl) ?_
    refine gf_X_41 (v := .int (nI cnt)) F hK hP 0 rfl rfl d_X_check_45 ?_
    refine roVL (rest := []) F (c_X_byBytes l D cL cB cI x0 k0 t0 p0 b0 r0 cnt n po fi la d o f dt 0 cnt hn hp hfi hf hd (Nat.zero_le _) hc5) k_X_byBytes ml_X_93 ⟨rfl, rfl, by decide, by decide⟩ hK hP hS (hP.sub [0, 1, 2, 3] rfl) rfl rfl rfl rfl hl.1 rfl (Nat.le_of_ble_eq_true rfl) d_X_check_48 ⟨Nat.le_of_ble_eq_true rfl, Nat.le_of_ble_eq_true rfl⟩ (fun H locs hP hS => ?_)
    refine tpl (z := (lB (s_check n po fi la d o dt cnt 1))) rfl ?_
    exact hret _ _ _ _ _ rf d_X_check_51 rfl (hP.sub [0, 1, 2, 3, 4] rfl) (hD.sub [0, 1, 2, 3, 4] (by decide) rfl) hS
  by_cases hs2 : wy = 2
  · subst hs2
    refine lv_tableIn (x := 2) (off := 51) (tgt := 52) hx hb d_X_check_1 (by decide) (by decide) rfl (by decide) ?_
    refine lv_aload_n hx hb d_X_check_52 rfl (lv_at hl 0 rfl) ?_
    refine lv_iconst (v := nI 0) hx hb d_X_check_53 (by decide) ?_
    refine lv_aload_n hx hb d_X_check_54 rfl (lv_at hl 0 rfl) ?_
    refine gf_X_41 (v := .int (nI cnt)) F hK hP 0 rfl rfl d_X_check_55 ?_
    refine roVL (rest := []) F (c_X_bySlices l D cL cB cI x0 k0 t0 p0 b0 r0 cnt n po fi la d o f dt 0 cnt hn hp hfi hf hd (Nat.zero_le _) hc5) k_X_bySlices ml_X_96 ⟨rfl, rfl, by decide, by decide⟩ hK hP hS (hP.sub [0, 1, 2, 3] rfl) rfl rfl rfl rfl hl.1 rfl (Nat.le_of_ble_eq_true rfl) d_X_check_58 ⟨Nat.le_of_ble_eq_true rfl, Nat.le_of_ble_eq_true rfl⟩ (fun H locs hP hS => ?_)
    refine tpl (z := (lB (s_check n po fi la d o dt cnt 2))) rfl ?_
    exact hret _ _ _ _ _ rf d_X_check_61 rfl (hP.sub [0, 1, 2, 3, 4] rfl) (hD.sub [0, 1, 2, 3, 4] (by decide) rfl) hS
  by_cases hs3 : wy = 3
  · subst hs3
    refine lv_tableIn (x := 3) (off := 61) (tgt := 62) hx hb d_X_check_1 (by decide) (by decide) rfl (by decide) ?_
    refine lv_aload_n hx hb d_X_check_62 rfl (lv_at hl 0 rfl) ?_
    refine kk_muL (wr := []) (run_muV (rest := []) F (c_X_byDividing l D cL cB cI x0 k0 t0 p0 b0 r0 cnt n po fi la d o f dt rf _ hn hp hfi hd hc5) k_X_byDividing ml_X_99 ⟨rfl, rfl, by decide, by decide⟩ hK (hP.sub [0, 1, 2, 3, 4] rfl) (hD.sub [0, 1, 2, 3, 4] (by decide) rfl) rfl rfl rfl rfl hl.1 rfl (Nat.le_of_ble_eq_true rfl) d_X_check_63 ⟨Nat.le_of_ble_eq_true rfl, Nat.le_of_ble_eq_true rfl⟩) hS hP hD hA [0, 1, 2, 3, 4] [] rfl rfl (by decide) (by decide) (fun r rf H locs hw hP hD hS => ?_)
    have hP : va_P D classes [(x0, .inr (2, xf k0 p0 b0 r0 cnt)), (k0, .inr (0, kf n po fi la d o t0)), (t0, .inl (cL, 2048, .inr (.inl f))), (b0, .inl (cB, 5000, .inl (fun j => sb (dt j)))), (r0, .inl (cB, 40064, .inl rf))] H := hP
    have hD : va_D A [(x0, .inr (2, xf k0 p0 b0 r0 cnt)), (k0, .inr (0, kf n po fi la d o t0)), (t0, .inl (cL, 2048, .inr (.inl f))), (b0, .inl (cB, 5000, .inl (fun j => sb (dt j)))), (r0, .inl (cB, 40064, .inl rf))] := hD
    subst hw
    refine tpl (z := (lB (s_check n po fi la d o dt cnt 3))) rfl ?_
    exact hret _ _ _ _ _ rf d_X_check_66 rfl (hP.sub [0, 1, 2, 3, 4] rfl) (hD.sub [0, 1, 2, 3, 4] (by decide) rfl) hS
  refine lv_tableOut (tgt := 67) hx hb d_X_check_1 (sw4 hs0 hs1 hs2 hs3) (by decide) ?_
  refine lv_lconst (v := lB 0#64) hx hb d_X_check_67 rfl ?_
  refine tpl (z := (lB (s_check n po fi la d o dt cnt wy))) (congrArg lB (check_out hs0 hs1 hs2 hs3)) ?_
  exact hret _ _ _ _ _ rf d_X_check_68 rfl (hP.sub [0, 1, 2, 3, 4] rfl) (hD.sub [0, 1, 2, 3, 4] (by decide) rfl) hS
end
section
theorem part_no1 {n : Nat} {po fi la : BitVec 64} {d o : Bool} {dt : Nat → Nat} {cnt : Nat} {fr to : Int32} (h : q_in fr (nI 0) (nI cnt) = false) : 0#64 = s_part n po fi la d o dt cnt fr to := by
  unfold s_part
  rcases in_no h with h | h
  · rw [if_pos (show fr < 0 from h)]
  · by_cases h1 : fr < 0
    · rw [if_pos h1]
    · rw [if_neg h1]
      by_cases h2 : to < fr
      · rw [if_pos h2]
      · rw [if_neg h2, if_neg]
        intro q
        rw [Int32.lt_iff_toInt_lt] at h h2
        rw [Int32.le_iff_toInt_le] at q
        omega
theorem part_no2 {n : Nat} {po fi la : BitVec 64} {d o : Bool} {dt : Nat → Nat} {cnt : Nat} {fr to : Int32} (h : q_in to fr (nI cnt) = false) : 0#64 = s_part n po fi la d o dt cnt fr to := by
  unfold s_part
  by_cases h1 : fr < 0
  · rw [if_pos h1]
  · rw [if_neg h1]
    rcases in_no h with h | h
    · rw [if_pos h]
    · by_cases h2 : to < fr
      · rw [if_pos h2]
      · rw [if_neg h2, if_neg (fun q => le_ng q h)]
theorem part_ck {n : Nat} {po fi la : BitVec 64} {d o : Bool} {dt : Nat → Nat} {cnt a b : Nat} (hab : a ≤ b) (hb : b ≤ cnt) (hc : cnt ≤ 5000) : s_part n po fi la d o dt cnt (nI a) (nI b) = q_ck n po fi la d o dt a b := by
  unfold s_part
  rw [if_neg (nI_pos (by omega)), if_neg (nI_nlt hab (by omega)), if_pos (nI_le hb (by omega)), nI_clamp (by omega), nI_clamp (by omega)]
theorem entry_x {d : Bool} {n : Nat} (hn : 1 ≤ n ∧ n ≤ 64) {po : BitVec 64} (hp : q_M n po) {f : Nat → Int64} (hf : ∀ b, b < 2048 → f b = lB (q_tab d (q_sd d n po) b)) {k b : Nat} (hk : k ≤ 7) (hb : b ≤ 255) : q_li d n (f (256 * k + b)).toBitVec = q_xp n po (q_ob n po d 0#64 b 8) (8 * k) := by
  rw [hf _ (by omega), lB_bv, tab_at _ _ (by omega), tb_sd hn, li_sd hn]
  exact xp_M hn.2 hp (ob_M hn.2 hp M_0 8) _
theorem entry_no1 {n : Nat} {po : BitVec 64} {d : Bool} {k b : Int32} (h : q_in k (nI 0) (nI 7) = false) : 0#64 = s_entry n po d k b := by
  unfold s_entry
  rcases in_no h with h | h
  · rw [if_pos (show k < 0 from h)]
  · by_cases h1 : k < 0
    · rw [if_pos h1]
    · rw [if_neg h1, if_pos h]
theorem entry_no2 {n : Nat} {po : BitVec 64} {d : Bool} {k b : Int32} (h1 : ¬ k < 0) (h2 : ¬ nI 7 < k) (h : q_in b (nI 0) (nI 255) = false) : 0#64 = s_entry n po d k b := by
  unfold s_entry
  rw [if_neg h1, if_neg h2]
  rcases in_no h with h | h
  · rw [if_pos (show b < 0 from h)]
  · by_cases h1 : b < 0
    · rw [if_pos h1]
    · rw [if_neg h1, if_pos h]
theorem entry_yes {n : Nat} {po : BitVec 64} {d : Bool} {k b : Nat} (hk : k ≤ 7) (hb : b ≤ 255) : s_entry n po d (nI k) (nI b) = q_xp n po (q_ob n po d 0#64 b 8) (8 * k) := by
  unfold s_entry
  rw [if_neg (nI_pos (by omega)), if_neg (nI_nlt hk (by omega)), if_neg (nI_pos (by omega)), if_neg (nI_nlt hb (by omega)), nI_clamp (by omega), nI_clamp (by omega)]
theorem zeros_no {n : Nat} {po R : BitVec 64} {bits : Int32} (h : q_in bits (nI 0) (nI 1000000) = false) : 0#64 = s_zeros n po R bits := by
  unfold s_zeros
  rcases in_no h with h | h
  · rw [if_pos (show bits < 0 from h)]
  · by_cases h1 : bits < 0
    · rw [if_pos h1]
    · rw [if_neg h1, if_neg (fun q => le_ng q h)]
theorem zeros_yes {n : Nat} {po R : BitVec 64} {k : Nat} (hk : k ≤ 1000000) : s_zeros n po R (nI k) = q_xp n po (R &&& q_mk n) k := by
  unfold s_zeros
  rw [if_neg (nI_pos (by omega)), if_pos (nI_le hk (by decide)), nI_clamp (by omega)]
theorem sd_inj {d : Bool} {n : Nat} (hn : 1 ≤ n ∧ n ≤ 64) {a b : BitVec 64} (ha : q_M n a) (hb : q_M n b) (h : q_sd d n a = q_sd d n b) : a = b := by
  have := congrArg (q_li d n) h
  rw [li_sd hn, li_sd hn, show a &&& q_mk n = a from ha, show b &&& q_mk n = b from hb] at this
  exact this
theorem sh_xp {d : Bool} {n : Nat} (hn : 1 ≤ n ∧ n ≤ 64) {po : BitVec 64} {i : Nat} : q_sh d (q_sd d n po) (q_sd d n (q_xp n po 1#64 i)) 0 1 = q_sd d n (q_xp n po 1#64 (i + 1)) := by
  rw [sh_sd hn, ob_0]; rfl
theorem joined_ck {n : Nat} (hn : n ≤ 64) {po fi la : BitVec 64} (hp : q_M n po) (hfi : q_M n fi) (hla : q_M n la) {d o : Bool} {dt : Nat → Nat} {k cnt : Nat} (hk : k ≤ cnt) (hc : cnt ≤ 5000) : s_joined n po fi la o (q_ck n po fi la d o dt 0 k) (q_ck n po fi la d o dt k cnt) (nI (cnt - k)) = q_ck n po fi la d o dt 0 cnt := by
  unfold s_joined
  rw [if_neg (nI_pos (by omega)), nI_clamp (by omega), jn_ck hn hp hfi hla hk]
set_option maxHeartbeats 4000000 in
set_option maxRecDepth 100000 in
theorem c_X_part (l : Launch) (D : va_G) (cL cB cI : ClassId) (x0 k0 t0 p0 b0 r0 cnt n : Nat) (po fi la : BitVec 64) (d o : Bool) (f : Nat → Int64) (dt : Nat → Nat) (fr to : Int32) (hn : 1 ≤ n ∧ n ≤ 64) (hp : q_M n po) (hfi : q_M n fi) (hf : ∀ b, b < 2048 → f b = lB (q_tab d (q_sd d n po) b)) (hd : ∀ j, dt j < 256) (hc5 : cnt ≤ 5000) : Met l y_X_part (Cond.code y_X_part b_X_part 3 (some .long) :: g_tbl) (rmO 6 135) (RoP D cL cB cI [(x0, .inr (2, xf k0 p0 b0 r0 cnt)), (k0, .inr (0, kf n po fi la d o t0)), (t0, .inl (cL, 2048, .inr (.inl f))), (b0, .inl (cB, 5000, .inl (fun j => sb (dt j))))] [.ref x0, .int fr, .int to]) (RoL (lB (s_part n po fi la d o dt cnt fr to))) 0 0 (fun _ => False) := by
  refine ro_startL (by decide) (Nat.le_of_ble_eq_true rfl) ?_
  intro p e s m below meth c ls Q F hP hK hl hret
  have hx := F.1
  have hb := F.2.1
  have hown := F.2.2.2.1
  have hT := F.2.2.2.2
  have hS : va_S (fun _ => False) s.heap s.heap [] := va_S.rf
  have hl : lv_has ls 3 [(0, .ref x0), (1, .int fr), (2, .int to)] := hl
  refine lv_iload_n hx hb d_X_part_0 rfl (lv_at hl 1 rfl) ?_
  refine lv_iconst (v := nI 0) hx hb d_X_part_1 (by decide) ?_
  refine lv_aload_n hx hb d_X_part_2 rfl (lv_at hl 0 rfl) ?_
  refine gf_X_41 (v := .int (nI cnt)) F hK hP 0 rfl rfl d_X_part_3 ?_
  refine roSI (rest := []) F (c_X_within l D cL cB cI fr (nI 0) (nI cnt)) k_X_within ml_X_37 ⟨rfl, rfl, by decide, by decide⟩ hK hP hS (hP.sub [] rfl) rfl hl.1 rfl (Nat.le_of_ble_eq_true rfl) d_X_part_6 ⟨Nat.zero_le _, Nat.zero_le _⟩ (fun H locs hP hS => ?_)
  refine bz_ifeq (b := (q_in fr (nI 0) (nI cnt))) (tgt := 33) hx hb d_X_part_9 (by decide) (fun hc => ?_) (fun hc => ?_)
  · refine lv_lconst (v := lB 0#64) hx hb d_X_part_33 rfl ?_
    refine tpl (z := (lB (s_part n po fi la d o dt cnt fr to))) (congrArg lB (part_no1 hc)) ?_
    exact hret _ _ _ _ d_X_part_34 hS
  · refine lv_iload_n hx hb d_X_part_12 rfl (lv_at hl 2 rfl) ?_
    refine lv_iload_n hx hb d_X_part_13 rfl (lv_at hl 1 rfl) ?_
    refine lv_aload_n hx hb d_X_part_14 rfl (lv_at hl 0 rfl) ?_
    refine gf_X_41 (v := .int (nI cnt)) F hK hP 0 rfl rfl d_X_part_15 ?_
    refine roSI (rest := []) F (c_X_within l D cL cB cI to fr (nI cnt)) k_X_within ml_X_37 ⟨rfl, rfl, by decide, by decide⟩ hK hP hS (hP.sub [] rfl) rfl hl.1 rfl (Nat.le_of_ble_eq_true rfl) d_X_part_18 ⟨Nat.zero_le _, Nat.zero_le _⟩ (fun H locs hP hS => ?_)
    refine bz_ifeq (b := (q_in to fr (nI cnt))) (tgt := 33) hx hb d_X_part_21 (by decide) (fun hc2 => ?_) (fun hc2 => ?_)
    · refine lv_lconst (v := lB 0#64) hx hb d_X_part_33 rfl ?_
      refine tpl (z := (lB (s_part n po fi la d o dt cnt fr to))) (congrArg lB (part_no2 hc2)) ?_
      exact hret _ _ _ _ d_X_part_34 hS
    · obtain ⟨a, ha, rfl⟩ := nI_of (x := fr) (in_yes hc).1
      have hab0 := (in_yes hc2).1
      obtain ⟨b, hb4, rfl⟩ := nI_of (x := to) (fun q => hab0 (Int32.lt_of_lt_of_le q (nI_pos' ha)))
      have hb5 := Nat.not_lt.mp (fun q => (in_yes hc2).2 ((nI_ltI (by omega) hb4).mpr q))
      have hab := Nat.not_lt.mp (fun q => hab0 ((nI_ltI hb4 ha).mpr q))
      refine lv_aload_n hx hb d_X_part_24 rfl (lv_at hl 0 rfl) ?_
      refine lv_iload_n hx hb d_X_part_25 rfl (lv_at hl 1 rfl) ?_
      refine lv_iload_n hx hb d_X_part_26 rfl (lv_at hl 2 rfl) ?_
      refine roVL (rest := []) F (c_X_bySlices l D cL cB cI x0 k0 t0 p0 b0 r0 cnt n po fi la d o f dt a b hn hp hfi hf hd hab (by omega)) k_X_bySlices ml_X_96 ⟨rfl, rfl, by decide, by decide⟩ hK hP hS (hP.sub [0, 1, 2, 3] rfl) rfl rfl rfl rfl hl.1 rfl (Nat.le_of_ble_eq_true rfl) d_X_part_27 ⟨Nat.zero_le _, Nat.zero_le _⟩ (fun H locs hP hS => ?_)
      refine lv_goto (tgt := 34) hx hb d_X_part_30 (by decide) ?_
      refine tpl (z := (lB (s_part n po fi la d o dt cnt (nI a) (nI b)))) (congrArg lB (part_ck hab hb5 hc5).symm) ?_
      exact hret _ _ _ _ d_X_part_34 hS

set_option maxHeartbeats 4000000 in
set_option maxRecDepth 100000 in
theorem c_X_entry (l : Launch) (D : va_G) (cL cB cI : ClassId) (x0 k0 t0 p0 b0 r0 cnt n : Nat) (po fi la : BitVec 64) (d o : Bool) (f : Nat → Int64) (kk bb : Int32) (hn : 1 ≤ n ∧ n ≤ 64) (hp : q_M n po) (hf : ∀ b, b < 2048 → f b = lB (q_tab d (q_sd d n po) b)) : Met l y_X_entry (Cond.code y_X_entry b_X_entry 3 (some .long) :: g_tbl) (rmO 4 86) (RoP D cL cB cI [(x0, .inr (2, xf k0 p0 b0 r0 cnt)), (k0, .inr (0, kf n po fi la d o t0)), (t0, .inl (cL, 2048, .inr (.inl f)))] [.ref x0, .int kk, .int bb]) (RoL (lB (s_entry n po d kk bb))) 0 0 (fun _ => False) := by
  refine ro_startL (by decide) (Nat.le_of_ble_eq_true rfl) ?_
  intro p e s m below meth c ls Q F hP hK hl hret
  have hx := F.1
  have hb := F.2.1
  have hown := F.2.2.2.1
  have hT := F.2.2.2.2
  have hS : va_S (fun _ => False) s.heap s.heap [] := va_S.rf
  have hl : lv_has ls 3 [(0, .ref x0), (1, .int kk), (2, .int bb)] := hl
  refine lv_iload_n hx hb d_X_entry_0 rfl (lv_at hl 1 rfl) ?_
  refine lv_iconst (v := nI 0) hx hb d_X_entry_1 (by decide) ?_
  refine lv_bipush (v := nI 7) hx hb d_X_entry_2 (by decide) ?_
  refine roSI (rest := []) F (c_X_within l D cL cB cI kk (nI 0) (nI 7)) k_X_within ml_X_37 ⟨rfl, rfl, by decide, by decide⟩ hK hP hS (hP.sub [] rfl) rfl hl.1 rfl (Nat.le_of_ble_eq_true rfl) d_X_entry_4 ⟨Nat.zero_le _, Nat.zero_le _⟩ (fun H locs hP hS => ?_)
  refine bz_ifeq (b := (q_in kk (nI 0) (nI 7))) (tgt := 46) hx hb d_X_entry_7 (by decide) (fun hc => ?_) (fun hc => ?_)
  · refine lv_lconst (v := lB 0#64) hx hb d_X_entry_46 rfl ?_
    refine tpl (z := (lB (s_entry n po d kk bb))) (congrArg lB (entry_no1 hc)) ?_
    exact hret _ _ _ _ d_X_entry_47 hS
  · refine lv_iload_n hx hb d_X_entry_10 rfl (lv_at hl 2 rfl) ?_
    refine lv_iconst (v := nI 0) hx hb d_X_entry_11 (by decide) ?_
    refine lv_sipush (v := nI 255) hx hb d_X_entry_12 (by decide) ?_
    refine roSI (rest := []) F (c_X_within l D cL cB cI bb (nI 0) (nI 255)) k_X_within ml_X_37 ⟨rfl, rfl, by decide, by decide⟩ hK hP hS (hP.sub [] rfl) rfl hl.1 rfl (Nat.le_of_ble_eq_true rfl) d_X_entry_15 ⟨Nat.zero_le _, Nat.zero_le _⟩ (fun H locs hP hS => ?_)
    refine bz_ifeq (b := (q_in bb (nI 0) (nI 255))) (tgt := 46) hx hb d_X_entry_18 (by decide) (fun hc2 => ?_) (fun hc2 => ?_)
    · refine lv_lconst (v := lB 0#64) hx hb d_X_entry_46 rfl ?_
      refine tpl (z := (lB (s_entry n po d kk bb))) (congrArg lB (entry_no2 (in_yes hc).1 (in_yes hc).2 hc2)) ?_
      exact hret _ _ _ _ d_X_entry_47 hS
    · obtain ⟨k, hk, rfl⟩ := nI_of_le (x := kk) (in_yes hc).1 (by decide) (in_yes hc).2
      obtain ⟨b, hb4, rfl⟩ := nI_of_le (x := bb) (in_yes hc2).1 (by decide) (in_yes hc2).2
      refine lv_aload_n hx hb d_X_entry_21 rfl (lv_at hl 0 rfl) ?_
      refine gf_X_16 (v := .ref k0) F hK hP 0 rfl rfl d_X_entry_22 ?_
      refine lv_aload_n hx hb d_X_entry_25 rfl (lv_at hl 0 rfl) ?_
      refine gf_X_16 (v := .ref k0) F hK hP 0 rfl rfl d_X_entry_26 ?_
      refine gf_X_115 (v := .ref t0) F hK hP 1 rfl rfl d_X_entry_29 ?_
      refine lv_sipush (v := nI 256) hx hb d_X_entry_32 (by decide) ?_
      refine lv_iload_n hx hb d_X_entry_35 rfl (lv_at hl 1 rfl) ?_
      refine nt_imul (x := 256) hx hb d_X_entry_36 ?_
      refine lv_iload_n hx hb d_X_entry_37 rfl (lv_at hl 2 rfl) ?_
      refine nt_iadd (x := (256 * k)) hx hb d_X_entry_38 ?_
      refine nt_lald (j := ((256 * k) + b)) hx hb hK hP 2 rfl (by omega) (by decide) d_X_entry_39 ?_
      refine roVL (rest := []) F (c_K_lie l D cL cB cI k0 t0 n po fi la d o (f (256 * k + b)).toBitVec hn) k_K_lie ml_X_106 ⟨rfl, rfl, by decide, by decide⟩ hK hP hS (hP.sub [1] rfl) rfl rfl rfl rfl hl.1 rfl (Nat.le_of_ble_eq_true rfl) d_X_entry_40 ⟨Nat.zero_le _, Nat.zero_le _⟩ (fun H locs hP hS => ?_)
      refine lv_goto (tgt := 47) hx hb d_X_entry_43 (by decide) ?_
      refine tpl (z := (lB (s_entry n po d (nI k) (nI b)))) (congrArg lB ((entry_x hn hp hf hk hb4).trans (entry_yes hk hb4).symm)) ?_
      exact hret _ _ _ _ d_X_entry_47 hS

set_option maxHeartbeats 4000000 in
set_option maxRecDepth 100000 in
theorem c_X_round (l : Launch) (D : va_G) (cL cB cI : ClassId) (x0 k0 t0 p0 b0 r0 cnt n : Nat) (po fi la : BitVec 64) (d o : Bool) (hn : 1 ≤ n ∧ n ≤ 64) (hp : q_M n po) : Met l y_X_round (Cond.code y_X_round b_X_round 6 (some .int) :: g_tbl) (rmO 5 116) (RoP D cL cB cI [(x0, .inr (2, xf k0 p0 b0 r0 cnt)), (k0, .inr (0, kf n po fi la d o t0))] [.ref x0]) (RoI (q_ro n po 1 4096)) 0 0 (fun _ => False) := by
  refine ro_startI (by decide) (Nat.le_of_ble_eq_true rfl) ?_
  intro p e s m below meth c ls Q F hP hK hl hret
  have hx := F.1
  have hb := F.2.1
  have hown := F.2.2.2.1
  have hT := F.2.2.2.2
  have hS : va_S (fun _ => False) s.heap s.heap [] := va_S.rf
  have hl : lv_has ls 6 [(0, .ref x0)] := hl
  refine lv_aload_n hx hb d_X_round_0 rfl (lv_at hl 0 rfl) ?_
  refine gf_X_16 (v := .ref k0) F hK hP 0 rfl rfl d_X_round_1 ?_
  refine lv_lconst (v := lB 1#64) hx hb d_X_round_4 rfl ?_
  refine roVL (rest := []) F (c_K_stand l D cL cB cI k0 t0 n po fi la d o 1#64 hn) k_K_stand ml_X_57 ⟨rfl, rfl, by decide, by decide⟩ hK hP hS (hP.sub [1] rfl) rfl rfl rfl rfl hl.1 rfl (Nat.le_of_ble_eq_true rfl) d_X_round_5 ⟨Nat.zero_le _, Nat.zero_le _⟩ (fun H locs hP hS => ?_)
  refine lv_lstore_n (lv' := [(1, .long (lB (q_sd d n 1#64))), (0, .ref x0)]) hx hb d_X_round_8 rfl hl (by decide) rfl (fun ls hl => ?_)
  refine lv_lload_n hx hb d_X_round_9 rfl (lv_at hl 0 rfl) ?_
  refine lv_lstore_n (lv' := [(3, .long (lB (q_sd d n 1#64))), (1, .long (lB (q_sd d n 1#64))), (0, .ref x0)]) hx hb d_X_round_10 rfl hl (by decide) rfl (fun ls hl => ?_)
  refine lv_iconst (v := nI 1) hx hb d_X_round_11 (by decide) ?_
  refine lv_istore (lv' := [(5, .int (nI 1)), (3, .long (lB (q_sd d n 1#64))), (1, .long (lB (q_sd d n 1#64))), (0, .ref x0)]) hx hb d_X_round_12 hl (by decide) rfl (fun ls hl => ?_)
  have loop14 : ∀ (j i : Nat), i + j = 4096 → q_ro n po (i + 1) j = q_ro n po 1 4096 → ∀ (ls : Array Slot) (H : Heap) (locs : List Loc), va_P D classes [(x0, .inr (2, xf k0 p0 b0 r0 cnt)), (k0, .inr (0, kf n po fi la d o t0))] H → va_S (fun _ => False) s.heap H locs → lv_has ls 6 [(0, .ref x0), (1, .long (lB (q_sd d n (q_xp n po 1#64 i)))), (3, .long (lB (q_sd d n 1#64))), (5, .int (nI (i + 1)))] → W p l e (rmO 5 116) s m ([.ref x0] : List Value).toArray below meth c H locs 0 0 Q (F0 m 14 ls []) := by
    intro j
    induction j with
    | zero =>
      intro i hij hz ls H locs hP hS hl
      refine lv_iload hx hb d_X_round_14 (lv_at hl 3 rfl) ?_
      refine lv_sipush (v := nI 4096) hx hb d_X_round_16 (by decide) ?_
      refine nt_icmp_gt (a := (i + 1)) (b := 4096) (tgt := 48) hx hb (by omega) (by omega) d_X_round_19 (by decide) (fun hc => ?_) (fun hc => absurd hc (by omega))
      refine lv_iconst (v := (-1)) hx hb d_X_round_48 (by decide) ?_
      refine tpi (z := (q_ro n po 1 4096)) hz ?_
      exact hret _ _ _ _ d_X_round_49 hS
    | succ j ih =>
      intro i hij hz ls H locs hP hS hl
      refine lv_iload hx hb d_X_round_14 (lv_at hl 3 rfl) ?_
      refine lv_sipush (v := nI 4096) hx hb d_X_round_16 (by decide) ?_
      refine nt_icmp_gt (a := (i + 1)) (b := 4096) (tgt := 48) hx hb (by omega) (by omega) d_X_round_19 (by decide) (fun hc => absurd hc (by omega)) (fun hc => ?_)
      refine lv_aload_n hx hb d_X_round_22 rfl (lv_at hl 0 rfl) ?_
      refine gf_X_16 (v := .ref k0) F hK hP 0 rfl rfl d_X_round_23 ?_
      refine lv_lload_n hx hb d_X_round_26 rfl (lv_at hl 1 rfl) ?_
      refine lv_iconst (v := nI 0) hx hb d_X_round_27 (by decide) ?_
      refine lv_iconst (v := nI 1) hx hb d_X_round_28 (by decide) ?_
      refine roVL (rest := []) F (c_K_shift l D cL cB cI k0 t0 n po fi la d o (q_sd d n (q_xp n po 1#64 i)) 0 1 hn (by decide) (by decide)) k_K_shift ml_X_61 ⟨rfl, rfl, by decide, by decide⟩ hK hP hS (hP.sub [1] rfl) rfl rfl rfl rfl hl.1 rfl (Nat.le_of_ble_eq_true rfl) d_X_round_29 ⟨Nat.zero_le _, Nat.zero_le _⟩ (fun H locs hP hS => ?_)
      refine tpl (z := (lB (q_sd d n (q_xp n po 1#64 (i + 1))))) (congrArg lB (sh_xp hn)) ?_
      refine lv_lstore_n (lv' := [(1, .long (lB (q_sd d n (q_xp n po 1#64 (i + 1))))), (0, .ref x0), (3, .long (lB (q_sd d n 1#64))), (5, .int (nI (i + 1)))]) hx hb d_X_round_32 rfl hl (by decide) rfl (fun ls hl => ?_)
      refine lv_lload_n hx hb d_X_round_33 rfl (lv_at hl 0 rfl) ?_
      refine lv_lload_n hx hb d_X_round_34 rfl (lv_at hl 2 rfl) ?_
      refine bl_ne (a := (q_sd d n (q_xp n po 1#64 (i + 1)))) (b := (q_sd d n 1#64)) (tgt := 42) hx hb d_X_round_35 d_X_round_36 (by decide) (fun hc2 => ?_) (fun hc2 => ?_)
      · refine lv_iinc (v := (nI (i + 1 + 1))) (lv' := [(5, .int (nI (i + 1 + 1))), (1, .long (lB (q_sd d n (q_xp n po 1#64 (i + 1))))), (0, .ref x0), (3, .long (lB (q_sd d n 1#64)))]) hx hb d_X_round_42 hl (k := 3) rfl (nI_inc1 _) (by decide) rfl (fun ls hl => ?_)
        refine lv_goto (tgt := 14) hx hb d_X_round_45 (by decide) ?_
        exact ih (i + 1) (by omega) (by rw [← hz]; exact (if_neg (fun q => hc2 (congrArg (q_sd d n) q))).symm) ls H locs hP hS (lv_sub hl [2, 1, 3, 0] rfl)
      · refine lv_iload hx hb d_X_round_39 (lv_at hl 3 rfl) ?_
        refine tpi (z := (q_ro n po 1 4096)) (by rw [← hz]; exact (if_pos (sd_inj hn (xp_M hn.2 hp (one_M hn) _) (one_M hn) hc2)).symm) ?_
        exact hret _ _ _ _ d_X_round_41 hS
  exact loop14 (4096) 0 (by omega) rfl ls H locs hP hS (lv_sub hl [3, 2, 1, 0] rfl)

set_option maxHeartbeats 4000000 in
set_option maxRecDepth 100000 in
theorem c_X_count (l : Launch) (D : va_G) (cL cB cI : ClassId) (x0 k0 t0 p0 b0 r0 cnt n : Nat) (po fi la : BitVec 64) (d o : Bool) (wh : Int32)  : Met l y_X_count (Cond.code y_X_count b_X_count 2 (some .int) :: g_tbl) (rmO 0 0) (RoP D cL cB cI [(x0, .inr (2, xf k0 p0 b0 r0 cnt)), (k0, .inr (0, kf n po fi la d o t0))] [.ref x0, .int wh]) (RoI (s_count cnt n d o wh)) 0 0 (fun _ => False) := by
  refine ro_startI (by decide) (Nat.le_of_ble_eq_true rfl) ?_
  intro p e s m below meth c ls Q F hP hK hl hret
  have hx := F.1
  have hb := F.2.1
  have hown := F.2.2.2.1
  have hT := F.2.2.2.2
  have hS : va_S (fun _ => False) s.heap s.heap [] := va_S.rf
  have hl : lv_has ls 2 [(0, .ref x0), (1, .int wh)] := hl
  refine lv_iload_n hx hb d_X_count_0 rfl (lv_at hl 1 rfl) ?_
  by_cases hs0 : wh = 0
  · subst hs0
    refine lv_tableIn (x := 0) (off := 31) (tgt := 32) hx hb d_X_count_1 (by decide) (by decide) rfl (by decide) ?_
    refine lv_aload_n hx hb d_X_count_32 rfl (lv_at hl 0 rfl) ?_
    refine gf_X_41 (v := .int (nI cnt)) F hK hP 0 rfl rfl d_X_count_33 ?_
    refine tpi (z := (s_count cnt n d o 0)) rfl ?_
    exact hret _ _ _ _ d_X_count_36 hS
  by_cases hs1 : wh = 1
  · subst hs1
    refine lv_tableIn (x := 1) (off := 36) (tgt := 37) hx hb d_X_count_1 (by decide) (by decide) rfl (by decide) ?_
    refine lv_aload_n hx hb d_X_count_37 rfl (lv_at hl 0 rfl) ?_
    refine gf_X_16 (v := .ref k0) F hK hP 0 rfl rfl d_X_count_38 ?_
    refine gf_X_80 (v := .int (nI n)) F hK hP 1 rfl rfl d_X_count_41 ?_
    refine tpi (z := (s_count cnt n d o 1)) rfl ?_
    exact hret _ _ _ _ d_X_count_44 hS
  by_cases hs2 : wh = 2
  · subst hs2
    refine lv_tableIn (x := 2) (off := 44) (tgt := 45) hx hb d_X_count_1 (by decide) (by decide) rfl (by decide) ?_
    refine lv_aload_n hx hb d_X_count_45 rfl (lv_at hl 0 rfl) ?_
    refine gf_X_16 (v := .ref k0) F hK hP 0 rfl rfl d_X_count_46 ?_
    refine gf_X_45 (v := .int (bz d)) F hK hP 1 rfl rfl d_X_count_49 ?_
    refine bz_ifeq (b := d) (tgt := 59) hx hb d_X_count_52 (by decide) (fun hc => ?_) (fun hc => ?_)
    · subst hc
      refine lv_iconst (v := nI 0) hx hb d_X_count_59 (by decide) ?_
      refine tpi (z := (s_count cnt n false o 2)) rfl ?_
      exact hret _ _ _ _ d_X_count_60 hS
    · subst hc
      refine lv_iconst (v := nI 1) hx hb d_X_count_55 (by decide) ?_
      refine lv_goto (tgt := 60) hx hb d_X_count_56 (by decide) ?_
      refine tpi (z := (s_count cnt n true o 2)) rfl ?_
      exact hret _ _ _ _ d_X_count_60 hS
  by_cases hs3 : wh = 3
  · subst hs3
    refine lv_tableIn (x := 3) (off := 60) (tgt := 61) hx hb d_X_count_1 (by decide) (by decide) rfl (by decide) ?_
    refine lv_aload_n hx hb d_X_count_61 rfl (lv_at hl 0 rfl) ?_
    refine gf_X_16 (v := .ref k0) F hK hP 0 rfl rfl d_X_count_62 ?_
    refine gf_X_130 (v := .int (bz o)) F hK hP 1 rfl rfl d_X_count_65 ?_
    refine bz_ifeq (b := o) (tgt := 75) hx hb d_X_count_68 (by decide) (fun hc => ?_) (fun hc => ?_)
    · subst hc
      refine lv_iconst (v := nI 0) hx hb d_X_count_75 (by decide) ?_
      refine tpi (z := (s_count cnt n d false 3)) rfl ?_
      exact hret _ _ _ _ d_X_count_76 hS
    · subst hc
      refine lv_iconst (v := nI 1) hx hb d_X_count_71 (by decide) ?_
      refine lv_goto (tgt := 76) hx hb d_X_count_72 (by decide) ?_
      refine tpi (z := (s_count cnt n d true 3)) rfl ?_
      exact hret _ _ _ _ d_X_count_76 hS
  refine lv_tableOut (tgt := 77) hx hb d_X_count_1 (sw4 hs0 hs1 hs2 hs3) (by decide) ?_
  refine lv_iconst (v := (-1)) hx hb d_X_count_77 (by decide) ?_
  refine tpi (z := (s_count cnt n d o wh)) (by rw [s_count, if_neg hs0, if_neg hs1, if_neg hs2, if_neg hs3]) ?_
  exact hret _ _ _ _ d_X_count_78 hS

set_option maxHeartbeats 4000000 in
set_option maxRecDepth 100000 in
theorem c_X_told (l : Launch) (D : va_G) (cL cB cI : ClassId) (x0 k0 t0 p0 b0 r0 cnt n : Nat) (po fi la : BitVec 64) (d o : Bool) (wh : Int32)  : Met l y_X_told (Cond.code y_X_told b_X_told 2 (some .long) :: g_tbl) (rmO 0 0) (RoP D cL cB cI [(x0, .inr (2, xf k0 p0 b0 r0 cnt)), (k0, .inr (0, kf n po fi la d o t0))] [.ref x0, .int wh]) (RoL (lB (s_told po fi la wh))) 0 0 (fun _ => False) := by
  refine ro_startL (by decide) (Nat.le_of_ble_eq_true rfl) ?_
  intro p e s m below meth c ls Q F hP hK hl hret
  have hx := F.1
  have hb := F.2.1
  have hown := F.2.2.2.1
  have hT := F.2.2.2.2
  have hS : va_S (fun _ => False) s.heap s.heap [] := va_S.rf
  have hl : lv_has ls 2 [(0, .ref x0), (1, .int wh)] := hl
  refine lv_iload_n hx hb d_X_told_0 rfl (lv_at hl 1 rfl) ?_
  refine lv_if_ne (tgt := 14) hx hb d_X_told_1 (by decide) (fun hc => ?_) (fun hc => ?_)
  · refine lv_iload_n hx hb d_X_told_14 rfl (lv_at hl 1 rfl) ?_
    refine lv_iconst (v := nI 1) hx hb d_X_told_15 (by decide) ?_
    refine lv_icmp_ne (tgt := 29) hx hb d_X_told_16 (by decide) (fun hc2 => ?_) (fun hc2 => ?_)
    · refine lv_iload_n hx hb d_X_told_29 rfl (lv_at hl 1 rfl) ?_
      refine lv_iconst (v := nI 2) hx hb d_X_told_30 (by decide) ?_
      refine lv_icmp_ne (tgt := 44) hx hb d_X_told_31 (by decide) (fun hc3 => ?_) (fun hc3 => ?_)
      · refine lv_lconst (v := lB 0#64) hx hb d_X_told_44 rfl ?_
        refine tpl (z := (lB (s_told po fi la wh))) (by rw [s_told, if_neg hc, if_neg (show ¬ wh = 1 from hc2), if_neg (show ¬ wh = 2 from hc3)]) ?_
        exact hret _ _ _ _ d_X_told_45 hS
      · refine lv_aload_n hx hb d_X_told_34 rfl (lv_at hl 0 rfl) ?_
        refine gf_X_16 (v := .ref k0) F hK hP 0 rfl rfl d_X_told_35 ?_
        refine gf_X_133 (v := .long (lB la)) F hK hP 1 rfl rfl d_X_told_38 ?_
        refine lv_goto (tgt := 45) hx hb d_X_told_41 (by decide) ?_
        refine tpl (z := (lB (s_told po fi la wh))) (by rw [s_told, if_neg hc, if_neg (show ¬ wh = 1 from hc2), if_pos (show wh = 2 from hc3)]) ?_
        exact hret _ _ _ _ d_X_told_45 hS
    · refine lv_aload_n hx hb d_X_told_19 rfl (lv_at hl 0 rfl) ?_
      refine gf_X_16 (v := .ref k0) F hK hP 0 rfl rfl d_X_told_20 ?_
      refine gf_X_53 (v := .long (lB fi)) F hK hP 1 rfl rfl d_X_told_23 ?_
      refine lv_goto (tgt := 45) hx hb d_X_told_26 (by decide) ?_
      refine tpl (z := (lB (s_told po fi la wh))) (by rw [s_told, if_neg hc, if_pos (show wh = 1 from hc2)]) ?_
      exact hret _ _ _ _ d_X_told_45 hS
  · refine lv_aload_n hx hb d_X_told_4 rfl (lv_at hl 0 rfl) ?_
    refine gf_X_16 (v := .ref k0) F hK hP 0 rfl rfl d_X_told_5 ?_
    refine gf_X_86 (v := .long (lB po)) F hK hP 1 rfl rfl d_X_told_8 ?_
    refine lv_goto (tgt := 45) hx hb d_X_told_11 (by decide) ?_
    refine tpl (z := (lB (s_told po fi la wh))) (by rw [s_told, if_pos hc]) ?_
    exact hret _ _ _ _ d_X_told_45 hS

set_option maxHeartbeats 4000000 in
set_option maxRecDepth 100000 in
theorem c_X_joined (l : Launch) (D : va_G) (cL cB cI : ClassId) (x0 k0 t0 p0 b0 r0 cnt n : Nat) (po fi la : BitVec 64) (d o : Bool) (n0 s0 : Nat) (nf sf : Nat → Int64) (a b : BitVec 64) (nn : Int32) (sz : Nat) (hn : 1 ≤ n ∧ n ≤ 64) (hp : q_M n po) (hfi : q_M n fi) (hla : q_M n la) : Met l y_X_joined (Cond.code y_X_joined b_X_joined 10 (some .long) :: g_tbl) (rmA 6 0 0 146) (MuP D cL cB cI [(x0, .inr (2, xf k0 p0 b0 r0 cnt)), (k0, .inr (0, kf n po fi la d o t0)), (p0, .inr (1, [.ref n0, .ref s0])), (n0, .inl (cL, 64, .inr (.inl nf))), (s0, .inl (cL, 64, .inr (.inl sf)))] sz [.ref x0, .long (lB a), .long (lB b), .int nn]) (va_Ql (S := ((Nat → Int64) × (Nat → Int64))) (fun r _ => r = lB (s_joined n po fi la o a b nn)) (MuB D [(x0, .inr (2, xf k0 p0 b0 r0 cnt)), (k0, .inr (0, kf n po fi la d o t0)), (p0, .inr (1, [.ref n0, .ref s0])), (n0, .inl (cL, 64, .inr (.inl nf))), (s0, .inl (cL, 64, .inr (.inl sf)))] sz (fun u => match u with | (g, h) => [(x0, .inr (2, xf k0 p0 b0 r0 cnt)), (k0, .inr (0, kf n po fi la d o t0)), (p0, .inr (1, [.ref n0, .ref s0])), (n0, .inl (cL, 64, .inr (.inl g))), (s0, .inl (cL, 64, .inr (.inl h)))])) (va_A [(x0, .inr (2, xf k0 p0 b0 r0 cnt)), (k0, .inr (0, kf n po fi la d o t0)), (p0, .inr (1, [.ref n0, .ref s0])), (n0, .inl (cL, 64, .inr (.inl nf))), (s0, .inl (cL, 64, .inr (.inl sf)))] sz)) 0 0 (va_A [(x0, .inr (2, xf k0 p0 b0 r0 cnt)), (k0, .inr (0, kf n po fi la d o t0)), (p0, .inr (1, [.ref n0, .ref s0])), (n0, .inl (cL, 64, .inr (.inl nf))), (s0, .inl (cL, 64, .inr (.inl sf)))] sz) := by
  refine mu_startL sz (by decide) (Nat.le_of_ble_eq_true rfl) ?_
  intro p e s m below meth c ls Q A F hnm hP hK hD hA hl hret
  have hx := F.1
  have hb := F.2.1
  have hown := F.2.2.2.1
  have hT := F.2.2.2.2
  have hS : va_S A s.heap s.heap [] := va_S.rf
  have hl : lv_has ls 10 [(0, .ref x0), (1, .long (lB a)), (3, .long (lB b)), (5, .int nn)] := hl
  refine lv_iload hx hb d_X_joined_0 (lv_at hl 3 rfl) ?_
  refine lv_if_ge (tgt := 7) hx hb d_X_joined_2 (by decide) (fun hc => ?_) (fun hc => ?_)
  · obtain ⟨mm, hmm, rfl⟩ := nI_of (ge0 hc)
    refine lv_aload_n hx hb d_X_joined_7 rfl (lv_at hl 0 rfl) ?_
    refine gf_X_16 (v := .ref k0) F hK hP 0 rfl rfl d_X_joined_8 ?_
    refine lv_aload_n hx hb d_X_joined_11 rfl (lv_at hl 0 rfl) ?_
    refine gf_X_16 (v := .ref k0) F hK hP 0 rfl rfl d_X_joined_12 ?_
    refine lv_lload_n hx hb d_X_joined_15 rfl (lv_at hl 1 rfl) ?_
    refine roVL (rest := [.ref k0]) F (c_K_begin l D cL cB cI k0 t0 n po fi la d o a hn) k_K_begin ml_X_103 ⟨rfl, rfl, by decide, by decide⟩ hK hP hS (hP.sub [1] rfl) rfl rfl rfl rfl hl.1 rfl (Nat.le_of_ble_eq_true rfl) d_X_joined_16 ⟨Nat.le_of_ble_eq_true rfl, Nat.le_of_ble_eq_true rfl⟩ (fun H locs hP hS => ?_)
    refine roVL (rest := []) F (c_K_lie l D cL cB cI k0 t0 n po fi la d o (q_bg d o n la a) hn) k_K_lie ml_X_106 ⟨rfl, rfl, by decide, by decide⟩ hK hP hS (hP.sub [1] rfl) rfl rfl rfl rfl hl.1 rfl (Nat.le_of_ble_eq_true rfl) d_X_joined_19 ⟨Nat.le_of_ble_eq_true rfl, Nat.le_of_ble_eq_true rfl⟩ (fun H locs hP hS => ?_)
    refine tpl (z := (lB (q_rg n o la a))) (congrArg lB (li_bg hn hla a)) ?_
    refine lv_aload_n hx hb d_X_joined_22 rfl (lv_at hl 0 rfl) ?_
    refine gf_X_16 (v := .ref k0) F hK hP 0 rfl rfl d_X_joined_23 ?_
    refine gf_X_53 (v := .long (lB fi)) F hK hP 1 rfl rfl d_X_joined_26 ?_
    refine bv_lxor hx hb d_X_joined_29 ?_
    refine lv_lstore (lv' := [(6, .long (lB ((q_rg n o la a) ^^^ fi))), (0, .ref x0), (1, .long (lB a)), (3, .long (lB b)), (5, .int (nI mm))]) hx hb d_X_joined_30 hl (by decide) rfl (fun ls hl => ?_)
    refine lv_aload_n hx hb d_X_joined_32 rfl (lv_at hl 1 rfl) ?_
    refine gf_X_25 (v := .ref p0) F hK hP 0 rfl rfl d_X_joined_33 ?_
    refine lv_aload_n hx hb d_X_joined_36 rfl (lv_at hl 1 rfl) ?_
    refine gf_X_16 (v := .ref k0) F hK hP 0 rfl rfl d_X_joined_37 ?_
    refine lv_lload hx hb d_X_joined_40 (lv_at hl 0 rfl) ?_
    refine lv_ldc2 hx hb hown (hT _ cj_X_109) d_X_joined_42 ?_
    refine tpl (z := lB 8#64) (by decide) ?_
    refine lv_iload hx hb d_X_joined_45 (lv_at hl 4 rfl) ?_
    refine lv_i2l hx hb d_X_joined_47 rfl ?_
    refine lv_lmul hx hb d_X_joined_48 ?_
    refine tpl (z := (lN (8 * mm))) (ln_8 hmm) ?_
    refine kk_muL (wr := [(x0, .inr (2, xf k0 p0 b0 r0 cnt))]) (run_muV (rest := []) F (c_P_go l D cL cB cI p0 n0 s0 k0 t0 n po fi la d o nf sf (q_rg n o la a ^^^ fi) (8 * mm) _ hn hp (by omega)) k_P_go ml_X_111 ⟨rfl, rfl, by decide, by decide⟩ hK (hP.sub [2, 3, 4, 1] rfl) (hD.sub [2, 3, 4, 1] (by decide) rfl) rfl rfl rfl rfl hl.1 rfl (Nat.le_of_ble_eq_true rfl) d_X_joined_49 ⟨Nat.le_of_ble_eq_true rfl, Nat.le_of_ble_eq_true rfl⟩) hS hP hD hA [2, 3, 4, 1] [0] rfl rfl (by decide) (by decide) (fun r u H locs hw hP hD hS => ?_)
    obtain ⟨g, h⟩ := u
    subst hw
    have hP : va_P D classes [(x0, .inr (2, xf k0 p0 b0 r0 cnt)), (p0, .inr (1, [.ref n0, .ref s0])), (n0, .inl (cL, 64, .inr (.inl g))), (s0, .inl (cL, 64, .inr (.inl h))), (k0, .inr (0, kf n po fi la d o t0))] H := hP
    have hD : va_D A [(x0, .inr (2, xf k0 p0 b0 r0 cnt)), (p0, .inr (1, [.ref n0, .ref s0])), (n0, .inl (cL, 64, .inr (.inl g))), (s0, .inl (cL, 64, .inr (.inl h))), (k0, .inr (0, kf n po fi la d o t0))] := hD
    have hP := hP.sub (ws' := [(x0, .inr (2, xf k0 p0 b0 r0 cnt)), (k0, .inr (0, kf n po fi la d o t0)), (p0, .inr (1, [.ref n0, .ref s0])), (n0, .inl (cL, 64, .inr (.inl g))), (s0, .inl (cL, 64, .inr (.inl h)))]) [0, 4, 1, 2, 3] rfl
    have hD := hD.sub (ws' := [(x0, .inr (2, xf k0 p0 b0 r0 cnt)), (k0, .inr (0, kf n po fi la d o t0)), (p0, .inr (1, [.ref n0, .ref s0])), (n0, .inl (cL, 64, .inr (.inl g))), (s0, .inl (cL, 64, .inr (.inl h)))]) [0, 4, 1, 2, 3] (by decide) rfl
    refine lv_lstore (lv' := [(8, .long (lB (q_xp n po ((q_rg n o la a ^^^ fi) &&& q_mk n) (8 * mm)))), (6, .long (lB ((q_rg n o la a) ^^^ fi))), (0, .ref x0), (1, .long (lB a)), (3, .long (lB b)), (5, .int (nI mm))]) hx hb d_X_joined_52 hl (by decide) rfl (fun ls hl => ?_)
    refine lv_aload_n hx hb d_X_joined_54 rfl (lv_at hl 2 rfl) ?_
    refine gf_X_16 (v := .ref k0) F hK hP 0 rfl rfl d_X_joined_55 ?_
    refine lv_aload_n hx hb d_X_joined_58 rfl (lv_at hl 2 rfl) ?_
    refine gf_X_16 (v := .ref k0) F hK hP 0 rfl rfl d_X_joined_59 ?_
    refine lv_lload_n hx hb d_X_joined_62 rfl (lv_at hl 4 rfl) ?_
    refine roVL (rest := [.ref k0]) F (c_K_begin l D cL cB cI k0 t0 n po fi la d o b hn) k_K_begin ml_X_103 ⟨rfl, rfl, by decide, by decide⟩ hK hP hS (hP.sub [1] rfl) rfl rfl rfl rfl hl.1 rfl (Nat.le_of_ble_eq_true rfl) d_X_joined_63 ⟨Nat.le_of_ble_eq_true rfl, Nat.le_of_ble_eq_true rfl⟩ (fun H locs hP hS => ?_)
    refine lv_aload_n hx hb d_X_joined_66 rfl (lv_at hl 2 rfl) ?_
    refine gf_X_16 (v := .ref k0) F hK hP 0 rfl rfl d_X_joined_67 ?_
    refine lv_lload hx hb d_X_joined_70 (lv_at hl 0 rfl) ?_
    refine roVL (rest := [.long (lB (q_bg d o n la b)), .ref k0]) F (c_K_stand l D cL cB cI k0 t0 n po fi la d o (q_xp n po ((q_rg n o la a ^^^ fi) &&& q_mk n) (8 * mm)) hn) k_K_stand ml_X_57 ⟨rfl, rfl, by decide, by decide⟩ hK hP hS (hP.sub [1] rfl) rfl rfl rfl rfl hl.1 rfl (Nat.le_of_ble_eq_true rfl) d_X_joined_72 ⟨Nat.le_of_ble_eq_true rfl, Nat.le_of_ble_eq_true rfl⟩ (fun H locs hP hS => ?_)
    refine bv_lxor hx hb d_X_joined_75 ?_
    refine roVL (rest := []) F (c_K_finish l D cL cB cI k0 t0 n po fi la d o (q_bg d o n la b ^^^ q_sd d n (q_xp n po ((q_rg n o la a ^^^ fi) &&& q_mk n) (8 * mm))) hn) k_K_finish ml_X_65 ⟨rfl, rfl, by decide, by decide⟩ hK hP hS (hP.sub [1] rfl) rfl rfl rfl rfl hl.1 rfl (Nat.le_of_ble_eq_true rfl) d_X_joined_76 ⟨Nat.le_of_ble_eq_true rfl, Nat.le_of_ble_eq_true rfl⟩ (fun H locs hP hS => ?_)
    refine tpl (z := (lB (s_joined n po fi la o a b (nI mm)))) (by rw [s_joined, if_neg (ge0 hc), nI_clamp hmm, jn_x hn hp hfi hla]) ?_
    exact hret _ _ _ _ _ (g, h) d_X_joined_79 rfl (hP.sub [0, 1, 2, 3, 4] rfl) (hD.sub [0, 1, 2, 3, 4] (by decide) rfl) hS
  · refine lv_lconst (v := lB 0#64) hx hb d_X_joined_5 rfl ?_
    refine tpl (z := (lB (s_joined n po fi la o a b nn))) (by rw [s_joined, if_pos (nge0 hc)]) ?_
    exact hret _ _ _ _ _ (nf, sf) d_X_joined_6 rfl (hP.sub [0, 1, 2, 3, 4] rfl) (hD.sub [0, 1, 2, 3, 4] (by decide) rfl) hS

set_option maxHeartbeats 4000000 in
set_option maxRecDepth 100000 in
theorem c_X_zeros (l : Launch) (D : va_G) (cL cB cI : ClassId) (x0 k0 t0 p0 b0 r0 cnt n : Nat) (po fi la : BitVec 64) (d o : Bool) (n0 s0 : Nat) (nf sf : Nat → Int64) (R : BitVec 64) (bits : Int32) (sz : Nat) (hn : 1 ≤ n ∧ n ≤ 64) (hp : q_M n po) : Met l y_X_zeros (Cond.code y_X_zeros b_X_zeros 4 (some .long) :: g_tbl) (rmA 6 0 0 146) (MuP D cL cB cI [(x0, .inr (2, xf k0 p0 b0 r0 cnt)), (k0, .inr (0, kf n po fi la d o t0)), (p0, .inr (1, [.ref n0, .ref s0])), (n0, .inl (cL, 64, .inr (.inl nf))), (s0, .inl (cL, 64, .inr (.inl sf)))] sz [.ref x0, .long (lB R), .int bits]) (va_Ql (S := ((Nat → Int64) × (Nat → Int64))) (fun r _ => r = lB (s_zeros n po R bits)) (MuB D [(x0, .inr (2, xf k0 p0 b0 r0 cnt)), (k0, .inr (0, kf n po fi la d o t0)), (p0, .inr (1, [.ref n0, .ref s0])), (n0, .inl (cL, 64, .inr (.inl nf))), (s0, .inl (cL, 64, .inr (.inl sf)))] sz (fun u => match u with | (g, h) => [(x0, .inr (2, xf k0 p0 b0 r0 cnt)), (k0, .inr (0, kf n po fi la d o t0)), (p0, .inr (1, [.ref n0, .ref s0])), (n0, .inl (cL, 64, .inr (.inl g))), (s0, .inl (cL, 64, .inr (.inl h)))])) (va_A [(x0, .inr (2, xf k0 p0 b0 r0 cnt)), (k0, .inr (0, kf n po fi la d o t0)), (p0, .inr (1, [.ref n0, .ref s0])), (n0, .inl (cL, 64, .inr (.inl nf))), (s0, .inl (cL, 64, .inr (.inl sf)))] sz)) 0 0 (va_A [(x0, .inr (2, xf k0 p0 b0 r0 cnt)), (k0, .inr (0, kf n po fi la d o t0)), (p0, .inr (1, [.ref n0, .ref s0])), (n0, .inl (cL, 64, .inr (.inl nf))), (s0, .inl (cL, 64, .inr (.inl sf)))] sz) := by
  refine mu_startL sz (by decide) (Nat.le_of_ble_eq_true rfl) ?_
  intro p e s m below meth c ls Q A F hnm hP hK hD hA hl hret
  have hx := F.1
  have hb := F.2.1
  have hown := F.2.2.2.1
  have hT := F.2.2.2.2
  have hS : va_S A s.heap s.heap [] := va_S.rf
  have hl : lv_has ls 4 [(0, .ref x0), (1, .long (lB R)), (3, .int bits)] := hl
  refine lv_iload_n hx hb d_X_zeros_0 rfl (lv_at hl 2 rfl) ?_
  refine lv_iconst (v := nI 0) hx hb d_X_zeros_1 (by decide) ?_
  refine lv_ldc hx hb hown (hT _ ci_X_119) d_X_zeros_2 ?_
  refine tpi (z := nI 1000000) (by decide) ?_
  refine roSI (rest := []) F (c_X_within l D cL cB cI bits (nI 0) (nI 1000000)) k_X_within ml_X_37 ⟨rfl, rfl, by decide, by decide⟩ hK hP hS (hP.sub [] rfl) rfl hl.1 rfl (Nat.le_of_ble_eq_true rfl) d_X_zeros_4 ⟨Nat.le_of_ble_eq_true rfl, Nat.le_of_ble_eq_true rfl⟩ (fun H locs hP hS => ?_)
  refine bz_ifeq (b := (q_in bits (nI 0) (nI 1000000))) (tgt := 27) hx hb d_X_zeros_7 (by decide) (fun hc => ?_) (fun hc => ?_)
  · refine lv_lconst (v := lB 0#64) hx hb d_X_zeros_27 rfl ?_
    refine tpl (z := (lB (s_zeros n po R bits))) (congrArg lB (zeros_no hc)) ?_
    exact hret _ _ _ _ _ (nf, sf) d_X_zeros_28 rfl (hP.sub [0, 1, 2, 3, 4] rfl) (hD.sub [0, 1, 2, 3, 4] (by decide) rfl) hS
  · obtain ⟨k, hk, rfl⟩ := nI_of_le (x := bits) (in_yes hc).1 (by decide) (in_yes hc).2
    refine lv_aload_n hx hb d_X_zeros_10 rfl (lv_at hl 0 rfl) ?_
    refine gf_X_25 (v := .ref p0) F hK hP 0 rfl rfl d_X_zeros_11 ?_
    refine lv_aload_n hx hb d_X_zeros_14 rfl (lv_at hl 0 rfl) ?_
    refine gf_X_16 (v := .ref k0) F hK hP 0 rfl rfl d_X_zeros_15 ?_
    refine lv_lload_n hx hb d_X_zeros_18 rfl (lv_at hl 1 rfl) ?_
    refine lv_iload_n hx hb d_X_zeros_19 rfl (lv_at hl 2 rfl) ?_
    refine lv_i2l (v := lN k) hx hb d_X_zeros_20 (nI_l (by omega)) ?_
    refine kk_muL (wr := [(x0, .inr (2, xf k0 p0 b0 r0 cnt))]) (run_muV (rest := []) F (c_P_go l D cL cB cI p0 n0 s0 k0 t0 n po fi la d o nf sf R k _ hn hp (by omega)) k_P_go ml_X_111 ⟨rfl, rfl, by decide, by decide⟩ hK (hP.sub [2, 3, 4, 1] rfl) (hD.sub [2, 3, 4, 1] (by decide) rfl) rfl rfl rfl rfl hl.1 rfl (Nat.le_of_ble_eq_true rfl) d_X_zeros_21 ⟨Nat.le_of_ble_eq_true rfl, Nat.le_of_ble_eq_true rfl⟩) hS hP hD hA [2, 3, 4, 1] [0] rfl rfl (by decide) (by decide) (fun r u H locs hw hP hD hS => ?_)
    obtain ⟨g, h⟩ := u
    subst hw
    have hP : va_P D classes [(x0, .inr (2, xf k0 p0 b0 r0 cnt)), (p0, .inr (1, [.ref n0, .ref s0])), (n0, .inl (cL, 64, .inr (.inl g))), (s0, .inl (cL, 64, .inr (.inl h))), (k0, .inr (0, kf n po fi la d o t0))] H := hP
    have hD : va_D A [(x0, .inr (2, xf k0 p0 b0 r0 cnt)), (p0, .inr (1, [.ref n0, .ref s0])), (n0, .inl (cL, 64, .inr (.inl g))), (s0, .inl (cL, 64, .inr (.inl h))), (k0, .inr (0, kf n po fi la d o t0))] := hD
    have hP := hP.sub (ws' := [(x0, .inr (2, xf k0 p0 b0 r0 cnt)), (k0, .inr (0, kf n po fi la d o t0)), (p0, .inr (1, [.ref n0, .ref s0])), (n0, .inl (cL, 64, .inr (.inl g))), (s0, .inl (cL, 64, .inr (.inl h)))]) [0, 4, 1, 2, 3] rfl
    have hD := hD.sub (ws' := [(x0, .inr (2, xf k0 p0 b0 r0 cnt)), (k0, .inr (0, kf n po fi la d o t0)), (p0, .inr (1, [.ref n0, .ref s0])), (n0, .inl (cL, 64, .inr (.inl g))), (s0, .inl (cL, 64, .inr (.inl h)))]) [0, 4, 1, 2, 3] (by decide) rfl
    refine lv_goto (tgt := 28) hx hb d_X_zeros_24 (by decide) ?_
    refine tpl (z := (lB (s_zeros n po R (nI k)))) (congrArg lB (zeros_yes hk).symm) ?_
    exact hret _ _ _ _ _ (g, h) d_X_zeros_28 rfl (hP.sub [0, 1, 2, 3, 4] rfl) (hD.sub [0, 1, 2, 3, 4] (by decide) rfl) hS

set_option maxHeartbeats 4000000 in
set_option maxRecDepth 100000 in
theorem c_X_holds (l : Launch) (D : va_G) (cL cB cI : ClassId) (x0 k0 t0 p0 b0 r0 cnt n : Nat) (po fi la : BitVec 64) (d o : Bool) (f : Nat → Int64) (dt : Nat → Nat) (rf : Nat → Int32) (n0 s0 : Nat) (nf sf : Nat → Int64) (sz : Nat) (hn : 1 ≤ n ∧ n ≤ 64) (hp : q_M n po) (hfi : q_M n fi) (hla : q_M n la) (hf : ∀ b, b < 2048 → f b = lB (q_tab d (q_sd d n po) b)) (hd : ∀ j, dt j < 256) (hc5 : cnt ≤ 5000) : Met l y_X_holds (Cond.code y_X_holds b_X_holds 5 (some .boolean) :: g_tbl) (rmA 7 0 0 175) (MuP D cL cB cI [(x0, .inr (2, xf k0 p0 b0 r0 cnt)), (k0, .inr (0, kf n po fi la d o t0)), (t0, .inl (cL, 2048, .inr (.inl f))), (b0, .inl (cB, 5000, .inl (fun j => sb (dt j)))), (r0, .inl (cB, 40064, .inl rf)), (p0, .inr (1, [.ref n0, .ref s0])), (n0, .inl (cL, 64, .inr (.inl nf))), (s0, .inl (cL, 64, .inr (.inl sf)))] sz [.ref x0]) (va_Qi (S := ((Nat → Int32) × (Nat → Int64) × (Nat → Int64))) (fun r _ => r = bz true) (MuB D [(x0, .inr (2, xf k0 p0 b0 r0 cnt)), (k0, .inr (0, kf n po fi la d o t0)), (t0, .inl (cL, 2048, .inr (.inl f))), (b0, .inl (cB, 5000, .inl (fun j => sb (dt j)))), (r0, .inl (cB, 40064, .inl rf)), (p0, .inr (1, [.ref n0, .ref s0])), (n0, .inl (cL, 64, .inr (.inl nf))), (s0, .inl (cL, 64, .inr (.inl sf)))] sz (fun u => match u with | (rf, g, h) => [(x0, .inr (2, xf k0 p0 b0 r0 cnt)), (k0, .inr (0, kf n po fi la d o t0)), (t0, .inl (cL, 2048, .inr (.inl f))), (b0, .inl (cB, 5000, .inl (fun j => sb (dt j)))), (r0, .inl (cB, 40064, .inl rf)), (p0, .inr (1, [.ref n0, .ref s0])), (n0, .inl (cL, 64, .inr (.inl g))), (s0, .inl (cL, 64, .inr (.inl h)))])) (va_A [(x0, .inr (2, xf k0 p0 b0 r0 cnt)), (k0, .inr (0, kf n po fi la d o t0)), (t0, .inl (cL, 2048, .inr (.inl f))), (b0, .inl (cB, 5000, .inl (fun j => sb (dt j)))), (r0, .inl (cB, 40064, .inl rf)), (p0, .inr (1, [.ref n0, .ref s0])), (n0, .inl (cL, 64, .inr (.inl nf))), (s0, .inl (cL, 64, .inr (.inl sf)))] sz)) 0 0 (va_A [(x0, .inr (2, xf k0 p0 b0 r0 cnt)), (k0, .inr (0, kf n po fi la d o t0)), (t0, .inl (cL, 2048, .inr (.inl f))), (b0, .inl (cB, 5000, .inl (fun j => sb (dt j)))), (r0, .inl (cB, 40064, .inl rf)), (p0, .inr (1, [.ref n0, .ref s0])), (n0, .inl (cL, 64, .inr (.inl nf))), (s0, .inl (cL, 64, .inr (.inl sf)))] sz) := by
  refine mu_startZ sz (by decide) (Nat.le_of_ble_eq_true rfl) ?_
  intro p e s m below meth c ls Q A F hnm hP hK hD hA hl hret
  have hx := F.1
  have hb := F.2.1
  have hown := F.2.2.2.1
  have hT := F.2.2.2.2
  have hS : va_S A s.heap s.heap [] := va_S.rf
  have hl : lv_has ls 5 [(0, .ref x0)] := hl
  refine lv_aload_n hx hb d_X_holds_0 rfl (lv_at hl 0 rfl) ?_
  refine lv_iconst (v := nI 0) hx hb d_X_holds_1 (by decide) ?_
  refine kk_muL (wr := [(p0, .inr (1, [.ref n0, .ref s0])), (n0, .inl (cL, 64, .inr (.inl nf))), (s0, .inl (cL, 64, .inr (.inl sf)))]) (run_muV (rest := []) F (c_X_check l D cL cB cI x0 k0 t0 p0 b0 r0 cnt n po fi la d o f dt rf (nI 0) _ hn hp hfi hf hd hc5) k_X_check ml_X_120 ⟨rfl, rfl, by decide, by decide⟩ hK (hP.sub [0, 1, 2, 3, 4] rfl) (hD.sub [0, 1, 2, 3, 4] (by decide) rfl) rfl rfl rfl rfl hl.1 rfl (Nat.le_of_ble_eq_true rfl) d_X_holds_2 ⟨Nat.le_of_ble_eq_true rfl, Nat.le_of_ble_eq_true rfl⟩) hS hP hD hA [0, 1, 2, 3, 4] [5, 6, 7] rfl rfl (by decide) (by decide) (fun r rf H locs hw hP hD hS => ?_)
  subst hw
  have hP : va_P D classes [(p0, .inr (1, [.ref n0, .ref s0])), (n0, .inl (cL, 64, .inr (.inl nf))), (s0, .inl (cL, 64, .inr (.inl sf))), (x0, .inr (2, xf k0 p0 b0 r0 cnt)), (k0, .inr (0, kf n po fi la d o t0)), (t0, .inl (cL, 2048, .inr (.inl f))), (b0, .inl (cB, 5000, .inl (fun j => sb (dt j)))), (r0, .inl (cB, 40064, .inl rf))] H := hP
  have hD : va_D A [(p0, .inr (1, [.ref n0, .ref s0])), (n0, .inl (cL, 64, .inr (.inl nf))), (s0, .inl (cL, 64, .inr (.inl sf))), (x0, .inr (2, xf k0 p0 b0 r0 cnt)), (k0, .inr (0, kf n po fi la d o t0)), (t0, .inl (cL, 2048, .inr (.inl f))), (b0, .inl (cB, 5000, .inl (fun j => sb (dt j)))), (r0, .inl (cB, 40064, .inl rf))] := hD
  have hP := hP.sub (ws' := [(x0, .inr (2, xf k0 p0 b0 r0 cnt)), (k0, .inr (0, kf n po fi la d o t0)), (t0, .inl (cL, 2048, .inr (.inl f))), (b0, .inl (cB, 5000, .inl (fun j => sb (dt j)))), (r0, .inl (cB, 40064, .inl rf)), (p0, .inr (1, [.ref n0, .ref s0])), (n0, .inl (cL, 64, .inr (.inl nf))), (s0, .inl (cL, 64, .inr (.inl sf)))]) [3, 4, 5, 6, 7, 0, 1, 2] rfl
  have hD := hD.sub (ws' := [(x0, .inr (2, xf k0 p0 b0 r0 cnt)), (k0, .inr (0, kf n po fi la d o t0)), (t0, .inl (cL, 2048, .inr (.inl f))), (b0, .inl (cB, 5000, .inl (fun j => sb (dt j)))), (r0, .inl (cB, 40064, .inl rf)), (p0, .inr (1, [.ref n0, .ref s0])), (n0, .inl (cL, 64, .inr (.inl nf))), (s0, .inl (cL, 64, .inr (.inl sf)))]) [3, 4, 5, 6, 7, 0, 1, 2] (by decide) rfl
  refine tpl (z := (lB (q_ck n po fi la d o dt 0 cnt))) rfl ?_
  refine lv_lstore_n (lv' := [(1, .long (lB (q_ck n po fi la d o dt 0 cnt))), (0, .ref x0)]) hx hb d_X_holds_5 rfl hl (by decide) rfl (fun ls hl => ?_)
  refine lv_aload_n hx hb d_X_holds_6 rfl (lv_at hl 1 rfl) ?_
  refine lv_iconst (v := nI 1) hx hb d_X_holds_7 (by decide) ?_
  refine kk_muL (wr := [(p0, .inr (1, [.ref n0, .ref s0])), (n0, .inl (cL, 64, .inr (.inl nf))), (s0, .inl (cL, 64, .inr (.inl sf)))]) (run_muV (rest := []) F (c_X_check l D cL cB cI x0 k0 t0 p0 b0 r0 cnt n po fi la d o f dt rf (nI 1) _ hn hp hfi hf hd hc5) k_X_check ml_X_120 ⟨rfl, rfl, by decide, by decide⟩ hK (hP.sub [0, 1, 2, 3, 4] rfl) (hD.sub [0, 1, 2, 3, 4] (by decide) rfl) rfl rfl rfl rfl hl.1 rfl (Nat.le_of_ble_eq_true rfl) d_X_holds_8 ⟨Nat.le_of_ble_eq_true rfl, Nat.le_of_ble_eq_true rfl⟩) hS hP hD hA [0, 1, 2, 3, 4] [5, 6, 7] rfl rfl (by decide) (by decide) (fun r rf H locs hw hP hD hS => ?_)
  subst hw
  have hP : va_P D classes [(p0, .inr (1, [.ref n0, .ref s0])), (n0, .inl (cL, 64, .inr (.inl nf))), (s0, .inl (cL, 64, .inr (.inl sf))), (x0, .inr (2, xf k0 p0 b0 r0 cnt)), (k0, .inr (0, kf n po fi la d o t0)), (t0, .inl (cL, 2048, .inr (.inl f))), (b0, .inl (cB, 5000, .inl (fun j => sb (dt j)))), (r0, .inl (cB, 40064, .inl rf))] H := hP
  have hD : va_D A [(p0, .inr (1, [.ref n0, .ref s0])), (n0, .inl (cL, 64, .inr (.inl nf))), (s0, .inl (cL, 64, .inr (.inl sf))), (x0, .inr (2, xf k0 p0 b0 r0 cnt)), (k0, .inr (0, kf n po fi la d o t0)), (t0, .inl (cL, 2048, .inr (.inl f))), (b0, .inl (cB, 5000, .inl (fun j => sb (dt j)))), (r0, .inl (cB, 40064, .inl rf))] := hD
  have hP := hP.sub (ws' := [(x0, .inr (2, xf k0 p0 b0 r0 cnt)), (k0, .inr (0, kf n po fi la d o t0)), (t0, .inl (cL, 2048, .inr (.inl f))), (b0, .inl (cB, 5000, .inl (fun j => sb (dt j)))), (r0, .inl (cB, 40064, .inl rf)), (p0, .inr (1, [.ref n0, .ref s0])), (n0, .inl (cL, 64, .inr (.inl nf))), (s0, .inl (cL, 64, .inr (.inl sf)))]) [3, 4, 5, 6, 7, 0, 1, 2] rfl
  have hD := hD.sub (ws' := [(x0, .inr (2, xf k0 p0 b0 r0 cnt)), (k0, .inr (0, kf n po fi la d o t0)), (t0, .inl (cL, 2048, .inr (.inl f))), (b0, .inl (cB, 5000, .inl (fun j => sb (dt j)))), (r0, .inl (cB, 40064, .inl rf)), (p0, .inr (1, [.ref n0, .ref s0])), (n0, .inl (cL, 64, .inr (.inl nf))), (s0, .inl (cL, 64, .inr (.inl sf)))]) [3, 4, 5, 6, 7, 0, 1, 2] (by decide) rfl
  refine tpl (z := (lB (q_ck n po fi la d o dt 0 cnt))) rfl ?_
  refine lv_lload_n hx hb d_X_holds_11 rfl (lv_at hl 0 rfl) ?_
  refine bl_ne (a := (q_ck n po fi la d o dt 0 cnt)) (b := (q_ck n po fi la d o dt 0 cnt)) (tgt := 40) hx hb d_X_holds_12 d_X_holds_13 (by decide) (fun hc => absurd rfl hc) (fun _ => ?_)
  refine lv_aload_n hx hb d_X_holds_16 rfl (lv_at hl 1 rfl) ?_
  refine lv_iconst (v := nI 2) hx hb d_X_holds_17 (by decide) ?_
  refine kk_muL (wr := [(p0, .inr (1, [.ref n0, .ref s0])), (n0, .inl (cL, 64, .inr (.inl nf))), (s0, .inl (cL, 64, .inr (.inl sf)))]) (run_muV (rest := []) F (c_X_check l D cL cB cI x0 k0 t0 p0 b0 r0 cnt n po fi la d o f dt rf (nI 2) _ hn hp hfi hf hd hc5) k_X_check ml_X_120 ⟨rfl, rfl, by decide, by decide⟩ hK (hP.sub [0, 1, 2, 3, 4] rfl) (hD.sub [0, 1, 2, 3, 4] (by decide) rfl) rfl rfl rfl rfl hl.1 rfl (Nat.le_of_ble_eq_true rfl) d_X_holds_18 ⟨Nat.le_of_ble_eq_true rfl, Nat.le_of_ble_eq_true rfl⟩) hS hP hD hA [0, 1, 2, 3, 4] [5, 6, 7] rfl rfl (by decide) (by decide) (fun r rf H locs hw hP hD hS => ?_)
  subst hw
  have hP : va_P D classes [(p0, .inr (1, [.ref n0, .ref s0])), (n0, .inl (cL, 64, .inr (.inl nf))), (s0, .inl (cL, 64, .inr (.inl sf))), (x0, .inr (2, xf k0 p0 b0 r0 cnt)), (k0, .inr (0, kf n po fi la d o t0)), (t0, .inl (cL, 2048, .inr (.inl f))), (b0, .inl (cB, 5000, .inl (fun j => sb (dt j)))), (r0, .inl (cB, 40064, .inl rf))] H := hP
  have hD : va_D A [(p0, .inr (1, [.ref n0, .ref s0])), (n0, .inl (cL, 64, .inr (.inl nf))), (s0, .inl (cL, 64, .inr (.inl sf))), (x0, .inr (2, xf k0 p0 b0 r0 cnt)), (k0, .inr (0, kf n po fi la d o t0)), (t0, .inl (cL, 2048, .inr (.inl f))), (b0, .inl (cB, 5000, .inl (fun j => sb (dt j)))), (r0, .inl (cB, 40064, .inl rf))] := hD
  have hP := hP.sub (ws' := [(x0, .inr (2, xf k0 p0 b0 r0 cnt)), (k0, .inr (0, kf n po fi la d o t0)), (t0, .inl (cL, 2048, .inr (.inl f))), (b0, .inl (cB, 5000, .inl (fun j => sb (dt j)))), (r0, .inl (cB, 40064, .inl rf)), (p0, .inr (1, [.ref n0, .ref s0])), (n0, .inl (cL, 64, .inr (.inl nf))), (s0, .inl (cL, 64, .inr (.inl sf)))]) [3, 4, 5, 6, 7, 0, 1, 2] rfl
  have hD := hD.sub (ws' := [(x0, .inr (2, xf k0 p0 b0 r0 cnt)), (k0, .inr (0, kf n po fi la d o t0)), (t0, .inl (cL, 2048, .inr (.inl f))), (b0, .inl (cB, 5000, .inl (fun j => sb (dt j)))), (r0, .inl (cB, 40064, .inl rf)), (p0, .inr (1, [.ref n0, .ref s0])), (n0, .inl (cL, 64, .inr (.inl nf))), (s0, .inl (cL, 64, .inr (.inl sf)))]) [3, 4, 5, 6, 7, 0, 1, 2] (by decide) rfl
  refine tpl (z := (lB (q_ck n po fi la d o dt 0 cnt))) rfl ?_
  refine lv_lload_n hx hb d_X_holds_21 rfl (lv_at hl 0 rfl) ?_
  refine bl_ne (a := (q_ck n po fi la d o dt 0 cnt)) (b := (q_ck n po fi la d o dt 0 cnt)) (tgt := 40) hx hb d_X_holds_22 d_X_holds_23 (by decide) (fun hc => absurd rfl hc) (fun _ => ?_)
  refine lv_aload_n hx hb d_X_holds_26 rfl (lv_at hl 1 rfl) ?_
  refine lv_iconst (v := nI 3) hx hb d_X_holds_27 (by decide) ?_
  refine kk_muL (wr := [(p0, .inr (1, [.ref n0, .ref s0])), (n0, .inl (cL, 64, .inr (.inl nf))), (s0, .inl (cL, 64, .inr (.inl sf)))]) (run_muV (rest := []) F (c_X_check l D cL cB cI x0 k0 t0 p0 b0 r0 cnt n po fi la d o f dt rf (nI 3) _ hn hp hfi hf hd hc5) k_X_check ml_X_120 ⟨rfl, rfl, by decide, by decide⟩ hK (hP.sub [0, 1, 2, 3, 4] rfl) (hD.sub [0, 1, 2, 3, 4] (by decide) rfl) rfl rfl rfl rfl hl.1 rfl (Nat.le_of_ble_eq_true rfl) d_X_holds_28 ⟨Nat.le_of_ble_eq_true rfl, Nat.le_of_ble_eq_true rfl⟩) hS hP hD hA [0, 1, 2, 3, 4] [5, 6, 7] rfl rfl (by decide) (by decide) (fun r rf H locs hw hP hD hS => ?_)
  subst hw
  have hP : va_P D classes [(p0, .inr (1, [.ref n0, .ref s0])), (n0, .inl (cL, 64, .inr (.inl nf))), (s0, .inl (cL, 64, .inr (.inl sf))), (x0, .inr (2, xf k0 p0 b0 r0 cnt)), (k0, .inr (0, kf n po fi la d o t0)), (t0, .inl (cL, 2048, .inr (.inl f))), (b0, .inl (cB, 5000, .inl (fun j => sb (dt j)))), (r0, .inl (cB, 40064, .inl rf))] H := hP
  have hD : va_D A [(p0, .inr (1, [.ref n0, .ref s0])), (n0, .inl (cL, 64, .inr (.inl nf))), (s0, .inl (cL, 64, .inr (.inl sf))), (x0, .inr (2, xf k0 p0 b0 r0 cnt)), (k0, .inr (0, kf n po fi la d o t0)), (t0, .inl (cL, 2048, .inr (.inl f))), (b0, .inl (cB, 5000, .inl (fun j => sb (dt j)))), (r0, .inl (cB, 40064, .inl rf))] := hD
  have hP := hP.sub (ws' := [(x0, .inr (2, xf k0 p0 b0 r0 cnt)), (k0, .inr (0, kf n po fi la d o t0)), (t0, .inl (cL, 2048, .inr (.inl f))), (b0, .inl (cB, 5000, .inl (fun j => sb (dt j)))), (r0, .inl (cB, 40064, .inl rf)), (p0, .inr (1, [.ref n0, .ref s0])), (n0, .inl (cL, 64, .inr (.inl nf))), (s0, .inl (cL, 64, .inr (.inl sf)))]) [3, 4, 5, 6, 7, 0, 1, 2] rfl
  have hD := hD.sub (ws' := [(x0, .inr (2, xf k0 p0 b0 r0 cnt)), (k0, .inr (0, kf n po fi la d o t0)), (t0, .inl (cL, 2048, .inr (.inl f))), (b0, .inl (cB, 5000, .inl (fun j => sb (dt j)))), (r0, .inl (cB, 40064, .inl rf)), (p0, .inr (1, [.ref n0, .ref s0])), (n0, .inl (cL, 64, .inr (.inl nf))), (s0, .inl (cL, 64, .inr (.inl sf)))]) [3, 4, 5, 6, 7, 0, 1, 2] (by decide) rfl
  refine tpl (z := (lB (q_ck n po fi la d o dt 0 cnt))) rfl ?_
  refine lv_lload_n hx hb d_X_holds_31 rfl (lv_at hl 0 rfl) ?_
  refine bl_ne (a := (q_ck n po fi la d o dt 0 cnt)) (b := (q_ck n po fi la d o dt 0 cnt)) (tgt := 40) hx hb d_X_holds_32 d_X_holds_33 (by decide) (fun hc => absurd rfl hc) (fun _ => ?_)
  refine lv_iconst (v := nI 1) hx hb d_X_holds_36 (by decide) ?_
  refine lv_goto (tgt := 41) hx hb d_X_holds_37 (by decide) ?_
  refine lv_istore_n (lv' := [(3, .int (nI 1)), (1, .long (lB (q_ck n po fi la d o dt 0 cnt))), (0, .ref x0)]) hx hb d_X_holds_41 rfl hl (by decide) rfl (fun ls hl => ?_)
  refine lv_iconst (v := nI 0) hx hb d_X_holds_42 (by decide) ?_
  refine lv_istore (lv' := [(4, .int (nI 0)), (3, .int (nI 1)), (1, .long (lB (q_ck n po fi la d o dt 0 cnt))), (0, .ref x0)]) hx hb d_X_holds_43 hl (by decide) rfl (fun ls hl => ?_)
  have loop45 : ∀ (j i : Nat), i + j = 11 → ∀ (rf : Nat → Int32) (g h : Nat → Int64) (ls : Array Slot) (H : Heap) (locs : List Loc), va_P D classes [(x0, .inr (2, xf k0 p0 b0 r0 cnt)), (k0, .inr (0, kf n po fi la d o t0)), (t0, .inl (cL, 2048, .inr (.inl f))), (b0, .inl (cB, 5000, .inl (fun j => sb (dt j)))), (r0, .inl (cB, 40064, .inl rf)), (p0, .inr (1, [.ref n0, .ref s0])), (n0, .inl (cL, 64, .inr (.inl g))), (s0, .inl (cL, 64, .inr (.inl h)))] H → va_D A [(x0, .inr (2, xf k0 p0 b0 r0 cnt)), (k0, .inr (0, kf n po fi la d o t0)), (t0, .inl (cL, 2048, .inr (.inl f))), (b0, .inl (cB, 5000, .inl (fun j => sb (dt j)))), (r0, .inl (cB, 40064, .inl rf)), (p0, .inr (1, [.ref n0, .ref s0])), (n0, .inl (cL, 64, .inr (.inl g))), (s0, .inl (cL, 64, .inr (.inl h)))] → va_S A s.heap H locs → lv_has ls 5 [(0, .ref x0), (1, .long (lB (q_ck n po fi la d o dt 0 cnt))), (3, .int (nI 1)), (4, .int (nI (7 * i)))] → W p l e (rmA 7 0 0 175) s m ([.ref x0] : List Value).toArray below meth c H locs 0 0 Q (F0 m 45 ls []) := by
    intro j
    induction j with
    | zero =>
      intro i hiji rf g h ls H locs hP hD hS hl
      refine lv_iload hx hb d_X_holds_45 (lv_at hl 3 rfl) ?_
      refine lv_aload_n hx hb d_X_holds_47 rfl (lv_at hl 0 rfl) ?_
      refine gf_X_41 (v := .int (nI cnt)) F hK hP 0 rfl rfl d_X_holds_48 ?_
      refine nt_icmp_gt (a := (7 * i)) (b := cnt) (tgt := 110) hx hb (by omega) (by omega) d_X_holds_51 (by decide) (fun hc => ?_) (fun hc => ?_)
      · refine lv_iload_n hx hb d_X_holds_110 rfl (lv_at hl 2 rfl) ?_
        refine tpi (z := (bz true)) rfl ?_
        exact hret _ _ _ _ _ (rf, g, h) d_X_holds_111 (bz_nz _) rfl (hP.sub [0, 1, 2, 3, 4, 5, 6, 7] rfl) (hD.sub [0, 1, 2, 3, 4, 5, 6, 7] (by decide) rfl) hS
      · refine lv_iload hx hb d_X_holds_54 (lv_at hl 3 rfl) ?_
        refine lv_bipush (v := nI 70) hx hb d_X_holds_56 (by decide) ?_
        refine nt_icmp_gt (a := (7 * i)) (b := 70) (tgt := 110) hx hb (by omega) (by omega) d_X_holds_58 (by decide) (fun hc2 => ?_) (fun hc2 => absurd hc2 (by omega))
        refine lv_iload_n hx hb d_X_holds_110 rfl (lv_at hl 2 rfl) ?_
        refine tpi (z := (bz true)) rfl ?_
        exact hret _ _ _ _ _ (rf, g, h) d_X_holds_111 (bz_nz _) rfl (hP.sub [0, 1, 2, 3, 4, 5, 6, 7] rfl) (hD.sub [0, 1, 2, 3, 4, 5, 6, 7] (by decide) rfl) hS
    | succ j ihi =>
      intro i hiji rf g h ls H locs hP hD hS hl
      refine lv_iload hx hb d_X_holds_45 (lv_at hl 3 rfl) ?_
      refine lv_aload_n hx hb d_X_holds_47 rfl (lv_at hl 0 rfl) ?_
      refine gf_X_41 (v := .int (nI cnt)) F hK hP 0 rfl rfl d_X_holds_48 ?_
      refine nt_icmp_gt (a := (7 * i)) (b := cnt) (tgt := 110) hx hb (by omega) (by omega) d_X_holds_51 (by decide) (fun hc => ?_) (fun hc => ?_)
      · refine lv_iload_n hx hb d_X_holds_110 rfl (lv_at hl 2 rfl) ?_
        refine tpi (z := (bz true)) rfl ?_
        exact hret _ _ _ _ _ (rf, g, h) d_X_holds_111 (bz_nz _) rfl (hP.sub [0, 1, 2, 3, 4, 5, 6, 7] rfl) (hD.sub [0, 1, 2, 3, 4, 5, 6, 7] (by decide) rfl) hS
      · refine lv_iload hx hb d_X_holds_54 (lv_at hl 3 rfl) ?_
        refine lv_bipush (v := nI 70) hx hb d_X_holds_56 (by decide) ?_
        refine nt_icmp_gt (a := (7 * i)) (b := 70) (tgt := 110) hx hb (by omega) (by omega) d_X_holds_58 (by decide) (fun hc2 => absurd hc2 (by omega)) (fun hc2 => ?_)
        refine lv_iload_n hx hb d_X_holds_61 rfl (lv_at hl 2 rfl) ?_
        refine lv_if_eq (tgt := 110) hx hb d_X_holds_62 (by decide) (fun h => absurd h (by decide)) (fun _ => ?_)
        refine lv_aload_n hx hb d_X_holds_65 rfl (lv_at hl 0 rfl) ?_
        refine lv_aload_n hx hb d_X_holds_66 rfl (lv_at hl 0 rfl) ?_
        refine lv_iconst (v := nI 0) hx hb d_X_holds_67 (by decide) ?_
        refine lv_iload hx hb d_X_holds_68 (lv_at hl 3 rfl) ?_
        refine roVL (rest := [.ref x0]) F (c_X_part l D cL cB cI x0 k0 t0 p0 b0 r0 cnt n po fi la d o f dt (nI 0) (nI (7 * i)) hn hp hfi hf hd hc5) k_X_part ml_X_123 ⟨rfl, rfl, by decide, by decide⟩ hK hP hS (hP.sub [0, 1, 2, 3] rfl) rfl rfl rfl rfl hl.1 rfl (Nat.le_of_ble_eq_true rfl) d_X_holds_70 ⟨Nat.le_of_ble_eq_true rfl, Nat.le_of_ble_eq_true rfl⟩ (fun H locs hP hS => ?_)
        refine tpl (z := (lB (q_ck n po fi la d o dt 0 (7 * i)))) (congrArg lB (part_ck (by omega) (by omega) hc5)) ?_
        refine lv_aload_n hx hb d_X_holds_73 rfl (lv_at hl 0 rfl) ?_
        refine lv_iload hx hb d_X_holds_74 (lv_at hl 3 rfl) ?_
        refine lv_aload_n hx hb d_X_holds_76 rfl (lv_at hl 0 rfl) ?_
        refine gf_X_41 (v := .int (nI cnt)) F hK hP 0 rfl rfl d_X_holds_77 ?_
        refine roVL (rest := [.long (lB (q_ck n po fi la d o dt 0 (7 * i))), .ref x0]) F (c_X_part l D cL cB cI x0 k0 t0 p0 b0 r0 cnt n po fi la d o f dt (nI (7 * i)) (nI cnt) hn hp hfi hf hd hc5) k_X_part ml_X_123 ⟨rfl, rfl, by decide, by decide⟩ hK hP hS (hP.sub [0, 1, 2, 3] rfl) rfl rfl rfl rfl hl.1 rfl (Nat.le_of_ble_eq_true rfl) d_X_holds_80 ⟨Nat.le_of_ble_eq_true rfl, Nat.le_of_ble_eq_true rfl⟩ (fun H locs hP hS => ?_)
        refine tpl (z := (lB (q_ck n po fi la d o dt (7 * i) cnt))) (congrArg lB (part_ck (by omega) (by omega) hc5)) ?_
        refine lv_aload_n hx hb d_X_holds_83 rfl (lv_at hl 0 rfl) ?_
        refine gf_X_41 (v := .int (nI cnt)) F hK hP 0 rfl rfl d_X_holds_84 ?_
        refine lv_iload hx hb d_X_holds_87 (lv_at hl 3 rfl) ?_
        refine nt_isub (x := cnt) hx hb (by omega) d_X_holds_89 ?_
        refine kk_muL (wr := [(t0, .inl (cL, 2048, .inr (.inl f))), (b0, .inl (cB, 5000, .inl (fun j => sb (dt j)))), (r0, .inl (cB, 40064, .inl rf))]) (run_muV (rest := []) F (c_X_joined l D cL cB cI x0 k0 t0 p0 b0 r0 cnt n po fi la d o n0 s0 g h (q_ck n po fi la d o dt 0 (7 * i)) (q_ck n po fi la d o dt (7 * i) cnt) (nI (cnt - 7 * i)) _ hn hp hfi hla) k_X_joined ml_X_126 ⟨rfl, rfl, by decide, by decide⟩ hK (hP.sub [0, 1, 5, 6, 7] rfl) (hD.sub [0, 1, 5, 6, 7] (by decide) rfl) rfl rfl rfl rfl hl.1 rfl (Nat.le_of_ble_eq_true rfl) d_X_holds_90 ⟨Nat.le_of_ble_eq_true rfl, Nat.le_of_ble_eq_true rfl⟩) hS hP hD hA [0, 1, 5, 6, 7] [2, 3, 4] rfl rfl (by decide) (by decide) (fun r u H locs hw hP hD hS => ?_)
        obtain ⟨g, h⟩ := u
        subst hw
        have hP : va_P D classes [(t0, .inl (cL, 2048, .inr (.inl f))), (b0, .inl (cB, 5000, .inl (fun j => sb (dt j)))), (r0, .inl (cB, 40064, .inl rf)), (x0, .inr (2, xf k0 p0 b0 r0 cnt)), (k0, .inr (0, kf n po fi la d o t0)), (p0, .inr (1, [.ref n0, .ref s0])), (n0, .inl (cL, 64, .inr (.inl g))), (s0, .inl (cL, 64, .inr (.inl h)))] H := hP
        have hD : va_D A [(t0, .inl (cL, 2048, .inr (.inl f))), (b0, .inl (cB, 5000, .inl (fun j => sb (dt j)))), (r0, .inl (cB, 40064, .inl rf)), (x0, .inr (2, xf k0 p0 b0 r0 cnt)), (k0, .inr (0, kf n po fi la d o t0)), (p0, .inr (1, [.ref n0, .ref s0])), (n0, .inl (cL, 64, .inr (.inl g))), (s0, .inl (cL, 64, .inr (.inl h)))] := hD
        have hP := hP.sub (ws' := [(x0, .inr (2, xf k0 p0 b0 r0 cnt)), (k0, .inr (0, kf n po fi la d o t0)), (t0, .inl (cL, 2048, .inr (.inl f))), (b0, .inl (cB, 5000, .inl (fun j => sb (dt j)))), (r0, .inl (cB, 40064, .inl rf)), (p0, .inr (1, [.ref n0, .ref s0])), (n0, .inl (cL, 64, .inr (.inl g))), (s0, .inl (cL, 64, .inr (.inl h)))]) [3, 4, 0, 1, 2, 5, 6, 7] rfl
        have hD := hD.sub (ws' := [(x0, .inr (2, xf k0 p0 b0 r0 cnt)), (k0, .inr (0, kf n po fi la d o t0)), (t0, .inl (cL, 2048, .inr (.inl f))), (b0, .inl (cB, 5000, .inl (fun j => sb (dt j)))), (r0, .inl (cB, 40064, .inl rf)), (p0, .inr (1, [.ref n0, .ref s0])), (n0, .inl (cL, 64, .inr (.inl g))), (s0, .inl (cL, 64, .inr (.inl h)))]) [3, 4, 0, 1, 2, 5, 6, 7] (by decide) rfl
        refine tpl (z := (lB (q_ck n po fi la d o dt 0 cnt))) (congrArg lB (joined_ck hn.2 hp hfi hla (by omega) hc5)) ?_
        refine lv_lload_n hx hb d_X_holds_93 rfl (lv_at hl 1 rfl) ?_
        refine bl_ne (a := (q_ck n po fi la d o dt 0 cnt)) (b := (q_ck n po fi la d o dt 0 cnt)) (tgt := 102) hx hb d_X_holds_94 d_X_holds_95 (by decide) (fun hc => absurd rfl hc) (fun _ => ?_)
        refine lv_iconst (v := nI 1) hx hb d_X_holds_98 (by decide) ?_
        refine lv_goto (tgt := 103) hx hb d_X_holds_99 (by decide) ?_
        refine lv_istore_n (lv' := [(3, .int (nI 1)), (0, .ref x0), (1, .long (lB (q_ck n po fi la d o dt 0 cnt))), (4, .int (nI (7 * i)))]) hx hb d_X_holds_103 rfl hl (by decide) rfl (fun ls hl => ?_)
        refine lv_iinc (v := (nI (7 * i + 7))) (lv' := [(4, .int (nI (7 * i + 7))), (3, .int (nI 1)), (0, .ref x0), (1, .long (lB (q_ck n po fi la d o dt 0 cnt)))]) hx hb d_X_holds_104 hl (k := 3) rfl (nI_inc7 _) (by decide) rfl (fun ls hl => ?_)
        refine lv_goto (tgt := 45) hx hb d_X_holds_107 (by decide) ?_
        exact ihi (i + 1) (by omega) _ _ _ ls H locs hP hD hS (lv_sub hl [2, 3, 1, 0] rfl)
  exact loop45 (11) 0 (by omega) _ _ _ ls H locs hP hD hS (lv_sub hl [3, 2, 1, 0] rfl)
end
section
theorem sb_xor {a k : Nat} (ha : a < 256) (hk : k < 8) : (sb a ^^^ sb (2 ^ k)).toInt8.toInt32 = sb (a ^^^ 2 ^ k) := (show ∀ a, a < 256 → ∀ k, k < 8 → (sb a ^^^ sb (2 ^ k)).toInt8.toInt32 = sb (a ^^^ 2 ^ k) by decide +kernel) a ha k hk
theorem fok_in1 {cnt : Nat} {b t : Int32} (h : q_in b (nI 0) (nI 255) = false) : q_fok cnt b t = false := by
  rcases in_no h with h | h
  · exact fok_no1 h
  · exact fok_no2 h
theorem fok_in2 {cnt : Nat} (hc : cnt ≤ 5000) {b t : Int32} (h : q_in t (nI 1) (nI 5000) = false) : q_fok cnt b t = false := by
  rcases in_no h with h | h
  · exact fok_no3 h
  · apply fok_no4
    have h1 : nI (5000 - cnt) ≤ nI 5000 := nI_le (by omega) (by decide)
    rw [Int32.lt_iff_toInt_lt] at h ⊢
    rw [Int32.le_iff_toInt_le] at h1
    omega
theorem p2_lt {k : Nat} (h : k < 8) : 1 * 2 ^ k < 2 ^ 32 := p_lt h
set_option maxHeartbeats 4000000 in
set_option maxRecDepth 100000 in
theorem c_X_clear (l : Launch) (D : va_G) (cL cB cI : ClassId) (x0 k0 t0 p0 b0 r0 cnt n : Nat) (po fi la : BitVec 64) (d o : Bool) (sz : Nat)  : Met l y_X_clear (Cond.code y_X_clear b_X_clear 1 none :: g_tbl) (rmA 0 0 0 0) (MuP D cL cB cI [(x0, .inr (2, xf k0 p0 b0 r0 cnt))] sz [.ref x0]) (va_Qv (S := Unit) (fun _ => True) (MuB D [(x0, .inr (2, xf k0 p0 b0 r0 cnt))] sz (fun _ => [(x0, .inr (2, xf k0 p0 b0 r0 0))])) (va_A [(x0, .inr (2, xf k0 p0 b0 r0 cnt))] sz)) 0 0 (va_A [(x0, .inr (2, xf k0 p0 b0 r0 cnt))] sz) := by
  refine mu_startV sz (by decide) (Nat.le_of_ble_eq_true rfl) ?_
  intro p e s m below meth c ls Q A F hnm hP hK hD hA hl hret
  have hx := F.1
  have hb := F.2.1
  have hown := F.2.2.2.1
  have hT := F.2.2.2.2
  have hS : va_S A s.heap s.heap [] := va_S.rf
  have hl : lv_has ls 1 [(0, .ref x0)] := hl
  refine lv_aload_n hx hb d_X_clear_0 rfl (lv_at hl 0 rfl) ?_
  refine lv_iconst (v := nI 0) hx hb d_X_clear_1 (by decide) ?_
  refine pf_X_41 F hK hP hD hS 0 rfl rfl rfl (Nat.le_of_ble_eq_true rfl) d_X_clear_2 (fun H locs hP hD hS => ?_)
  have hP : va_P D classes [(x0, .inr (2, xf k0 p0 b0 r0 0))] H := hP
  have hD : va_D A [(x0, .inr (2, xf k0 p0 b0 r0 0))] := hD
  exact hret _ _ _ _ () d_X_clear_5 trivial (hP.sub [0] rfl) (hD.sub [0] (by decide) rfl) hS

set_option maxHeartbeats 4000000 in
set_option maxRecDepth 100000 in
theorem c_X_feed (l : Launch) (D : va_G) (cL cB cI : ClassId) (x0 k0 t0 p0 b0 r0 cnt n : Nat) (po fi la : BitVec 64) (d o : Bool) (dt : Nat → Nat) (bb tt : Int32) (sz : Nat) (hc5 : cnt ≤ 5000) : Met l y_X_feed (Cond.code y_X_feed b_X_feed 4 (some .boolean) :: g_tbl) (rmA 1 0 0 22) (MuP D cL cB cI [(x0, .inr (2, xf k0 p0 b0 r0 cnt)), (b0, .inl (cB, 5000, .inl (fun j => sb (dt j))))] sz [.ref x0, .int bb, .int tt]) (va_Qi (S := Unit) (fun r _ => r = bz (q_fok cnt bb tt)) (MuB D [(x0, .inr (2, xf k0 p0 b0 r0 cnt)), (b0, .inl (cB, 5000, .inl (fun j => sb (dt j))))] sz (fun _ => [(x0, .inr (2, xf k0 p0 b0 r0 (s_fcnt cnt bb tt))), (b0, .inl (cB, 5000, .inl (fun j => sb (s_fdt dt cnt bb tt j))))])) (va_A [(x0, .inr (2, xf k0 p0 b0 r0 cnt)), (b0, .inl (cB, 5000, .inl (fun j => sb (dt j))))] sz)) 0 0 (va_A [(x0, .inr (2, xf k0 p0 b0 r0 cnt)), (b0, .inl (cB, 5000, .inl (fun j => sb (dt j))))] sz) := by
  refine mu_startZ sz (by decide) (Nat.le_of_ble_eq_true rfl) ?_
  intro p e s m below meth c ls Q A F hnm hP hK hD hA hl hret
  have hx := F.1
  have hb := F.2.1
  have hown := F.2.2.2.1
  have hT := F.2.2.2.2
  have hS : va_S A s.heap s.heap [] := va_S.rf
  have hl : lv_has ls 4 [(0, .ref x0), (1, .int bb), (2, .int tt)] := hl
  refine lv_iload_n hx hb d_X_feed_0 rfl (lv_at hl 1 rfl) ?_
  refine lv_iconst (v := nI 0) hx hb d_X_feed_1 (by decide) ?_
  refine lv_sipush (v := nI 255) hx hb d_X_feed_2 (by decide) ?_
  refine roSI (rest := []) F (c_X_within l D cL cB cI bb (nI 0) (nI 255)) k_X_within ml_X_37 ⟨rfl, rfl, by decide, by decide⟩ hK hP hS (hP.sub [] rfl) rfl hl.1 rfl (Nat.le_of_ble_eq_true rfl) d_X_feed_5 ⟨Nat.le_of_ble_eq_true rfl, Nat.le_of_ble_eq_true rfl⟩ (fun H locs hP hS => ?_)
  refine bz_ifeq (b := (q_in bb (nI 0) (nI 255))) (tgt := 34) hx hb d_X_feed_8 (by decide) (fun hc => ?_) (fun hc => ?_)
  · refine lv_iconst (v := nI 0) hx hb d_X_feed_34 (by decide) ?_
    have hk := fok_in1 (cnt := cnt) (t := tt) hc
    rw [fdt_no hk, fcnt_no hk, hk] at hret
    refine tpi (z := (bz false)) rfl ?_
    exact hret _ _ _ _ _ () d_X_feed_35 (bz_nz _) rfl (hP.sub [0, 1] rfl) (hD.sub [0, 1] (by decide) rfl) hS
  · refine lv_iload_n hx hb d_X_feed_11 rfl (lv_at hl 2 rfl) ?_
    refine lv_iconst (v := nI 1) hx hb d_X_feed_12 (by decide) ?_
    refine lv_sipush (v := nI 5000) hx hb d_X_feed_13 (by decide) ?_
    refine roSI (rest := []) F (c_X_within l D cL cB cI tt (nI 1) (nI 5000)) k_X_within ml_X_37 ⟨rfl, rfl, by decide, by decide⟩ hK hP hS (hP.sub [] rfl) rfl hl.1 rfl (Nat.le_of_ble_eq_true rfl) d_X_feed_16 ⟨Nat.le_of_ble_eq_true rfl, Nat.le_of_ble_eq_true rfl⟩ (fun H locs hP hS => ?_)
    refine bz_ifeq (b := (q_in tt (nI 1) (nI 5000))) (tgt := 34) hx hb d_X_feed_19 (by decide) (fun hc2 => ?_) (fun hc2 => ?_)
    · refine lv_iconst (v := nI 0) hx hb d_X_feed_34 (by decide) ?_
      have hk := fok_in2 (b := bb) hc5 hc2
      rw [fdt_no hk, fcnt_no hk, hk] at hret
      refine tpi (z := (bz false)) rfl ?_
      exact hret _ _ _ _ _ () d_X_feed_35 (bz_nz _) rfl (hP.sub [0, 1] rfl) (hD.sub [0, 1] (by decide) rfl) hS
    · refine lv_iload_n hx hb d_X_feed_22 rfl (lv_at hl 2 rfl) ?_
      refine lv_sipush (v := nI 5000) hx hb d_X_feed_23 (by decide) ?_
      refine lv_aload_n hx hb d_X_feed_26 rfl (lv_at hl 0 rfl) ?_
      refine gf_X_41 (v := .int (nI cnt)) F hK hP 0 rfl rfl d_X_feed_27 ?_
      refine nt_isub (x := 5000) hx hb (by omega) d_X_feed_30 ?_
      refine lv_icmp_le (tgt := 36) hx hb d_X_feed_31 (by decide) (fun hc4 => ?_) (fun hc4 => ?_)
      · have hok := fok_yes (in_yes hc).1 (in_yes hc).2 (in_yes hc2).1 (le_ng hc4)
        obtain ⟨b, hb4, rfl⟩ := nI_of_le (x := bb) (in_yes hc).1 (by decide) (in_yes hc).2
        obtain ⟨k, hk, rfl⟩ := nI_of_le (b := 5000 - cnt) (x := tt) (fun q => (in_yes hc2).1 (Int32.lt_trans q (by decide))) (by omega) (le_ng hc4)
        rw [fdt_yes (by omega) (by omega) hok, fcnt_yes (by omega) hok, hok] at hret
        rw [← fill_0 dt cnt b] at hP hD
        refine lv_iconst (v := nI 0) hx hb d_X_feed_36 (by decide) ?_
        refine lv_istore_n (lv' := [(3, .int (nI 0)), (0, .ref x0), (1, .int (nI b)), (2, .int (nI k))]) hx hb d_X_feed_37 rfl hl (by decide) rfl (fun ls hl => ?_)
        have loop38 : ∀ (j i : Nat), i + j = k → ∀ (ls : Array Slot) (H : Heap) (locs : List Loc), va_P D classes [(x0, .inr (2, xf k0 p0 b0 r0 (cnt + i))), (b0, .inl (cB, 5000, .inl (fun j => sb (q_fill dt cnt b i j))))] H → va_D A [(x0, .inr (2, xf k0 p0 b0 r0 (cnt + i))), (b0, .inl (cB, 5000, .inl (fun j => sb (q_fill dt cnt b i j))))] → va_S A s.heap H locs → lv_has ls 4 [(0, .ref x0), (1, .int (nI b)), (2, .int (nI k)), (3, .int (nI i))] → W p l e (rmA 1 0 0 22) s m ([.ref x0, .int (nI b), .int (nI k)] : List Value).toArray below meth c H locs 0 0 Q (F0 m 38 ls []) := by
          intro j
          induction j with
          | zero =>
            intro i hiji ls H locs hP hD hS hl
            refine lv_iload_n hx hb d_X_feed_38 rfl (lv_at hl 3 rfl) ?_
            refine lv_iload_n hx hb d_X_feed_39 rfl (lv_at hl 2 rfl) ?_
            refine nt_icmp_ge (a := i) (b := k) (tgt := 70) hx hb (by omega) (by omega) d_X_feed_40 (by decide) (fun hc6 => ?_) (fun hc6 => absurd hc6 (by omega))
            have hik : i = k := by omega
            subst hik
            refine lv_iconst (v := nI 1) hx hb d_X_feed_70 (by decide) ?_
            refine tpi (z := (bz true)) rfl ?_
            exact hret _ _ _ _ _ () d_X_feed_71 (bz_nz _) rfl (hP.sub [0, 1] rfl) (hD.sub [0, 1] (by decide) rfl) hS
          | succ j ihi =>
            intro i hiji ls H locs hP hD hS hl
            refine lv_iload_n hx hb d_X_feed_38 rfl (lv_at hl 3 rfl) ?_
            refine lv_iload_n hx hb d_X_feed_39 rfl (lv_at hl 2 rfl) ?_
            refine nt_icmp_ge (a := i) (b := k) (tgt := 70) hx hb (by omega) (by omega) d_X_feed_40 (by decide) (fun hc6 => absurd hc6 (by omega)) (fun hc6 => ?_)
            refine lv_aload_n hx hb d_X_feed_43 rfl (lv_at hl 0 rfl) ?_
            refine gf_X_29 (v := .ref b0) F hK hP 0 rfl rfl d_X_feed_44 ?_
            refine lv_aload_n hx hb d_X_feed_47 rfl (lv_at hl 0 rfl) ?_
            refine gf_X_41 (v := .int (nI (cnt + i))) F hK hP 0 rfl rfl d_X_feed_48 ?_
            refine lv_iload_n hx hb d_X_feed_51 rfl (lv_at hl 1 rfl) ?_
            refine lv_i2b (v := sb b) hx hb d_X_feed_52 rfl ?_
            refine nt_bast (j := (cnt + i)) hx hb hK hP hD hS 1 rfl (by omega) (by decide) d_X_feed_53 (fun H locs hP hD hS => ?_)
            rw [fill_b] at hP hD
            have hP : va_P D classes [(x0, .inr (2, xf k0 p0 b0 r0 (cnt + i))), (b0, .inl (cB, 5000, .inl (fun j => sb (q_fill dt cnt b (i + 1) j))))] H := hP
            have hD : va_D A [(x0, .inr (2, xf k0 p0 b0 r0 (cnt + i))), (b0, .inl (cB, 5000, .inl (fun j => sb (q_fill dt cnt b (i + 1) j))))] := hD
            refine lv_aload_n hx hb d_X_feed_54 rfl (lv_at hl 0 rfl) ?_
            refine lv_dup hx hb d_X_feed_55 rfl ?_
            refine gf_X_41 (v := .int (nI (cnt + i))) F hK hP 0 rfl rfl d_X_feed_56 ?_
            refine lv_iconst (v := nI 1) hx hb d_X_feed_59 (by decide) ?_
            refine nt_iadd (x := (cnt + i)) hx hb d_X_feed_60 ?_
            refine pf_X_41 F hK hP hD hS 0 rfl rfl rfl (Nat.le_of_ble_eq_true rfl) d_X_feed_61 (fun H locs hP hD hS => ?_)
            have hP : va_P D classes [(x0, .inr (2, xf k0 p0 b0 r0 (cnt + i + 1))), (b0, .inl (cB, 5000, .inl (fun j => sb (q_fill dt cnt b (i + 1) j))))] H := hP
            have hD : va_D A [(x0, .inr (2, xf k0 p0 b0 r0 (cnt + i + 1))), (b0, .inl (cB, 5000, .inl (fun j => sb (q_fill dt cnt b (i + 1) j))))] := hD
            refine lv_iinc (v := (nI (i + 1))) (lv' := [(3, .int (nI (i + 1))), (0, .ref x0), (1, .int (nI b)), (2, .int (nI k))]) hx hb d_X_feed_64 hl (k := 3) rfl (nI_inc1 _) (by decide) rfl (fun ls hl => ?_)
            refine lv_goto (tgt := 38) hx hb d_X_feed_67 (by decide) ?_
            exact ihi (i + 1) (by omega) ls H locs hP hD hS (lv_sub hl [1, 2, 3, 0] rfl)
        exact loop38 (k) 0 (by omega) ls H locs hP hD hS (lv_sub hl [1, 2, 3, 0] rfl)
      · refine lv_iconst (v := nI 0) hx hb d_X_feed_34 (by decide) ?_
        have hk := fok_no4 (b := bb) (nle_g hc4)
        rw [fdt_no hk, fcnt_no hk, hk] at hret
        refine tpi (z := (bz false)) rfl ?_
        exact hret _ _ _ _ _ () d_X_feed_35 (bz_nz _) rfl (hP.sub [0, 1] rfl) (hD.sub [0, 1] (by decide) rfl) hS

set_option maxHeartbeats 4000000 in
set_option maxRecDepth 100000 in
theorem c_X_flip (l : Launch) (D : va_G) (cL cB cI : ClassId) (x0 k0 t0 p0 b0 r0 cnt n : Nat) (po fi la : BitVec 64) (d o : Bool) (dt : Nat → Nat) (ii : Int32) (sz : Nat) (hd : ∀ j, dt j < 256) (hc5 : cnt ≤ 5000) : Met l y_X_flip (Cond.code y_X_flip b_X_flip 2 (some .boolean) :: g_tbl) (rmA 1 0 0 21) (MuP D cL cB cI [(x0, .inr (2, xf k0 p0 b0 r0 cnt)), (k0, .inr (0, kf n po fi la d o t0)), (b0, .inl (cB, 5000, .inl (fun j => sb (dt j))))] sz [.ref x0, .int ii]) (va_Qi (S := Unit) (fun r _ => r = bz (q_lok cnt ii)) (MuB D [(x0, .inr (2, xf k0 p0 b0 r0 cnt)), (k0, .inr (0, kf n po fi la d o t0)), (b0, .inl (cB, 5000, .inl (fun j => sb (dt j))))] sz (fun _ => [(x0, .inr (2, xf k0 p0 b0 r0 cnt)), (k0, .inr (0, kf n po fi la d o t0)), (b0, .inl (cB, 5000, .inl (fun j => sb (s_ldt d dt cnt ii j))))])) (va_A [(x0, .inr (2, xf k0 p0 b0 r0 cnt)), (k0, .inr (0, kf n po fi la d o t0)), (b0, .inl (cB, 5000, .inl (fun j => sb (dt j))))] sz)) 0 0 (va_A [(x0, .inr (2, xf k0 p0 b0 r0 cnt)), (k0, .inr (0, kf n po fi la d o t0)), (b0, .inl (cB, 5000, .inl (fun j => sb (dt j))))] sz) := by
  refine mu_startZ sz (by decide) (Nat.le_of_ble_eq_true rfl) ?_
  intro p e s m below meth c ls Q A F hnm hP hK hD hA hl hret
  have hx := F.1
  have hb := F.2.1
  have hown := F.2.2.2.1
  have hT := F.2.2.2.2
  have hS : va_S A s.heap s.heap [] := va_S.rf
  have hl : lv_has ls 2 [(0, .ref x0), (1, .int ii)] := hl
  refine lv_iload_n hx hb d_X_flip_0 rfl (lv_at hl 1 rfl) ?_
  refine lv_if_lt (tgt := 14) hx hb d_X_flip_1 (by decide) (fun hc => ?_) (fun hc => ?_)
  · refine lv_iconst (v := nI 0) hx hb d_X_flip_14 (by decide) ?_
    have hk := lok_no1 (cnt := cnt) hc
    rw [ldt_no hk, hk] at hret
    refine tpi (z := (bz false)) rfl ?_
    exact hret _ _ _ _ _ () d_X_flip_15 (bz_nz _) rfl (hP.sub [0, 1, 2] rfl) (hD.sub [0, 1, 2] (by decide) rfl) hS
  · obtain ⟨k, hk2, rfl⟩ := nI_of hc
    refine lv_iload_n hx hb d_X_flip_4 rfl (lv_at hl 1 rfl) ?_
    refine lv_iconst (v := nI 3) hx hb d_X_flip_5 (by decide) ?_
    refine nt_ishr (x := k) hx hb (by omega) (by omega) d_X_flip_6 ?_
    refine tpi (z := (nI (k / 8))) rfl ?_
    refine lv_aload_n hx hb d_X_flip_7 rfl (lv_at hl 0 rfl) ?_
    refine gf_X_41 (v := .int (nI cnt)) F hK hP 0 rfl rfl d_X_flip_8 ?_
    refine nt_icmp_lt (a := (k / 8)) (b := cnt) (tgt := 16) hx hb (by omega) (by omega) d_X_flip_11 (by decide) (fun hc2 => ?_) (fun hc2 => ?_)
    · have hok := lok_yes hk2 hc2
      rw [ldt_yes hk2 hok, hok] at hret
      refine lv_aload_n hx hb d_X_flip_16 rfl (lv_at hl 0 rfl) ?_
      refine gf_X_29 (v := .ref b0) F hK hP 0 rfl rfl d_X_flip_17 ?_
      refine lv_iload_n hx hb d_X_flip_20 rfl (lv_at hl 1 rfl) ?_
      refine lv_iconst (v := nI 3) hx hb d_X_flip_21 (by decide) ?_
      refine nt_ishr (x := k) hx hb (by omega) (by omega) d_X_flip_22 ?_
      refine tpi (z := (nI (k / 8))) rfl ?_
      refine lv_dup2_11 hx hb d_X_flip_23 rfl rfl ?_
      refine nt_bald (j := (k / 8)) hx hb hK hP 2 rfl (by omega) (by decide) d_X_flip_24 ?_
      refine lv_iconst (v := nI 1) hx hb d_X_flip_25 (by decide) ?_
      refine lv_aload_n hx hb d_X_flip_26 rfl (lv_at hl 0 rfl) ?_
      refine lv_iload_n hx hb d_X_flip_27 rfl (lv_at hl 1 rfl) ?_
      refine roVI (rest := [.int (nI 1), .int (sb (dt (k / 8))), .int (nI (k / 8)), .ref b0]) F (c_X_place l D cL cB cI x0 k0 t0 p0 b0 r0 cnt n po fi la d o k) k_X_place ml_X_49 ⟨rfl, rfl, by decide, by decide⟩ hK hP hS (hP.sub [0, 1] rfl) rfl rfl rfl rfl hl.1 rfl (Nat.le_of_ble_eq_true rfl) d_X_flip_28 ⟨Nat.le_of_ble_eq_true rfl, Nat.le_of_ble_eq_true rfl⟩ (fun H locs hP hS => ?_)
      have hpl := pl_lt d k
      refine nt_ishl (x := 1) hx hb (by omega) (p2_lt hpl) d_X_flip_31 ?_
      refine tpi (z := (nI (2 ^ q_pl d k))) (by rw [Nat.one_mul]) ?_
      refine lv_i2b (v := sb (2 ^ q_pl d k)) hx hb d_X_flip_32 rfl ?_
      refine lv_ixor hx hb d_X_flip_33 ?_
      refine lv_i2b (v := sb (dt (k / 8) ^^^ 2 ^ q_pl d k)) hx hb d_X_flip_34 (sb_xor (hd _) hpl) ?_
      refine nt_bast (j := (k / 8)) hx hb hK hP hD hS 2 rfl (by omega) (by decide) d_X_flip_35 (fun H locs hP hD hS => ?_)
      rw [flip_b] at hP hD
      have hP : va_P D classes [(x0, .inr (2, xf k0 p0 b0 r0 cnt)), (k0, .inr (0, kf n po fi la d o t0)), (b0, .inl (cB, 5000, .inl (fun j => sb (if j = k / 8 then dt j ^^^ 2 ^ q_pl d k else dt j))))] H := hP
      have hD : va_D A [(x0, .inr (2, xf k0 p0 b0 r0 cnt)), (k0, .inr (0, kf n po fi la d o t0)), (b0, .inl (cB, 5000, .inl (fun j => sb (if j = k / 8 then dt j ^^^ 2 ^ q_pl d k else dt j))))] := hD
      refine lv_iconst (v := nI 1) hx hb d_X_flip_36 (by decide) ?_
      refine tpi (z := (bz true)) rfl ?_
      exact hret _ _ _ _ _ () d_X_flip_37 (bz_nz _) rfl (hP.sub [0, 1, 2] rfl) (hD.sub [0, 1, 2] (by decide) rfl) hS
    · refine lv_iconst (v := nI 0) hx hb d_X_flip_14 (by decide) ?_
      have hk := lok_no2 (cnt := cnt) hk2 (by omega)
      rw [ldt_no hk, hk] at hret
      refine tpi (z := (bz false)) rfl ?_
      exact hret _ _ _ _ _ () d_X_flip_15 (bz_nz _) rfl (hP.sub [0, 1, 2] rfl) (hD.sub [0, 1, 2] (by decide) rfl) hS

set_option maxHeartbeats 4000000 in
set_option maxRecDepth 100000 in
theorem c_X_kind (l : Launch) (D : va_G) (cL cB cI : ClassId) (x0 k0 t0 p0 b0 r0 cnt n : Nat) (po fi la : BitVec 64) (d o : Bool) (f : Nat → Int64) (wd : Int32) (P1 F1 : BitVec 64) (d1 o1 : Bool) (L1 : BitVec 64) (sz : Nat) (hf : ∀ b, b < 2048 → f b = lB (q_tab d (q_sd d n po) b)) : Met l y_X_kind (Cond.code y_X_kind b_X_kind 10 (some .boolean) :: g_tbl) (rmA 6 2 2056 147) (MuP D cL cB cI [(x0, .inr (2, xf k0 p0 b0 r0 cnt)), (k0, .inr (0, kf n po fi la d o t0)), (t0, .inl (cL, 2048, .inr (.inl f)))] sz [.ref x0, .int wd, .long (lB P1), .long (lB F1), .int (bz d1), .int (bz o1), .long (lB L1)]) (va_Qi (S := ((Nat × Nat × (Nat → Int64)) × (Nat × BitVec 64 × BitVec 64 × BitVec 64 × Bool × Bool))) (fun r u => r = bz (q_kok wd) ∧ q_kp wd (wd.toNatClampNeg, P1 &&& q_mk wd.toNatClampNeg, F1 &&& q_mk wd.toNatClampNeg, L1 &&& q_mk wd.toNatClampNeg, d1, o1) (n, po, fi, la, d, o) u.2 ∧ ∀ b, b < 2048 → u.1.2.2 b = lB (q_tab u.2.2.2.2.2.1 (q_sd u.2.2.2.2.2.1 u.2.1 u.2.2.1) b)) (MuB D [(x0, .inr (2, xf k0 p0 b0 r0 cnt)), (k0, .inr (0, kf n po fi la d o t0)), (t0, .inl (cL, 2048, .inr (.inl f)))] sz (fun u => match u with | ((k0, t0, f), (n, po, fi, la, d, o)) => [(x0, .inr (2, xf k0 p0 b0 r0 cnt)), (k0, .inr (0, kf n po fi la d o t0)), (t0, .inl (cL, 2048, .inr (.inl f)))])) (va_A [(x0, .inr (2, xf k0 p0 b0 r0 cnt)), (k0, .inr (0, kf n po fi la d o t0)), (t0, .inl (cL, 2048, .inr (.inl f)))] sz)) 2 2056 (va_A [(x0, .inr (2, xf k0 p0 b0 r0 cnt)), (k0, .inr (0, kf n po fi la d o t0)), (t0, .inl (cL, 2048, .inr (.inl f)))] sz) := by
  refine mu_startZ sz (by decide) (Nat.le_of_ble_eq_true rfl) ?_
  intro p e s m below meth c ls Q A F hnm hP hK hD hA hl hret
  have hx := F.1
  have hb := F.2.1
  have hown := F.2.2.2.1
  have hT := F.2.2.2.2
  have hS : va_S A s.heap s.heap [] := va_S.rf
  have hl : lv_has ls 10 [(0, .ref x0), (1, .int wd), (2, .long (lB P1)), (4, .long (lB F1)), (6, .int (bz d1)), (7, .int (bz o1)), (8, .long (lB L1))] := hl
  refine lv_iload_n hx hb d_X_kind_0 rfl (lv_at hl 1 rfl) ?_
  refine lv_iconst (v := nI 1) hx hb d_X_kind_1 (by decide) ?_
  refine lv_bipush (v := nI 64) hx hb d_X_kind_2 (by decide) ?_
  refine roSI (rest := []) F (c_X_within l D cL cB cI wd (nI 1) (nI 64)) k_X_within ml_X_37 ⟨rfl, rfl, by decide, by decide⟩ hK hP hS (hP.sub [] rfl) rfl hl.1 rfl (Nat.le_of_ble_eq_true rfl) d_X_kind_4 ⟨Nat.le_of_ble_eq_true rfl, Nat.le_of_ble_eq_true rfl⟩ (fun H locs hP hS => ?_)
  refine bz_ifne (b := (q_in wd (nI 1) (nI 64))) (tgt := 12) hx hb d_X_kind_7 (by decide) (fun hc => ?_) (fun hc => ?_)
  · have hok : q_kok wd = true := hc
    obtain ⟨k, hk1, hk2, rfl⟩ := kok_of (in_yes hc).1 (in_yes hc).2
    refine lv_aload_n hx hb d_X_kind_12 rfl (lv_at hl 0 rfl) ?_
    refine va_new (D := D) (cl := classes) (ci := 0) (fs := [.int 0, .long 0, .long 0, .long 0, .long 0, .int 0, .int 0, .null]) (C := R_K) (T := F_K) (N := 8) hx hb hT i_K t_K t_K_ok hown (hT _ cl_X_7) (hT _ st_K) (hT _ in_K) hK.1 hP hD hS hA rfl (fun j hj => by rcases (show j = 0 ∨ j = 1 ∨ j = 2 ∨ j = 3 ∨ j = 4 ∨ j = 5 ∨ j = 6 ∨ j = 7 by omega) with rfl | rfl | rfl | rfl | rfl | rfl | rfl | rfl <;> rfl) (Nat.le_of_ble_eq_true rfl) (Nat.le_of_ble_eq_true rfl) d_X_kind_13 (fun k1 H hP hD hS => ?_)
    have hP : va_P D classes [(x0, .inr (2, xf k0 p0 b0 r0 cnt)), (k0, .inr (0, kf n po fi la d o t0)), (t0, .inl (cL, 2048, .inr (.inl f))), (k1, .inr (0, [.int 0, .long 0, .long 0, .long 0, .long 0, .int 0, .int 0, .null]))] H := hP
    have hD : va_D A [(x0, .inr (2, xf k0 p0 b0 r0 cnt)), (k0, .inr (0, kf n po fi la d o t0)), (t0, .inl (cL, 2048, .inr (.inl f))), (k1, .inr (0, [.int 0, .long 0, .long 0, .long 0, .long 0, .int 0, .int 0, .null]))] := hD
    refine lv_dup hx hb d_X_kind_16 rfl ?_
    refine lv_iload_n hx hb d_X_kind_17 rfl (lv_at hl 1 rfl) ?_
    refine lv_lload_n hx hb d_X_kind_18 rfl (lv_at hl 2 rfl) ?_
    refine lv_lload hx hb d_X_kind_19 (lv_at hl 3 rfl) ?_
    refine lv_iload hx hb d_X_kind_21 (lv_at hl 4 rfl) ?_
    refine lv_iload hx hb d_X_kind_23 (lv_at hl 5 rfl) ?_
    refine lv_lload hx hb d_X_kind_25 (lv_at hl 6 rfl) ?_
    refine kk_muV (wr := [(x0, .inr (2, xf k0 p0 b0 r0 cnt)), (k0, .inr (0, kf n po fi la d o t0)), (t0, .inl (cL, 2048, .inr (.inl f)))]) (run_muI (rest := [.ref k1, .ref x0]) F (c_K_init l D cL cB cI k1 k P1 F1 d1 o1 L1 _ ⟨hk1, hk2⟩) k_K_init ml_X_13 ⟨rfl, rfl, by decide, by decide⟩ hK (hP.sub [3] rfl) (hD.sub [3] (by decide) rfl) rfl hl.1 rfl (Nat.le_of_ble_eq_true rfl) d_X_kind_27 ⟨Nat.le_of_ble_eq_true rfl, Nat.le_of_ble_eq_true rfl⟩) hS hP hD hA [3] [0, 1, 2] rfl rfl (by decide) (by decide) (fun u H locs hw hP hD hS => ?_)
    obtain ⟨t1, f1⟩ := u
    have hP : va_P D classes [(x0, .inr (2, xf k0 p0 b0 r0 cnt)), (k0, .inr (0, kf n po fi la d o t0)), (t0, .inl (cL, 2048, .inr (.inl f))), (k1, .inr (0, kf k (P1 &&& q_mk k) (F1 &&& q_mk k) (L1 &&& q_mk k) d1 o1 t1)), (t1, .inl (cL, 2048, .inr (.inl f1)))] H := hP
    have hD : va_D A [(x0, .inr (2, xf k0 p0 b0 r0 cnt)), (k0, .inr (0, kf n po fi la d o t0)), (t0, .inl (cL, 2048, .inr (.inl f))), (k1, .inr (0, kf k (P1 &&& q_mk k) (F1 &&& q_mk k) (L1 &&& q_mk k) d1 o1 t1)), (t1, .inl (cL, 2048, .inr (.inl f1)))] := hD
    refine pf_X_16 F hK hP hD hS 0 rfl rfl rfl (Nat.le_of_ble_eq_true rfl) d_X_kind_30 (fun H locs hP hD hS => ?_)
    have hP : va_P D classes [(x0, .inr (2, xf k1 p0 b0 r0 cnt)), (k0, .inr (0, kf n po fi la d o t0)), (t0, .inl (cL, 2048, .inr (.inl f))), (k1, .inr (0, kf k (P1 &&& q_mk k) (F1 &&& q_mk k) (L1 &&& q_mk k) d1 o1 t1)), (t1, .inl (cL, 2048, .inr (.inl f1)))] H := hP
    have hD : va_D A [(x0, .inr (2, xf k1 p0 b0 r0 cnt)), (k0, .inr (0, kf n po fi la d o t0)), (t0, .inl (cL, 2048, .inr (.inl f))), (k1, .inr (0, kf k (P1 &&& q_mk k) (F1 &&& q_mk k) (L1 &&& q_mk k) d1 o1 t1)), (t1, .inl (cL, 2048, .inr (.inl f1)))] := hD
    have hP := hP.sub (ws' := [(x0, .inr (2, xf k1 p0 b0 r0 cnt)), (k1, .inr (0, kf k (P1 &&& q_mk k) (F1 &&& q_mk k) (L1 &&& q_mk k) d1 o1 t1)), (t1, .inl (cL, 2048, .inr (.inl f1)))]) [0, 3, 4] rfl
    have hD := hD.sub (ws' := [(x0, .inr (2, xf k1 p0 b0 r0 cnt)), (k1, .inr (0, kf k (P1 &&& q_mk k) (F1 &&& q_mk k) (L1 &&& q_mk k) d1 o1 t1)), (t1, .inl (cL, 2048, .inr (.inl f1)))]) [0, 3, 4] (by decide) rfl
    refine lv_iconst (v := nI 1) hx hb d_X_kind_33 (by decide) ?_
    refine tpi (z := (bz true)) rfl ?_
    exact hret _ _ _ _ _ ((k1, t1, f1), (k, P1 &&& q_mk k, F1 &&& q_mk k, L1 &&& q_mk k, d1, o1)) d_X_kind_34 (bz_nz _) ⟨by rw [hok], ⟨fun _ => by rw [nI_clamp (by omega)], fun q => absurd (hok ▸ q) (by decide)⟩, hw⟩ (hP.sub [0, 1, 2] rfl) (hD.sub [0, 1, 2] (by decide) rfl) hS
  · have hk : q_kok wd = false := hc
    refine lv_iconst (v := nI 0) hx hb d_X_kind_10 (by decide) ?_
    refine W.widen (k := 2) (n := 2056) (Nat.le_of_ble_eq_true rfl) (Nat.le_of_ble_eq_true rfl) ?_
    refine tpi (z := (bz false)) rfl ?_
    exact hret _ _ _ _ _ ((k0, t0, f), (n, po, fi, la, d, o)) d_X_kind_11 (bz_nz _) ⟨by rw [hk], ⟨fun q => absurd (hk ▸ q) (by decide), fun _ => rfl⟩, hf⟩ (hP.sub [0, 1, 2] rfl) (hD.sub [0, 1, 2] (by decide) rfl) hS

set_option maxHeartbeats 4000000 in
set_option maxRecDepth 100000 in
theorem c_X_init (l : Launch) (D : va_G) (cL cB cI : ClassId) (x0 : Nat) (sz : Nat)  : Met l y_X_init (Cond.code y_X_init b_X_init 1 none :: g_tbl) (rmA 6 7 47250 147) (MuP D cL cB cI [(x0, .inr (2, [.null, .null, .null, .null, .int 0]))] sz [.ref x0]) (va_Qv (S := ((Nat × Nat × (Nat → Int64)) × Nat × Nat × Nat × Nat × Nat)) (fun u => ∀ b, b < 2048 → u.1.2.2 b = lB (q_tab true (q_sd true 32 79764919#64) b)) (MuB D [(x0, .inr (2, [.null, .null, .null, .null, .int 0]))] sz (fun u => match u with | ((k0, t0, f), p0, n0, s0, b0, r0) => [(x0, .inr (2, xf k0 p0 b0 r0 0)), (k0, .inr (0, kf 32 79764919#64 4294967295#64 4294967295#64 true true t0)), (t0, .inl (cL, 2048, .inr (.inl f))), (b0, .inl (cB, 5000, .inl (fun _ => sb 0))), (r0, .inl (cB, 40064, .inl (fun _ => sb 0))), (p0, .inr (1, [.ref n0, .ref s0])), (n0, .inl (cL, 64, .inr (.inl (fun _ => 0)))), (s0, .inl (cL, 64, .inr (.inl (fun _ => 0))))])) (va_A [(x0, .inr (2, [.null, .null, .null, .null, .int 0]))] sz)) 7 47250 (va_A [(x0, .inr (2, [.null, .null, .null, .null, .int 0]))] sz) := by
  refine mu_startV sz (by decide) (Nat.le_of_ble_eq_true rfl) ?_
  intro p e s m below meth c ls Q A F hnm hP hK hD hA hl hret
  have hx := F.1
  have hb := F.2.1
  have hown := F.2.2.2.1
  have hT := F.2.2.2.2
  have hS : va_S A s.heap s.heap [] := va_S.rf
  have hl : lv_has ls 1 [(0, .ref x0)] := hl
  refine lv_aload_n hx hb d_X_init_0 rfl (lv_at hl 0 rfl) ?_
  refine W.objInit hx hb hown (hT _ ml_X_1) (hT _ im_O_init) (hT _ cd_O_init) rfl (by rw [F.2.2.1]; exact hl.1) rfl d_X_init_1 (Nat.le_of_ble_eq_true rfl) (Nat.le_of_ble_eq_true rfl) ?_
  refine W.eq (g2 := F0 m 4 ls []) rfl ?_
  refine lv_aload_n hx hb d_X_init_4 rfl (lv_at hl 0 rfl) ?_
  refine va_new (D := D) (cl := classes) (ci := 0) (fs := [.int 0, .long 0, .long 0, .long 0, .long 0, .int 0, .int 0, .null]) (C := R_K) (T := F_K) (N := 8) hx hb hT i_K t_K t_K_ok hown (hT _ cl_X_7) (hT _ st_K) (hT _ in_K) hK.1 hP hD hS hA rfl (fun j hj => by rcases (show j = 0 ∨ j = 1 ∨ j = 2 ∨ j = 3 ∨ j = 4 ∨ j = 5 ∨ j = 6 ∨ j = 7 by omega) with rfl | rfl | rfl | rfl | rfl | rfl | rfl | rfl <;> rfl) (Nat.le_of_ble_eq_true rfl) (Nat.le_of_ble_eq_true rfl) d_X_init_5 (fun k0 H hP hD hS => ?_)
  have hP : va_P D classes [(x0, .inr (2, [.null, .null, .null, .null, .int 0])), (k0, .inr (0, [.int 0, .long 0, .long 0, .long 0, .long 0, .int 0, .int 0, .null]))] H := hP
  have hD : va_D A [(x0, .inr (2, [.null, .null, .null, .null, .int 0])), (k0, .inr (0, [.int 0, .long 0, .long 0, .long 0, .long 0, .int 0, .int 0, .null]))] := hD
  refine lv_dup hx hb d_X_init_8 rfl ?_
  refine lv_bipush (v := nI 32) hx hb d_X_init_9 (by decide) ?_
  refine lv_ldc2 hx hb hown (hT _ cj_X_9) d_X_init_11 ?_
  refine tpl (z := lB 79764919#64) (by decide) ?_
  refine lv_ldc2 hx hb hown (hT _ cj_X_11) d_X_init_14 ?_
  refine tpl (z := lB 18446744073709551615#64) (by decide) ?_
  refine lv_iconst (v := nI 1) hx hb d_X_init_17 (by decide) ?_
  refine lv_iconst (v := nI 1) hx hb d_X_init_18 (by decide) ?_
  refine lv_ldc2 hx hb hown (hT _ cj_X_11) d_X_init_19 ?_
  refine tpl (z := lB 18446744073709551615#64) (by decide) ?_
  refine kk_muV (wr := [(x0, .inr (2, [.null, .null, .null, .null, .int 0]))]) (run_muI (rest := [.ref k0, .ref x0]) F (c_K_init l D cL cB cI k0 32 79764919#64 18446744073709551615#64 true true 18446744073709551615#64 _ (by decide)) k_K_init ml_X_13 ⟨rfl, rfl, by decide, by decide⟩ hK (hP.sub [1] rfl) (hD.sub [1] (by decide) rfl) rfl hl.1 rfl (Nat.le_of_ble_eq_true rfl) d_X_init_22 ⟨Nat.le_of_ble_eq_true rfl, Nat.le_of_ble_eq_true rfl⟩) hS hP hD hA [1] [0] rfl rfl (by decide) (by decide) (fun u H locs hw hP hD hS => ?_)
  obtain ⟨t0, f⟩ := u
  have hw : ∀ b, b < 2048 → f b = lB (q_tab true (q_sd true 32 (79764919#64 &&& q_mk 32)) b) := hw
  rw [show 79764919#64 &&& q_mk 32 = 79764919#64 by decide] at hw
  have hP : va_P D classes [(x0, .inr (2, [.null, .null, .null, .null, .int 0])), (k0, .inr (0, kf 32 (79764919#64 &&& q_mk 32) (18446744073709551615#64 &&& q_mk 32) (18446744073709551615#64 &&& q_mk 32) true true t0)), (t0, .inl (cL, 2048, .inr (.inl f)))] H := hP
  have hD : va_D A [(x0, .inr (2, [.null, .null, .null, .null, .int 0])), (k0, .inr (0, kf 32 (79764919#64 &&& q_mk 32) (18446744073709551615#64 &&& q_mk 32) (18446744073709551615#64 &&& q_mk 32) true true t0)), (t0, .inl (cL, 2048, .inr (.inl f)))] := hD
  rw [show 79764919#64 &&& q_mk 32 = 79764919#64 by decide, show 18446744073709551615#64 &&& q_mk 32 = 4294967295#64 by decide] at hP hD
  refine pf_X_16 F hK hP hD hS 0 rfl rfl rfl (Nat.le_of_ble_eq_true rfl) d_X_init_25 (fun H locs hP hD hS => ?_)
  have hP : va_P D classes [(x0, .inr (2, [.ref k0, .null, .null, .null, .int 0])), (k0, .inr (0, kf 32 79764919#64 4294967295#64 4294967295#64 true true t0)), (t0, .inl (cL, 2048, .inr (.inl f)))] H := hP
  have hD : va_D A [(x0, .inr (2, [.ref k0, .null, .null, .null, .int 0])), (k0, .inr (0, kf 32 79764919#64 4294967295#64 4294967295#64 true true t0)), (t0, .inl (cL, 2048, .inr (.inl f)))] := hD
  refine lv_aload_n hx hb d_X_init_28 rfl (lv_at hl 0 rfl) ?_
  refine va_new (D := D) (cl := classes) (ci := 1) (fs := [.null, .null]) (C := R_P) (T := F_P) (N := 2) hx hb hT i_P t_P t_P_ok hown (hT _ cl_X_22) (hT _ st_P) (hT _ in_P) hK.1 hP hD hS hA rfl (fun j hj => by rcases (show j = 0 ∨ j = 1 by omega) with rfl | rfl <;> rfl) (Nat.le_of_ble_eq_true rfl) (Nat.le_of_ble_eq_true rfl) d_X_init_29 (fun p0 H hP hD hS => ?_)
  have hP : va_P D classes [(x0, .inr (2, [.ref k0, .null, .null, .null, .int 0])), (k0, .inr (0, kf 32 79764919#64 4294967295#64 4294967295#64 true true t0)), (t0, .inl (cL, 2048, .inr (.inl f))), (p0, .inr (1, [.null, .null]))] H := hP
  have hD : va_D A [(x0, .inr (2, [.ref k0, .null, .null, .null, .int 0])), (k0, .inr (0, kf 32 79764919#64 4294967295#64 4294967295#64 true true t0)), (t0, .inl (cL, 2048, .inr (.inl f))), (p0, .inr (1, [.null, .null]))] := hD
  refine lv_dup hx hb d_X_init_32 rfl ?_
  refine kk_muV (wr := [(x0, .inr (2, [.ref k0, .null, .null, .null, .int 0])), (k0, .inr (0, kf 32 79764919#64 4294967295#64 4294967295#64 true true t0)), (t0, .inl (cL, 2048, .inr (.inl f)))]) (run_muIN (rest := [.ref p0, .ref x0]) F (c_P_init l D cL cB cI p0 _) k_P_init mln_X_24 ⟨rfl, rfl, by decide, by decide⟩ hK (hP.sub [3] rfl) (hD.sub [3] (by decide) rfl) rfl hl.1 rfl (Nat.le_of_ble_eq_true rfl) d_X_init_33 ⟨Nat.le_of_ble_eq_true rfl, Nat.le_of_ble_eq_true rfl⟩) hS hP hD hA [3] [0, 1, 2] rfl rfl (by decide) (by decide) (fun u H locs _ hP hD hS => ?_)
  obtain ⟨n0, s0⟩ := u
  have hP : va_P D classes [(x0, .inr (2, [.ref k0, .null, .null, .null, .int 0])), (k0, .inr (0, kf 32 79764919#64 4294967295#64 4294967295#64 true true t0)), (t0, .inl (cL, 2048, .inr (.inl f))), (p0, .inr (1, [.ref n0, .ref s0])), (n0, .inl (cL, 64, .inr (.inl (fun _ => 0)))), (s0, .inl (cL, 64, .inr (.inl (fun _ => 0))))] H := hP
  have hD : va_D A [(x0, .inr (2, [.ref k0, .null, .null, .null, .int 0])), (k0, .inr (0, kf 32 79764919#64 4294967295#64 4294967295#64 true true t0)), (t0, .inl (cL, 2048, .inr (.inl f))), (p0, .inr (1, [.ref n0, .ref s0])), (n0, .inl (cL, 64, .inr (.inl (fun _ => 0)))), (s0, .inl (cL, 64, .inr (.inl (fun _ => 0))))] := hD
  refine pf_X_25 F hnm hK hP hD hS 0 rfl rfl rfl (Nat.le_of_ble_eq_true rfl) d_X_init_36 (fun H locs hP hD hS => ?_)
  have hP : va_P D classes [(x0, .inr (2, [.ref k0, .ref p0, .null, .null, .int 0])), (k0, .inr (0, kf 32 79764919#64 4294967295#64 4294967295#64 true true t0)), (t0, .inl (cL, 2048, .inr (.inl f))), (p0, .inr (1, [.ref n0, .ref s0])), (n0, .inl (cL, 64, .inr (.inl (fun _ => 0)))), (s0, .inl (cL, 64, .inr (.inl (fun _ => 0))))] H := hP
  have hD : va_D A [(x0, .inr (2, [.ref k0, .ref p0, .null, .null, .int 0])), (k0, .inr (0, kf 32 79764919#64 4294967295#64 4294967295#64 true true t0)), (t0, .inl (cL, 2048, .inr (.inl f))), (p0, .inr (1, [.ref n0, .ref s0])), (n0, .inl (cL, 64, .inr (.inl (fun _ => 0)))), (s0, .inl (cL, 64, .inr (.inl (fun _ => 0))))] := hD
  refine lv_aload_n hx hb d_X_init_39 rfl (lv_at hl 0 rfl) ?_
  refine lv_sipush (v := nI 5000) hx hb d_X_init_40 (by decide) ?_
  refine nw_arr (cL := cL) (cB := cB) (cI := cI) (N := 5000) (a0 := (5000, .inl (fun _ => sb 0))) hx hb hT 1 rfl rfl ac_byte hK hP hD hS hA (fun _ => rfl) (by decide) (by decide) (by decide) (Nat.le_of_ble_eq_true rfl) (Nat.le_of_ble_eq_true rfl) d_X_init_43 (fun b0 H hP hD hS => ?_)
  have hP : va_P D classes [(x0, .inr (2, [.ref k0, .ref p0, .null, .null, .int 0])), (k0, .inr (0, kf 32 79764919#64 4294967295#64 4294967295#64 true true t0)), (t0, .inl (cL, 2048, .inr (.inl f))), (p0, .inr (1, [.ref n0, .ref s0])), (n0, .inl (cL, 64, .inr (.inl (fun _ => 0)))), (s0, .inl (cL, 64, .inr (.inl (fun _ => 0)))), (b0, .inl (cB, 5000, .inl (fun _ => sb 0)))] H := hP
  have hD : va_D A [(x0, .inr (2, [.ref k0, .ref p0, .null, .null, .int 0])), (k0, .inr (0, kf 32 79764919#64 4294967295#64 4294967295#64 true true t0)), (t0, .inl (cL, 2048, .inr (.inl f))), (p0, .inr (1, [.ref n0, .ref s0])), (n0, .inl (cL, 64, .inr (.inl (fun _ => 0)))), (s0, .inl (cL, 64, .inr (.inl (fun _ => 0)))), (b0, .inl (cB, 5000, .inl (fun _ => sb 0)))] := hD
  refine pf_X_29 F hnm hK hP hD hS 0 rfl rfl rfl (Nat.le_of_ble_eq_true rfl) d_X_init_45 (fun H locs hP hD hS => ?_)
  have hP : va_P D classes [(x0, .inr (2, [.ref k0, .ref p0, .ref b0, .null, .int 0])), (k0, .inr (0, kf 32 79764919#64 4294967295#64 4294967295#64 true true t0)), (t0, .inl (cL, 2048, .inr (.inl f))), (p0, .inr (1, [.ref n0, .ref s0])), (n0, .inl (cL, 64, .inr (.inl (fun _ => 0)))), (s0, .inl (cL, 64, .inr (.inl (fun _ => 0)))), (b0, .inl (cB, 5000, .inl (fun _ => sb 0)))] H := hP
  have hD : va_D A [(x0, .inr (2, [.ref k0, .ref p0, .ref b0, .null, .int 0])), (k0, .inr (0, kf 32 79764919#64 4294967295#64 4294967295#64 true true t0)), (t0, .inl (cL, 2048, .inr (.inl f))), (p0, .inr (1, [.ref n0, .ref s0])), (n0, .inl (cL, 64, .inr (.inl (fun _ => 0)))), (s0, .inl (cL, 64, .inr (.inl (fun _ => 0)))), (b0, .inl (cB, 5000, .inl (fun _ => sb 0)))] := hD
  refine lv_aload_n hx hb d_X_init_48 rfl (lv_at hl 0 rfl) ?_
  refine lv_ldc hx hb hown (hT _ ci_X_33) d_X_init_49 ?_
  refine tpi (z := nI 40064) (by decide) ?_
  refine nw_arr (cL := cL) (cB := cB) (cI := cI) (N := 40064) (a0 := (40064, .inl (fun _ => sb 0))) hx hb hT 1 rfl rfl ac_byte hK hP hD hS hA (fun _ => rfl) (by decide) (by decide) (by decide) (Nat.le_of_ble_eq_true rfl) (Nat.le_of_ble_eq_true rfl) d_X_init_51 (fun r0 H hP hD hS => ?_)
  have hP : va_P D classes [(x0, .inr (2, [.ref k0, .ref p0, .ref b0, .null, .int 0])), (k0, .inr (0, kf 32 79764919#64 4294967295#64 4294967295#64 true true t0)), (t0, .inl (cL, 2048, .inr (.inl f))), (p0, .inr (1, [.ref n0, .ref s0])), (n0, .inl (cL, 64, .inr (.inl (fun _ => 0)))), (s0, .inl (cL, 64, .inr (.inl (fun _ => 0)))), (b0, .inl (cB, 5000, .inl (fun _ => sb 0))), (r0, .inl (cB, 40064, .inl (fun _ => sb 0)))] H := hP
  have hD : va_D A [(x0, .inr (2, [.ref k0, .ref p0, .ref b0, .null, .int 0])), (k0, .inr (0, kf 32 79764919#64 4294967295#64 4294967295#64 true true t0)), (t0, .inl (cL, 2048, .inr (.inl f))), (p0, .inr (1, [.ref n0, .ref s0])), (n0, .inl (cL, 64, .inr (.inl (fun _ => 0)))), (s0, .inl (cL, 64, .inr (.inl (fun _ => 0)))), (b0, .inl (cB, 5000, .inl (fun _ => sb 0))), (r0, .inl (cB, 40064, .inl (fun _ => sb 0)))] := hD
  refine pf_X_34 F hnm hK hP hD hS 0 rfl rfl rfl (Nat.le_of_ble_eq_true rfl) d_X_init_53 (fun H locs hP hD hS => ?_)
  have hP : va_P D classes [(x0, .inr (2, [.ref k0, .ref p0, .ref b0, .ref r0, .int 0])), (k0, .inr (0, kf 32 79764919#64 4294967295#64 4294967295#64 true true t0)), (t0, .inl (cL, 2048, .inr (.inl f))), (p0, .inr (1, [.ref n0, .ref s0])), (n0, .inl (cL, 64, .inr (.inl (fun _ => 0)))), (s0, .inl (cL, 64, .inr (.inl (fun _ => 0)))), (b0, .inl (cB, 5000, .inl (fun _ => sb 0))), (r0, .inl (cB, 40064, .inl (fun _ => sb 0)))] H := hP
  have hD : va_D A [(x0, .inr (2, [.ref k0, .ref p0, .ref b0, .ref r0, .int 0])), (k0, .inr (0, kf 32 79764919#64 4294967295#64 4294967295#64 true true t0)), (t0, .inl (cL, 2048, .inr (.inl f))), (p0, .inr (1, [.ref n0, .ref s0])), (n0, .inl (cL, 64, .inr (.inl (fun _ => 0)))), (s0, .inl (cL, 64, .inr (.inl (fun _ => 0)))), (b0, .inl (cB, 5000, .inl (fun _ => sb 0))), (r0, .inl (cB, 40064, .inl (fun _ => sb 0)))] := hD
  have hP := hP.sub (ws' := [(x0, .inr (2, [.ref k0, .ref p0, .ref b0, .ref r0, .int 0])), (k0, .inr (0, kf 32 79764919#64 4294967295#64 4294967295#64 true true t0)), (t0, .inl (cL, 2048, .inr (.inl f))), (b0, .inl (cB, 5000, .inl (fun _ => sb 0))), (r0, .inl (cB, 40064, .inl (fun _ => sb 0))), (p0, .inr (1, [.ref n0, .ref s0])), (n0, .inl (cL, 64, .inr (.inl (fun _ => 0)))), (s0, .inl (cL, 64, .inr (.inl (fun _ => 0))))]) [0, 1, 2, 6, 7, 3, 4, 5] rfl
  have hD := hD.sub (ws' := [(x0, .inr (2, [.ref k0, .ref p0, .ref b0, .ref r0, .int 0])), (k0, .inr (0, kf 32 79764919#64 4294967295#64 4294967295#64 true true t0)), (t0, .inl (cL, 2048, .inr (.inl f))), (b0, .inl (cB, 5000, .inl (fun _ => sb 0))), (r0, .inl (cB, 40064, .inl (fun _ => sb 0))), (p0, .inr (1, [.ref n0, .ref s0])), (n0, .inl (cL, 64, .inr (.inl (fun _ => 0)))), (s0, .inl (cL, 64, .inr (.inl (fun _ => 0))))]) [0, 1, 2, 6, 7, 3, 4, 5] (by decide) rfl
  exact hret _ _ _ _ ((k0, t0, f), p0, n0, s0, b0, r0) d_X_init_56 hw (hP.sub [0, 1, 2, 3, 4, 5, 6, 7] rfl) (hD.sub [0, 1, 2, 3, 4, 5, 6, 7] (by decide) rfl) hS
end
section
def lw_P (b : Addr) (xs : List Int32) (args : Array Value) (s : State) : Prop := args = #[.ref b] ∧ s.IntsAt b xs ∧ xs.length ≤ 5120 ∧ (Jvm.Cond.and given_1 narrow_1).before args s = true
def lw_Q (_ : Array Value) (s : State) (o : Outcome) (t : State) : Prop := o = .returned (some (.int 1)) ∧ Framed s o t [] 600000 7302249
def lw_Z (below : List Frame) (a : Array Value) (s : State) : State → Prop := fun t => ∃ o, t.status = .running ∧ Ended t below o ∧ lw_Q a s o t
/-- the law's own end, with 1 on the stack, nothing written that was there before, its room as the claim has it -/
theorem lw_ret {p : Program} {l : Launch} {e : Env} {s : State} {m : MethodId} {below : List Frame} {meth : Method} {c : Code} {b : Nat} (hx : p.tables.exec = Jvm.exec) (hb : c.code = code) (hr : meth.sig.returnType = ret) (hlocks : meth.locks = false) {pc : Nat} {H : Heap} {ls : Array Slot} (hdg : decode code pc = .ok (.ireturn, 1)) : W p l e room_1 s m #[Value.ref b] below meth c H [] 600000 7302249 (lw_Z below #[Value.ref b] s) (F0 m pc ls [.int 1]) := by
  intro T hT X
  obtain ⟨fs, hret, hrun, hended, hW, hframe⟩ := X.leave (v := some (.int 1)) (hlocks := hlocks) (fun h => by rw [hr] at h; cases h)
  have hmeth' : T.vm.method? m = some meth := X.method'
  refine ⟨T.setFrames fs, ?_, .returned (some (.int 1)), hrun, hended, rfl, ⟨_, rfl⟩, hW, hframe⟩
  jvm_step X.here [X.here.top, hx, hb, hdg, hmeth', hr, ret, narrow_b1]
  (try refine ⟨rfl, ?_⟩); (try refine ⟨rfl, ?_⟩)
  first | (intro acts; rw [hret _ acts rfl rfl rfl]) | rw [hret _ _ rfl rfl rfl]
  exact Steps.refl _
/-- what holds at the law's entry: the machine, the code, the tables' words (any of lw_tbl by 'hts w (by decide +kernel)'), the script of L ints xs at the cell b, what the Statement gives of the start (any of its parts by flat_of_before) -/
def lw_At (p : Program) (s : State) (m : MethodId) (meth : Method) (c : Code) (b L : Nat) (xs : Nat → Int32) : Prop :=
  p.tables.exec = Jvm.exec ∧ c.code = code ∧ meth.sig.returnType = ret ∧ c.maxLocals = 4 ∧ s.vm.findClass R_law = some m.cls ∧ (∀ w ∈ lw_tbl, w.before #[Value.ref b] s = true) ∧ va_X b L xs s s.heap ∧ b < s.heap.size ∧ meth.locks = false ∧ (Jvm.Cond.and given_1 narrow_1).before #[Value.ref b] s = true
abbrev lw_W (cL cB cI : ClassId) (x0 k0 t0 p0 b0 r0 n0 s0 m0 mb cnt n : Nat) (po fi la : BitVec 64) (d o : Bool) (f : Nat → Int64) (dt : Nat → Nat) (rf : Nat → Int32) (nf sf : Nat → Int64) : va_W := [(x0, .inr (2, xf k0 p0 b0 r0 cnt)), (k0, .inr (0, kf n po fi la d o t0)), (t0, .inl (cL, 2048, .inr (.inl f))), (b0, .inl (cB, 5000, .inl (fun j => sb (dt j)))), (r0, .inl (cB, 40064, .inl rf)), (p0, .inr (1, [.ref n0, .ref s0])), (n0, .inl (cL, 64, .inr (.inl nf))), (s0, .inl (cL, 64, .inr (.inl sf))), (m0, .inr (3, mf n po fi la d o mb cnt)), (mb, .inl (cI, 5000, .inl (fun j => nI (dt j))))]
/-- what holds of the numbers between two calls -/
def lw_ok (cnt n : Nat) (po fi la : BitVec 64) (d : Bool) (f : Nat → Int64) (dt : Nat → Nat) : Prop := (1 ≤ n ∧ n ≤ 64) ∧ q_M n po ∧ q_M n fi ∧ q_M n la ∧ (∀ b, b < 2048 → f b = lB (q_tab d (q_sd d n po) b)) ∧ (∀ j, dt j < 256) ∧ cnt ≤ 5000
/-- the law's loop goes on from its head, i rounds done -/
def lw_next (p : Program) (l : Launch) (e : Env) (s : State) (m : MethodId) (below : List Frame) (meth : Method) (c : Code) (D : va_G) (cL cB cI : ClassId) (A : Nat → Prop) (b i : Nat) : Prop := ∀ (x0 k0 t0 p0 b0 r0 n0 s0 m0 mb cnt n : Nat) (po fi la : BitVec 64) (d o : Bool) (f : Nat → Int64) (dt : Nat → Nat) (rf : Nat → Int32) (nf sf : Nat → Int64), lw_ok cnt n po fi la d f dt → ∀ (ls : Array Slot) (H : Heap) (locs : List Loc), va_P D classes (lw_W cL cB cI x0 k0 t0 p0 b0 r0 n0 s0 m0 mb cnt n po fi la d o f dt rf nf sf) H → va_D A (lw_W cL cB cI x0 k0 t0 p0 b0 r0 n0 s0 m0 mb cnt n po fi la d o f dt rf nf sf) → va_S A s.heap H locs → lv_has ls 4 [(0, .ref b), (1, .ref x0), (2, .ref m0), (3, .int (nI (10 * i)))] → W p l e room_1 s m #[Value.ref b] below meth c H locs (10 + 2 * i) (52263 + 2056 * i) (lw_Z below #[Value.ref b] s) (F0 m 18 ls [])
/-- a long out of two ints of the script -/
def q_lg (h l : Int32) : BitVec 64 := (h.toInt64.toBitVec <<< 32) ||| (l.toInt64.toBitVec &&& 4294967295#64)
theorem kp_eq {U : Type} {wd : Int32} {new old u v : U} (h1 : q_kp wd new old u) (h2 : q_kp wd new old v) : v = u := by
  cases h : q_kok wd
  · rw [h1.2 h, h2.2 h]
  · rw [h1.1 h, h2.1 h]
theorem kok_n {wd : Int32} (h : q_kok wd = true) : 1 ≤ wd.toNatClampNeg ∧ wd.toNatClampNeg ≤ 64 := by
  have h1 : ¬ wd < nI 1 := by intro q; rw [kok_no1 q] at h; exact absurd h (by decide)
  have h2 : ¬ nI 64 < wd := by intro q; rw [kok_no2 q] at h; exact absurd h (by decide)
  obtain ⟨k, a, b, rfl⟩ := kok_of h1 h2
  rw [nI_clamp (by omega)]; exact ⟨a, b⟩
theorem kp_ok {wd : Int32} {n n1 : Nat} {po fi la P1 F1 L1 po1 fi1 la1 : BitVec 64} {d o d1 o1 d2 o2 : Bool} (h : q_kp wd (wd.toNatClampNeg, P1 &&& q_mk wd.toNatClampNeg, F1 &&& q_mk wd.toNatClampNeg, L1 &&& q_mk wd.toNatClampNeg, d1, o1) (n, po, fi, la, d, o) (n1, po1, fi1, la1, d2, o2)) (hn : 1 ≤ n ∧ n ≤ 64) (hp : q_M n po) (hfi : q_M n fi) (hla : q_M n la) : (1 ≤ n1 ∧ n1 ≤ 64) ∧ q_M n1 po1 ∧ q_M n1 fi1 ∧ q_M n1 la1 := by
  cases hk : q_kok wd
  · have e := h.2 hk
    cases e
    exact ⟨hn, hp, hfi, hla⟩
  · have e := h.1 hk
    cases e
    exact ⟨kok_n hk, M_and _, M_and _, M_and _⟩
theorem fdt_lt {dt : Nat → Nat} {cnt : Nat} {b t : Int32} (hd : ∀ j, dt j < 256) : ∀ j, s_fdt dt cnt b t j < 256 := by
  intro j
  cases h : q_fok cnt b t
  · rw [fdt_no h]; exact hd j
  · unfold s_fdt
    rw [h, if_pos rfl]
    unfold q_fill
    split
    · have h0 : ¬ b < 0 := by intro q; rw [fok_no1 q] at h; exact absurd h (by decide)
      have h2 : ¬ nI 255 < b := by intro q; rw [fok_no2 q] at h; exact absurd h (by decide)
      obtain ⟨k, hk, rfl⟩ := nI_of_le h0 (by decide) h2
      rw [nI_clamp (by omega)]; omega
    · exact hd j
theorem fcnt_le {cnt : Nat} {b t : Int32} (hc : cnt ≤ 5000) : s_fcnt cnt b t ≤ 5000 := by
  cases h : q_fok cnt b t
  · rw [fcnt_no h]; exact hc
  · unfold s_fcnt
    rw [h, if_pos rfl]
    have h3 : ¬ t < nI 1 := by intro q; rw [fok_no3 q] at h; exact absurd h (by decide)
    have h4 : ¬ nI (5000 - cnt) < t := by intro q; rw [fok_no4 q] at h; exact absurd h (by decide)
    obtain ⟨k, hk, rfl⟩ := nI_of_le (b := 5000 - cnt) (x := t) (fun q => h3 (Int32.lt_trans q (by decide))) (by omega) h4
    rw [nI_clamp (by omega)]; omega
theorem ldt_lt {d : Bool} {dt : Nat → Nat} {cnt : Nat} {i : Int32} (hd : ∀ j, dt j < 256) : ∀ j, s_ldt d dt cnt i j < 256 := by
  intro j
  unfold s_ldt
  split
  · show (if j = i.toNatClampNeg / 8 then dt j ^^^ 2 ^ q_pl d i.toNatClampNeg else dt j) < 256
    split
    · exact x_lt (hd j) (Nat.lt_of_lt_of_le (Nat.pow_lt_pow_right (by decide) (pl_lt d _)) (by decide : 2 ^ 8 ≤ 256))
    · exact hd j
  · exact hd j
theorem sub10 {L k : Nat} (hL : L ≤ 5120) (hk : k ≤ 6000) : nI L - nI 10 < nI k ↔ L < k + 10 := by
  rw [Int32.lt_iff_toInt_lt, pk_sub_toInt (by omega) (by decide), nI_toInt (by omega)]
  omega
section LWR
variable {p : Program} {l : Launch} {e : Env} {R : Room} {s : State} {m : MethodId} {args : Array Value} {below : List Frame} {meth : Method} {c : Code} {H : Heap} {locs : List Loc} {cells slots : Nat} {Q : State → Prop}
variable {cc : ByteArray} {pc : Nat} {ls : Array Slot} {rest : List Value} {A : Nat → Prop} {H0 : Heap}
theorem nt_sld (hx : p.tables.exec = Jvm.exec) (hb : c.code = cc) {b L : Nat} {xs : Nat → Int32} (hX : va_X b L xs s H0) (hbl : b < H0.size) (hbA : ¬ A b) (hS : va_S A H0 H locs) {j : Nat} (hj : j < L) (hL : L ≤ 5120) (hdg : decode cc pc = .ok (.iaload, 1)) (kk : W p l e R s m args below meth c H locs cells slots Q (F0 m (pc + 1) ls (.int (xs j) :: rest))) : W p l e R s m args below meth c H locs cells slots Q (F0 m pc ls (.int (nI j) :: .ref b :: rest)) := by
  refine va_sld hx hb hX hbl hbA hS (vp_in_nI hj (by omega)) hdg ?_
  rw [nI_clamp (by omega)]
  exact kk
end LWR
end
section
set_option maxHeartbeats 8000000 in
set_option maxRecDepth 100000 in
theorem law_c0 {p : Program} {l : Launch} {e : Env} {s : State} {m : MethodId} {below : List Frame} {meth : Method} {c : Code} {D : va_G} {cL cB cI : ClassId} {A : Nat → Prop} {b L : Nat} {xs : Nat → Int32} (hL : L ≤ 5120) (C0 : lw_At p s m meth c b L xs) (hAe : A = fun q : Nat => s.heap.size ≤ q) (hK : KN D cL cB cI s) {i : Nat} (hi : 10 * i + 10 ≤ L) (hn1 : lw_next p l e s m below meth c D cL cB cI A b (i + 1)) (x0 k0 t0 p0 b0 r0 n0 s0 m0 mb cnt n : Nat) (po fi la : BitVec 64) (d o : Bool) (f : Nat → Int64) (dt : Nat → Nat) (rf : Nat → Int32) (nf sf : Nat → Int64) (hok : lw_ok cnt n po fi la d f dt) {ls : Array Slot} {H : Heap} {locs : List Loc} (hP : va_P D classes (lw_W cL cB cI x0 k0 t0 p0 b0 r0 n0 s0 m0 mb cnt n po fi la d o f dt rf nf sf) H) (hD : va_D A (lw_W cL cB cI x0 k0 t0 p0 b0 r0 n0 s0 m0 mb cnt n po fi la d o f dt rf nf sf)) (hS : va_S A s.heap H locs) (hl : lv_has ls 4 [(0, .ref b), (1, .ref x0), (2, .ref m0), (3, .int (nI (10 * i)))]) : W p l e room_1 s m #[Value.ref b] below meth c H locs (10 + 2 * i) (52263 + 2056 * i) (lw_Z below #[Value.ref b] s) (F0 m 100 ls []) := by
  obtain ⟨hx, hb, hr, hml, hown, hts, hX, hbl, hlocks, hgv⟩ := id C0
  have hT : ∀ w ∈ g_tbl, w.before #[Value.ref b] s = true := fun w hw => hts w (List.mem_filter.mp hw).1
  have F : CallFix p m c code 4 s #[Value.ref b] g_tbl R_law := ⟨hx, hb, hml, hown, hT⟩
  have hA : ∀ q : Nat, s.heap.size ≤ q → A q := fun q h => by rw [hAe]; exact h
  have hbA : ¬ A b := by rw [hAe]; exact Nat.not_le.mpr hbl
  obtain ⟨hn, hp, hfi, hla, hf, hd, hc5⟩ := hok
  have hcap : 10 + 2 * i ≤ room_1.cells ∧ 52263 + 2056 * i ≤ room_1.slots := ⟨show _ ≤ 600000 by omega, show _ ≤ 7302249 by omega⟩
  have hcap2 : 10 + 2 * i + 2 ≤ room_1.cells ∧ 52263 + 2056 * i + 2056 ≤ room_1.slots := ⟨show _ ≤ 600000 by omega, show _ ≤ 7302249 by omega⟩
  by_cases h6 : xs (10 * i + 6) = 0 <;> by_cases h7 : xs (10 * i + 7) = 0
  · refine lv_aload_n hx hb d_law_100 rfl (lv_at hl 1 rfl) ?_
    refine lv_aload_n hx hb d_law_101 rfl (lv_at hl 0 rfl) ?_
    refine lv_iload_n hx hb d_law_102 rfl (lv_at hl 3 rfl) ?_
    refine lv_iconst (v := nI 1) hx hb d_law_103 (by decide) ?_
    refine nt_iadd (x := (10 * i)) hx hb d_law_104 ?_
    refine nt_sld (j := 10 * i + 1) hx hb hX hbl hbA hS (by omega) hL d_law_105 ?_
    refine lv_aload_n hx hb d_law_106 rfl (lv_at hl 0 rfl) ?_
    refine lv_iload_n hx hb d_law_107 rfl (lv_at hl 3 rfl) ?_
    refine lv_iconst (v := nI 2) hx hb d_law_108 (by decide) ?_
    refine nt_iadd (x := (10 * i)) hx hb d_law_109 ?_
    refine nt_sld (j := 10 * i + 2) hx hb hX hbl hbA hS (by omega) hL d_law_110 ?_
    refine lv_i2l (v := lB (xs (10 * i + 2)).toInt64.toBitVec) hx hb d_law_111 (lB_of _).symm ?_
    refine lv_bipush (v := nI 32) hx hb d_law_112 (by decide) ?_
    refine bv_lshl hx hb (by omega) d_law_114 ?_
    refine lv_aload_n hx hb d_law_115 rfl (lv_at hl 0 rfl) ?_
    refine lv_iload_n hx hb d_law_116 rfl (lv_at hl 3 rfl) ?_
    refine lv_iconst (v := nI 3) hx hb d_law_117 (by decide) ?_
    refine nt_iadd (x := (10 * i)) hx hb d_law_118 ?_
    refine nt_sld (j := 10 * i + 3) hx hb hX hbl hbA hS (by omega) hL d_law_119 ?_
    refine lv_i2l (v := lB (xs (10 * i + 3)).toInt64.toBitVec) hx hb d_law_120 (lB_of _).symm ?_
    refine lv_ldc2 hx hb hown (hT _ cj_law_13) d_law_121 ?_
    refine tpl (z := lB 4294967295#64) (by decide) ?_
    refine bv_land hx hb d_law_124 ?_
    refine bv_lor hx hb d_law_125 ?_
    refine tpl (z := (lB (q_lg (xs (10 * i + 2)) (xs (10 * i + 3))))) rfl ?_
    refine lv_aload_n hx hb d_law_126 rfl (lv_at hl 0 rfl) ?_
    refine lv_iload_n hx hb d_law_127 rfl (lv_at hl 3 rfl) ?_
    refine lv_iconst (v := nI 4) hx hb d_law_128 (by decide) ?_
    refine nt_iadd (x := (10 * i)) hx hb d_law_129 ?_
    refine nt_sld (j := 10 * i + 4) hx hb hX hbl hbA hS (by omega) hL d_law_130 ?_
    refine lv_i2l (v := lB (xs (10 * i + 4)).toInt64.toBitVec) hx hb d_law_131 (lB_of _).symm ?_
    refine lv_bipush (v := nI 32) hx hb d_law_132 (by decide) ?_
    refine bv_lshl hx hb (by omega) d_law_134 ?_
    refine lv_aload_n hx hb d_law_135 rfl (lv_at hl 0 rfl) ?_
    refine lv_iload_n hx hb d_law_136 rfl (lv_at hl 3 rfl) ?_
    refine lv_iconst (v := nI 5) hx hb d_law_137 (by decide) ?_
    refine nt_iadd (x := (10 * i)) hx hb d_law_138 ?_
    refine nt_sld (j := 10 * i + 5) hx hb hX hbl hbA hS (by omega) hL d_law_139 ?_
    refine lv_i2l (v := lB (xs (10 * i + 5)).toInt64.toBitVec) hx hb d_law_140 (lB_of _).symm ?_
    refine lv_ldc2 hx hb hown (hT _ cj_law_13) d_law_141 ?_
    refine tpl (z := lB 4294967295#64) (by decide) ?_
    refine bv_land hx hb d_law_144 ?_
    refine bv_lor hx hb d_law_145 ?_
    refine tpl (z := (lB (q_lg (xs (10 * i + 4)) (xs (10 * i + 5))))) rfl ?_
    refine lv_aload_n hx hb d_law_146 rfl (lv_at hl 0 rfl) ?_
    refine lv_iload_n hx hb d_law_147 rfl (lv_at hl 3 rfl) ?_
    refine lv_bipush (v := nI 6) hx hb d_law_148 (by decide) ?_
    refine nt_iadd (x := (10 * i)) hx hb d_law_150 ?_
    refine nt_sld (j := 10 * i + 6) hx hb hX hbl hbA hS (by omega) hL d_law_151 ?_
    refine lv_if_eq (tgt := 159) hx hb d_law_152 (by decide) (fun _ => ?_) (fun h => absurd h6 h)
    refine lv_iconst (v := nI 0) hx hb d_law_159 (by decide) ?_
    refine tpi (z := (bz false)) rfl ?_
    refine lv_aload_n hx hb d_law_160 rfl (lv_at hl 0 rfl) ?_
    refine lv_iload_n hx hb d_law_161 rfl (lv_at hl 3 rfl) ?_
    refine lv_bipush (v := nI 7) hx hb d_law_162 (by decide) ?_
    refine nt_iadd (x := (10 * i)) hx hb d_law_164 ?_
    refine nt_sld (j := 10 * i + 7) hx hb hX hbl hbA hS (by omega) hL d_law_165 ?_
    refine lv_if_eq (tgt := 173) hx hb d_law_166 (by decide) (fun _ => ?_) (fun h => absurd h7 h)
    refine lv_iconst (v := nI 0) hx hb d_law_173 (by decide) ?_
    refine tpi (z := (bz false)) rfl ?_
    refine lv_aload_n hx hb d_law_174 rfl (lv_at hl 0 rfl) ?_
    refine lv_iload_n hx hb d_law_175 rfl (lv_at hl 3 rfl) ?_
    refine lv_bipush (v := nI 8) hx hb d_law_176 (by decide) ?_
    refine nt_iadd (x := (10 * i)) hx hb d_law_178 ?_
    refine nt_sld (j := 10 * i + 8) hx hb hX hbl hbA hS (by omega) hL d_law_179 ?_
    refine lv_i2l (v := lB (xs (10 * i + 8)).toInt64.toBitVec) hx hb d_law_180 (lB_of _).symm ?_
    refine lv_bipush (v := nI 32) hx hb d_law_181 (by decide) ?_
    refine bv_lshl hx hb (by omega) d_law_183 ?_
    refine lv_aload_n hx hb d_law_184 rfl (lv_at hl 0 rfl) ?_
    refine lv_iload_n hx hb d_law_185 rfl (lv_at hl 3 rfl) ?_
    refine lv_bipush (v := nI 9) hx hb d_law_186 (by decide) ?_
    refine nt_iadd (x := (10 * i)) hx hb d_law_188 ?_
    refine nt_sld (j := 10 * i + 9) hx hb hX hbl hbA hS (by omega) hL d_law_189 ?_
    refine lv_i2l (v := lB (xs (10 * i + 9)).toInt64.toBitVec) hx hb d_law_190 (lB_of _).symm ?_
    refine lv_ldc2 hx hb hown (hT _ cj_law_13) d_law_191 ?_
    refine tpl (z := lB 4294967295#64) (by decide) ?_
    refine bv_land hx hb d_law_194 ?_
    refine bv_lor hx hb d_law_195 ?_
    refine tpl (z := (lB (q_lg (xs (10 * i + 8)) (xs (10 * i + 9))))) rfl ?_
    refine kk_muI (wr := [(b0, .inl (cB, 5000, .inl (fun j => sb (dt j)))), (r0, .inl (cB, 40064, .inl rf)), (p0, .inr (1, [.ref n0, .ref s0])), (n0, .inl (cL, 64, .inr (.inl nf))), (s0, .inl (cL, 64, .inr (.inl sf))), (m0, .inr (3, mf n po fi la d o mb cnt)), (mb, .inl (cI, 5000, .inl (fun j => nI (dt j))))]) (run_muV (rest := []) F (c_X_kind l D cL cB cI x0 k0 t0 p0 b0 r0 cnt n po fi la d o f (xs (10 * i + 1)) (q_lg (xs (10 * i + 2)) (xs (10 * i + 3))) (q_lg (xs (10 * i + 4)) (xs (10 * i + 5))) false false (q_lg (xs (10 * i + 8)) (xs (10 * i + 9))) _ hf) k_X_kind ml_law_15 ⟨rfl, rfl, by decide, by decide⟩ hK (hP.sub [0, 1, 2] rfl) (hD.sub [0, 1, 2] (by decide) rfl) rfl rfl rfl rfl hl.1 rfl (Nat.le_of_ble_eq_true rfl) d_law_196 hcap2) hS hP hD hA [0, 1, 2] [3, 4, 5, 6, 7, 8, 9] rfl rfl (by decide) (by decide) (fun r u H locs hw hP hD hS => ?_)
    obtain ⟨⟨k1, t1, f1⟩, n1, po1, fi1, la1, d1, o1⟩ := u
    obtain ⟨hw1, hw2, hw3⟩ := hw
    subst hw1
    have hw3 : ∀ b, b < 2048 → f1 b = lB (q_tab d1 (q_sd d1 n1 po1) b) := hw3
    have hP : va_P D classes [(b0, .inl (cB, 5000, .inl (fun j => sb (dt j)))), (r0, .inl (cB, 40064, .inl rf)), (p0, .inr (1, [.ref n0, .ref s0])), (n0, .inl (cL, 64, .inr (.inl nf))), (s0, .inl (cL, 64, .inr (.inl sf))), (m0, .inr (3, mf n po fi la d o mb cnt)), (mb, .inl (cI, 5000, .inl (fun j => nI (dt j)))), (x0, .inr (2, xf k1 p0 b0 r0 cnt)), (k1, .inr (0, kf n1 po1 fi1 la1 d1 o1 t1)), (t1, .inl (cL, 2048, .inr (.inl f1)))] H := hP
    have hD : va_D A [(b0, .inl (cB, 5000, .inl (fun j => sb (dt j)))), (r0, .inl (cB, 40064, .inl rf)), (p0, .inr (1, [.ref n0, .ref s0])), (n0, .inl (cL, 64, .inr (.inl nf))), (s0, .inl (cL, 64, .inr (.inl sf))), (m0, .inr (3, mf n po fi la d o mb cnt)), (mb, .inl (cI, 5000, .inl (fun j => nI (dt j)))), (x0, .inr (2, xf k1 p0 b0 r0 cnt)), (k1, .inr (0, kf n1 po1 fi1 la1 d1 o1 t1)), (t1, .inl (cL, 2048, .inr (.inl f1)))] := hD
    have hP := hP.sub (ws' := [(x0, .inr (2, xf k1 p0 b0 r0 cnt)), (k1, .inr (0, kf n1 po1 fi1 la1 d1 o1 t1)), (t1, .inl (cL, 2048, .inr (.inl f1))), (b0, .inl (cB, 5000, .inl (fun j => sb (dt j)))), (r0, .inl (cB, 40064, .inl rf)), (p0, .inr (1, [.ref n0, .ref s0])), (n0, .inl (cL, 64, .inr (.inl nf))), (s0, .inl (cL, 64, .inr (.inl sf))), (m0, .inr (3, mf n po fi la d o mb cnt)), (mb, .inl (cI, 5000, .inl (fun j => nI (dt j))))]) [7, 8, 9, 0, 1, 2, 3, 4, 5, 6] rfl
    have hD := hD.sub (ws' := [(x0, .inr (2, xf k1 p0 b0 r0 cnt)), (k1, .inr (0, kf n1 po1 fi1 la1 d1 o1 t1)), (t1, .inl (cL, 2048, .inr (.inl f1))), (b0, .inl (cB, 5000, .inl (fun j => sb (dt j)))), (r0, .inl (cB, 40064, .inl rf)), (p0, .inr (1, [.ref n0, .ref s0])), (n0, .inl (cL, 64, .inr (.inl nf))), (s0, .inl (cL, 64, .inr (.inl sf))), (m0, .inr (3, mf n po fi la d o mb cnt)), (mb, .inl (cI, 5000, .inl (fun j => nI (dt j))))]) [7, 8, 9, 0, 1, 2, 3, 4, 5, 6] (by decide) rfl
    refine lv_aload_n hx hb d_law_199 rfl (lv_at hl 2 rfl) ?_
    refine lv_aload_n hx hb d_law_200 rfl (lv_at hl 0 rfl) ?_
    refine lv_iload_n hx hb d_law_201 rfl (lv_at hl 3 rfl) ?_
    refine lv_iconst (v := nI 1) hx hb d_law_202 (by decide) ?_
    refine nt_iadd (x := (10 * i)) hx hb d_law_203 ?_
    refine nt_sld (j := 10 * i + 1) hx hb hX hbl hbA hS (by omega) hL d_law_204 ?_
    refine lv_aload_n hx hb d_law_205 rfl (lv_at hl 0 rfl) ?_
    refine lv_iload_n hx hb d_law_206 rfl (lv_at hl 3 rfl) ?_
    refine lv_iconst (v := nI 2) hx hb d_law_207 (by decide) ?_
    refine nt_iadd (x := (10 * i)) hx hb d_law_208 ?_
    refine nt_sld (j := 10 * i + 2) hx hb hX hbl hbA hS (by omega) hL d_law_209 ?_
    refine lv_i2l (v := lB (xs (10 * i + 2)).toInt64.toBitVec) hx hb d_law_210 (lB_of _).symm ?_
    refine lv_bipush (v := nI 32) hx hb d_law_211 (by decide) ?_
    refine bv_lshl hx hb (by omega) d_law_213 ?_
    refine lv_aload_n hx hb d_law_214 rfl (lv_at hl 0 rfl) ?_
    refine lv_iload_n hx hb d_law_215 rfl (lv_at hl 3 rfl) ?_
    refine lv_iconst (v := nI 3) hx hb d_law_216 (by decide) ?_
    refine nt_iadd (x := (10 * i)) hx hb d_law_217 ?_
    refine nt_sld (j := 10 * i + 3) hx hb hX hbl hbA hS (by omega) hL d_law_218 ?_
    refine lv_i2l (v := lB (xs (10 * i + 3)).toInt64.toBitVec) hx hb d_law_219 (lB_of _).symm ?_
    refine lv_ldc2 hx hb hown (hT _ cj_law_13) d_law_220 ?_
    refine tpl (z := lB 4294967295#64) (by decide) ?_
    refine bv_land hx hb d_law_223 ?_
    refine bv_lor hx hb d_law_224 ?_
    refine tpl (z := (lB (q_lg (xs (10 * i + 2)) (xs (10 * i + 3))))) rfl ?_
    refine lv_aload_n hx hb d_law_225 rfl (lv_at hl 0 rfl) ?_
    refine lv_iload_n hx hb d_law_226 rfl (lv_at hl 3 rfl) ?_
    refine lv_iconst (v := nI 4) hx hb d_law_227 (by decide) ?_
    refine nt_iadd (x := (10 * i)) hx hb d_law_228 ?_
    refine nt_sld (j := 10 * i + 4) hx hb hX hbl hbA hS (by omega) hL d_law_229 ?_
    refine lv_i2l (v := lB (xs (10 * i + 4)).toInt64.toBitVec) hx hb d_law_230 (lB_of _).symm ?_
    refine lv_bipush (v := nI 32) hx hb d_law_231 (by decide) ?_
    refine bv_lshl hx hb (by omega) d_law_233 ?_
    refine lv_aload_n hx hb d_law_234 rfl (lv_at hl 0 rfl) ?_
    refine lv_iload_n hx hb d_law_235 rfl (lv_at hl 3 rfl) ?_
    refine lv_iconst (v := nI 5) hx hb d_law_236 (by decide) ?_
    refine nt_iadd (x := (10 * i)) hx hb d_law_237 ?_
    refine nt_sld (j := 10 * i + 5) hx hb hX hbl hbA hS (by omega) hL d_law_238 ?_
    refine lv_i2l (v := lB (xs (10 * i + 5)).toInt64.toBitVec) hx hb d_law_239 (lB_of _).symm ?_
    refine lv_ldc2 hx hb hown (hT _ cj_law_13) d_law_240 ?_
    refine tpl (z := lB 4294967295#64) (by decide) ?_
    refine bv_land hx hb d_law_243 ?_
    refine bv_lor hx hb d_law_244 ?_
    refine tpl (z := (lB (q_lg (xs (10 * i + 4)) (xs (10 * i + 5))))) rfl ?_
    refine lv_aload_n hx hb d_law_245 rfl (lv_at hl 0 rfl) ?_
    refine lv_iload_n hx hb d_law_246 rfl (lv_at hl 3 rfl) ?_
    refine lv_bipush (v := nI 6) hx hb d_law_247 (by decide) ?_
    refine nt_iadd (x := (10 * i)) hx hb d_law_249 ?_
    refine nt_sld (j := 10 * i + 6) hx hb hX hbl hbA hS (by omega) hL d_law_250 ?_
    refine lv_if_eq (tgt := 258) hx hb d_law_251 (by decide) (fun _ => ?_) (fun h => absurd h6 h)
    refine lv_iconst (v := nI 0) hx hb d_law_258 (by decide) ?_
    refine tpi (z := (bz false)) rfl ?_
    refine lv_aload_n hx hb d_law_259 rfl (lv_at hl 0 rfl) ?_
    refine lv_iload_n hx hb d_law_260 rfl (lv_at hl 3 rfl) ?_
    refine lv_bipush (v := nI 7) hx hb d_law_261 (by decide) ?_
    refine nt_iadd (x := (10 * i)) hx hb d_law_263 ?_
    refine nt_sld (j := 10 * i + 7) hx hb hX hbl hbA hS (by omega) hL d_law_264 ?_
    refine lv_if_eq (tgt := 272) hx hb d_law_265 (by decide) (fun _ => ?_) (fun h => absurd h7 h)
    refine lv_iconst (v := nI 0) hx hb d_law_272 (by decide) ?_
    refine tpi (z := (bz false)) rfl ?_
    refine lv_aload_n hx hb d_law_273 rfl (lv_at hl 0 rfl) ?_
    refine lv_iload_n hx hb d_law_274 rfl (lv_at hl 3 rfl) ?_
    refine lv_bipush (v := nI 8) hx hb d_law_275 (by decide) ?_
    refine nt_iadd (x := (10 * i)) hx hb d_law_277 ?_
    refine nt_sld (j := 10 * i + 8) hx hb hX hbl hbA hS (by omega) hL d_law_278 ?_
    refine lv_i2l (v := lB (xs (10 * i + 8)).toInt64.toBitVec) hx hb d_law_279 (lB_of _).symm ?_
    refine lv_bipush (v := nI 32) hx hb d_law_280 (by decide) ?_
    refine bv_lshl hx hb (by omega) d_law_282 ?_
    refine lv_aload_n hx hb d_law_283 rfl (lv_at hl 0 rfl) ?_
    refine lv_iload_n hx hb d_law_284 rfl (lv_at hl 3 rfl) ?_
    refine lv_bipush (v := nI 9) hx hb d_law_285 (by decide) ?_
    refine nt_iadd (x := (10 * i)) hx hb d_law_287 ?_
    refine nt_sld (j := 10 * i + 9) hx hb hX hbl hbA hS (by omega) hL d_law_288 ?_
    refine lv_i2l (v := lB (xs (10 * i + 9)).toInt64.toBitVec) hx hb d_law_289 (lB_of _).symm ?_
    refine lv_ldc2 hx hb hown (hT _ cj_law_13) d_law_290 ?_
    refine tpl (z := lB 4294967295#64) (by decide) ?_
    refine bv_land hx hb d_law_293 ?_
    refine bv_lor hx hb d_law_294 ?_
    refine tpl (z := (lB (q_lg (xs (10 * i + 8)) (xs (10 * i + 9))))) rfl ?_
    refine kk_muI (wr := [(x0, .inr (2, xf k1 p0 b0 r0 cnt)), (k1, .inr (0, kf n1 po1 fi1 la1 d1 o1 t1)), (t1, .inl (cL, 2048, .inr (.inl f1))), (b0, .inl (cB, 5000, .inl (fun j => sb (dt j)))), (r0, .inl (cB, 40064, .inl rf)), (p0, .inr (1, [.ref n0, .ref s0])), (n0, .inl (cL, 64, .inr (.inl nf))), (s0, .inl (cL, 64, .inr (.inl sf)))]) (run_muV (rest := [.int (bz (q_kok (xs (10 * i + 1))))]) F (c_M_kind l D cL cB cI m0 mb cnt n po fi la d o dt (xs (10 * i + 1)) (q_lg (xs (10 * i + 2)) (xs (10 * i + 3))) (q_lg (xs (10 * i + 4)) (xs (10 * i + 5))) false false (q_lg (xs (10 * i + 8)) (xs (10 * i + 9))) _) k_M_kind ml_law_19 ⟨rfl, rfl, by decide, by decide⟩ hK (hP.sub [8, 9] rfl) (hD.sub [8, 9] (by decide) rfl) rfl rfl rfl rfl hl.1 rfl (Nat.le_of_ble_eq_true rfl) d_law_295 hcap2) hS hP hD hA [8, 9] [0, 1, 2, 3, 4, 5, 6, 7] rfl rfl (by decide) (by decide) (fun r u H locs hv hP hD hS => ?_)
    obtain ⟨n2, po2, fi2, la2, d2, o2⟩ := u
    obtain ⟨hv1, hv2⟩ := hv
    subst hv1
    have hE := kp_eq hw2 hv2
    have hok1 := kp_ok hw2 hn hp hfi hla
    cases hE
    have hP : va_P D classes [(x0, .inr (2, xf k1 p0 b0 r0 cnt)), (k1, .inr (0, kf n1 po1 fi1 la1 d1 o1 t1)), (t1, .inl (cL, 2048, .inr (.inl f1))), (b0, .inl (cB, 5000, .inl (fun j => sb (dt j)))), (r0, .inl (cB, 40064, .inl rf)), (p0, .inr (1, [.ref n0, .ref s0])), (n0, .inl (cL, 64, .inr (.inl nf))), (s0, .inl (cL, 64, .inr (.inl sf))), (m0, .inr (3, mf n1 po1 fi1 la1 d1 o1 mb cnt)), (mb, .inl (cI, 5000, .inl (fun j => nI (dt j))))] H := hP
    have hD : va_D A [(x0, .inr (2, xf k1 p0 b0 r0 cnt)), (k1, .inr (0, kf n1 po1 fi1 la1 d1 o1 t1)), (t1, .inl (cL, 2048, .inr (.inl f1))), (b0, .inl (cB, 5000, .inl (fun j => sb (dt j)))), (r0, .inl (cB, 40064, .inl rf)), (p0, .inr (1, [.ref n0, .ref s0])), (n0, .inl (cL, 64, .inr (.inl nf))), (s0, .inl (cL, 64, .inr (.inl sf))), (m0, .inr (3, mf n1 po1 fi1 la1 d1 o1 mb cnt)), (mb, .inl (cI, 5000, .inl (fun j => nI (dt j))))] := hD
    refine lv_icmp_eq (tgt := 703) hx hb d_law_298 (by decide) (fun _ => ?_) (fun h => absurd rfl h)
    refine lv_iinc (v := (nI (10 * i + 10))) (lv' := [(3, .int (nI (10 * i + 10))), (0, .ref b), (1, .ref x0), (2, .ref m0)]) hx hb d_law_703 hl (k := 3) rfl (nI_inc10 _) (by decide) rfl (fun ls hl => ?_)
    refine lv_goto (tgt := 18) hx hb d_law_706 (by decide) ?_
    refine W.widen (k := 10 + 2 * (i + 1)) (n := 52263 + 2056 * (i + 1)) (by omega) (by omega) ?_
    exact hn1 x0 k1 t1 p0 b0 r0 n0 s0 m0 mb cnt n1 po1 fi1 la1 d1 o1 f1 dt rf nf sf ⟨hok1.1, hok1.2.1, hok1.2.2.1, hok1.2.2.2, hw3, hd, hc5⟩ ls H locs hP hD hS (lv_sub hl [1, 2, 3, 0] rfl)
  · refine lv_aload_n hx hb d_law_100 rfl (lv_at hl 1 rfl) ?_
    refine lv_aload_n hx hb d_law_101 rfl (lv_at hl 0 rfl) ?_
    refine lv_iload_n hx hb d_law_102 rfl (lv_at hl 3 rfl) ?_
    refine lv_iconst (v := nI 1) hx hb d_law_103 (by decide) ?_
    refine nt_iadd (x := (10 * i)) hx hb d_law_104 ?_
    refine nt_sld (j := 10 * i + 1) hx hb hX hbl hbA hS (by omega) hL d_law_105 ?_
    refine lv_aload_n hx hb d_law_106 rfl (lv_at hl 0 rfl) ?_
    refine lv_iload_n hx hb d_law_107 rfl (lv_at hl 3 rfl) ?_
    refine lv_iconst (v := nI 2) hx hb d_law_108 (by decide) ?_
    refine nt_iadd (x := (10 * i)) hx hb d_law_109 ?_
    refine nt_sld (j := 10 * i + 2) hx hb hX hbl hbA hS (by omega) hL d_law_110 ?_
    refine lv_i2l (v := lB (xs (10 * i + 2)).toInt64.toBitVec) hx hb d_law_111 (lB_of _).symm ?_
    refine lv_bipush (v := nI 32) hx hb d_law_112 (by decide) ?_
    refine bv_lshl hx hb (by omega) d_law_114 ?_
    refine lv_aload_n hx hb d_law_115 rfl (lv_at hl 0 rfl) ?_
    refine lv_iload_n hx hb d_law_116 rfl (lv_at hl 3 rfl) ?_
    refine lv_iconst (v := nI 3) hx hb d_law_117 (by decide) ?_
    refine nt_iadd (x := (10 * i)) hx hb d_law_118 ?_
    refine nt_sld (j := 10 * i + 3) hx hb hX hbl hbA hS (by omega) hL d_law_119 ?_
    refine lv_i2l (v := lB (xs (10 * i + 3)).toInt64.toBitVec) hx hb d_law_120 (lB_of _).symm ?_
    refine lv_ldc2 hx hb hown (hT _ cj_law_13) d_law_121 ?_
    refine tpl (z := lB 4294967295#64) (by decide) ?_
    refine bv_land hx hb d_law_124 ?_
    refine bv_lor hx hb d_law_125 ?_
    refine tpl (z := (lB (q_lg (xs (10 * i + 2)) (xs (10 * i + 3))))) rfl ?_
    refine lv_aload_n hx hb d_law_126 rfl (lv_at hl 0 rfl) ?_
    refine lv_iload_n hx hb d_law_127 rfl (lv_at hl 3 rfl) ?_
    refine lv_iconst (v := nI 4) hx hb d_law_128 (by decide) ?_
    refine nt_iadd (x := (10 * i)) hx hb d_law_129 ?_
    refine nt_sld (j := 10 * i + 4) hx hb hX hbl hbA hS (by omega) hL d_law_130 ?_
    refine lv_i2l (v := lB (xs (10 * i + 4)).toInt64.toBitVec) hx hb d_law_131 (lB_of _).symm ?_
    refine lv_bipush (v := nI 32) hx hb d_law_132 (by decide) ?_
    refine bv_lshl hx hb (by omega) d_law_134 ?_
    refine lv_aload_n hx hb d_law_135 rfl (lv_at hl 0 rfl) ?_
    refine lv_iload_n hx hb d_law_136 rfl (lv_at hl 3 rfl) ?_
    refine lv_iconst (v := nI 5) hx hb d_law_137 (by decide) ?_
    refine nt_iadd (x := (10 * i)) hx hb d_law_138 ?_
    refine nt_sld (j := 10 * i + 5) hx hb hX hbl hbA hS (by omega) hL d_law_139 ?_
    refine lv_i2l (v := lB (xs (10 * i + 5)).toInt64.toBitVec) hx hb d_law_140 (lB_of _).symm ?_
    refine lv_ldc2 hx hb hown (hT _ cj_law_13) d_law_141 ?_
    refine tpl (z := lB 4294967295#64) (by decide) ?_
    refine bv_land hx hb d_law_144 ?_
    refine bv_lor hx hb d_law_145 ?_
    refine tpl (z := (lB (q_lg (xs (10 * i + 4)) (xs (10 * i + 5))))) rfl ?_
    refine lv_aload_n hx hb d_law_146 rfl (lv_at hl 0 rfl) ?_
    refine lv_iload_n hx hb d_law_147 rfl (lv_at hl 3 rfl) ?_
    refine lv_bipush (v := nI 6) hx hb d_law_148 (by decide) ?_
    refine nt_iadd (x := (10 * i)) hx hb d_law_150 ?_
    refine nt_sld (j := 10 * i + 6) hx hb hX hbl hbA hS (by omega) hL d_law_151 ?_
    refine lv_if_eq (tgt := 159) hx hb d_law_152 (by decide) (fun _ => ?_) (fun h => absurd h6 h)
    refine lv_iconst (v := nI 0) hx hb d_law_159 (by decide) ?_
    refine tpi (z := (bz false)) rfl ?_
    refine lv_aload_n hx hb d_law_160 rfl (lv_at hl 0 rfl) ?_
    refine lv_iload_n hx hb d_law_161 rfl (lv_at hl 3 rfl) ?_
    refine lv_bipush (v := nI 7) hx hb d_law_162 (by decide) ?_
    refine nt_iadd (x := (10 * i)) hx hb d_law_164 ?_
    refine nt_sld (j := 10 * i + 7) hx hb hX hbl hbA hS (by omega) hL d_law_165 ?_
    refine lv_if_eq (tgt := 173) hx hb d_law_166 (by decide) (fun h => absurd h h7) (fun _ => ?_)
    refine lv_iconst (v := nI 1) hx hb d_law_169 (by decide) ?_
    refine lv_goto (tgt := 174) hx hb d_law_170 (by decide) ?_
    refine tpi (z := (bz true)) rfl ?_
    refine lv_aload_n hx hb d_law_174 rfl (lv_at hl 0 rfl) ?_
    refine lv_iload_n hx hb d_law_175 rfl (lv_at hl 3 rfl) ?_
    refine lv_bipush (v := nI 8) hx hb d_law_176 (by decide) ?_
    refine nt_iadd (x := (10 * i)) hx hb d_law_178 ?_
    refine nt_sld (j := 10 * i + 8) hx hb hX hbl hbA hS (by omega) hL d_law_179 ?_
    refine lv_i2l (v := lB (xs (10 * i + 8)).toInt64.toBitVec) hx hb d_law_180 (lB_of _).symm ?_
    refine lv_bipush (v := nI 32) hx hb d_law_181 (by decide) ?_
    refine bv_lshl hx hb (by omega) d_law_183 ?_
    refine lv_aload_n hx hb d_law_184 rfl (lv_at hl 0 rfl) ?_
    refine lv_iload_n hx hb d_law_185 rfl (lv_at hl 3 rfl) ?_
    refine lv_bipush (v := nI 9) hx hb d_law_186 (by decide) ?_
    refine nt_iadd (x := (10 * i)) hx hb d_law_188 ?_
    refine nt_sld (j := 10 * i + 9) hx hb hX hbl hbA hS (by omega) hL d_law_189 ?_
    refine lv_i2l (v := lB (xs (10 * i + 9)).toInt64.toBitVec) hx hb d_law_190 (lB_of _).symm ?_
    refine lv_ldc2 hx hb hown (hT _ cj_law_13) d_law_191 ?_
    refine tpl (z := lB 4294967295#64) (by decide) ?_
    refine bv_land hx hb d_law_194 ?_
    refine bv_lor hx hb d_law_195 ?_
    refine tpl (z := (lB (q_lg (xs (10 * i + 8)) (xs (10 * i + 9))))) rfl ?_
    refine kk_muI (wr := [(b0, .inl (cB, 5000, .inl (fun j => sb (dt j)))), (r0, .inl (cB, 40064, .inl rf)), (p0, .inr (1, [.ref n0, .ref s0])), (n0, .inl (cL, 64, .inr (.inl nf))), (s0, .inl (cL, 64, .inr (.inl sf))), (m0, .inr (3, mf n po fi la d o mb cnt)), (mb, .inl (cI, 5000, .inl (fun j => nI (dt j))))]) (run_muV (rest := []) F (c_X_kind l D cL cB cI x0 k0 t0 p0 b0 r0 cnt n po fi la d o f (xs (10 * i + 1)) (q_lg (xs (10 * i + 2)) (xs (10 * i + 3))) (q_lg (xs (10 * i + 4)) (xs (10 * i + 5))) false true (q_lg (xs (10 * i + 8)) (xs (10 * i + 9))) _ hf) k_X_kind ml_law_15 ⟨rfl, rfl, by decide, by decide⟩ hK (hP.sub [0, 1, 2] rfl) (hD.sub [0, 1, 2] (by decide) rfl) rfl rfl rfl rfl hl.1 rfl (Nat.le_of_ble_eq_true rfl) d_law_196 hcap2) hS hP hD hA [0, 1, 2] [3, 4, 5, 6, 7, 8, 9] rfl rfl (by decide) (by decide) (fun r u H locs hw hP hD hS => ?_)
    obtain ⟨⟨k1, t1, f1⟩, n1, po1, fi1, la1, d1, o1⟩ := u
    obtain ⟨hw1, hw2, hw3⟩ := hw
    subst hw1
    have hw3 : ∀ b, b < 2048 → f1 b = lB (q_tab d1 (q_sd d1 n1 po1) b) := hw3
    have hP : va_P D classes [(b0, .inl (cB, 5000, .inl (fun j => sb (dt j)))), (r0, .inl (cB, 40064, .inl rf)), (p0, .inr (1, [.ref n0, .ref s0])), (n0, .inl (cL, 64, .inr (.inl nf))), (s0, .inl (cL, 64, .inr (.inl sf))), (m0, .inr (3, mf n po fi la d o mb cnt)), (mb, .inl (cI, 5000, .inl (fun j => nI (dt j)))), (x0, .inr (2, xf k1 p0 b0 r0 cnt)), (k1, .inr (0, kf n1 po1 fi1 la1 d1 o1 t1)), (t1, .inl (cL, 2048, .inr (.inl f1)))] H := hP
    have hD : va_D A [(b0, .inl (cB, 5000, .inl (fun j => sb (dt j)))), (r0, .inl (cB, 40064, .inl rf)), (p0, .inr (1, [.ref n0, .ref s0])), (n0, .inl (cL, 64, .inr (.inl nf))), (s0, .inl (cL, 64, .inr (.inl sf))), (m0, .inr (3, mf n po fi la d o mb cnt)), (mb, .inl (cI, 5000, .inl (fun j => nI (dt j)))), (x0, .inr (2, xf k1 p0 b0 r0 cnt)), (k1, .inr (0, kf n1 po1 fi1 la1 d1 o1 t1)), (t1, .inl (cL, 2048, .inr (.inl f1)))] := hD
    have hP := hP.sub (ws' := [(x0, .inr (2, xf k1 p0 b0 r0 cnt)), (k1, .inr (0, kf n1 po1 fi1 la1 d1 o1 t1)), (t1, .inl (cL, 2048, .inr (.inl f1))), (b0, .inl (cB, 5000, .inl (fun j => sb (dt j)))), (r0, .inl (cB, 40064, .inl rf)), (p0, .inr (1, [.ref n0, .ref s0])), (n0, .inl (cL, 64, .inr (.inl nf))), (s0, .inl (cL, 64, .inr (.inl sf))), (m0, .inr (3, mf n po fi la d o mb cnt)), (mb, .inl (cI, 5000, .inl (fun j => nI (dt j))))]) [7, 8, 9, 0, 1, 2, 3, 4, 5, 6] rfl
    have hD := hD.sub (ws' := [(x0, .inr (2, xf k1 p0 b0 r0 cnt)), (k1, .inr (0, kf n1 po1 fi1 la1 d1 o1 t1)), (t1, .inl (cL, 2048, .inr (.inl f1))), (b0, .inl (cB, 5000, .inl (fun j => sb (dt j)))), (r0, .inl (cB, 40064, .inl rf)), (p0, .inr (1, [.ref n0, .ref s0])), (n0, .inl (cL, 64, .inr (.inl nf))), (s0, .inl (cL, 64, .inr (.inl sf))), (m0, .inr (3, mf n po fi la d o mb cnt)), (mb, .inl (cI, 5000, .inl (fun j => nI (dt j))))]) [7, 8, 9, 0, 1, 2, 3, 4, 5, 6] (by decide) rfl
    refine lv_aload_n hx hb d_law_199 rfl (lv_at hl 2 rfl) ?_
    refine lv_aload_n hx hb d_law_200 rfl (lv_at hl 0 rfl) ?_
    refine lv_iload_n hx hb d_law_201 rfl (lv_at hl 3 rfl) ?_
    refine lv_iconst (v := nI 1) hx hb d_law_202 (by decide) ?_
    refine nt_iadd (x := (10 * i)) hx hb d_law_203 ?_
    refine nt_sld (j := 10 * i + 1) hx hb hX hbl hbA hS (by omega) hL d_law_204 ?_
    refine lv_aload_n hx hb d_law_205 rfl (lv_at hl 0 rfl) ?_
    refine lv_iload_n hx hb d_law_206 rfl (lv_at hl 3 rfl) ?_
    refine lv_iconst (v := nI 2) hx hb d_law_207 (by decide) ?_
    refine nt_iadd (x := (10 * i)) hx hb d_law_208 ?_
    refine nt_sld (j := 10 * i + 2) hx hb hX hbl hbA hS (by omega) hL d_law_209 ?_
    refine lv_i2l (v := lB (xs (10 * i + 2)).toInt64.toBitVec) hx hb d_law_210 (lB_of _).symm ?_
    refine lv_bipush (v := nI 32) hx hb d_law_211 (by decide) ?_
    refine bv_lshl hx hb (by omega) d_law_213 ?_
    refine lv_aload_n hx hb d_law_214 rfl (lv_at hl 0 rfl) ?_
    refine lv_iload_n hx hb d_law_215 rfl (lv_at hl 3 rfl) ?_
    refine lv_iconst (v := nI 3) hx hb d_law_216 (by decide) ?_
    refine nt_iadd (x := (10 * i)) hx hb d_law_217 ?_
    refine nt_sld (j := 10 * i + 3) hx hb hX hbl hbA hS (by omega) hL d_law_218 ?_
    refine lv_i2l (v := lB (xs (10 * i + 3)).toInt64.toBitVec) hx hb d_law_219 (lB_of _).symm ?_
    refine lv_ldc2 hx hb hown (hT _ cj_law_13) d_law_220 ?_
    refine tpl (z := lB 4294967295#64) (by decide) ?_
    refine bv_land hx hb d_law_223 ?_
    refine bv_lor hx hb d_law_224 ?_
    refine tpl (z := (lB (q_lg (xs (10 * i + 2)) (xs (10 * i + 3))))) rfl ?_
    refine lv_aload_n hx hb d_law_225 rfl (lv_at hl 0 rfl) ?_
    refine lv_iload_n hx hb d_law_226 rfl (lv_at hl 3 rfl) ?_
    refine lv_iconst (v := nI 4) hx hb d_law_227 (by decide) ?_
    refine nt_iadd (x := (10 * i)) hx hb d_law_228 ?_
    refine nt_sld (j := 10 * i + 4) hx hb hX hbl hbA hS (by omega) hL d_law_229 ?_
    refine lv_i2l (v := lB (xs (10 * i + 4)).toInt64.toBitVec) hx hb d_law_230 (lB_of _).symm ?_
    refine lv_bipush (v := nI 32) hx hb d_law_231 (by decide) ?_
    refine bv_lshl hx hb (by omega) d_law_233 ?_
    refine lv_aload_n hx hb d_law_234 rfl (lv_at hl 0 rfl) ?_
    refine lv_iload_n hx hb d_law_235 rfl (lv_at hl 3 rfl) ?_
    refine lv_iconst (v := nI 5) hx hb d_law_236 (by decide) ?_
    refine nt_iadd (x := (10 * i)) hx hb d_law_237 ?_
    refine nt_sld (j := 10 * i + 5) hx hb hX hbl hbA hS (by omega) hL d_law_238 ?_
    refine lv_i2l (v := lB (xs (10 * i + 5)).toInt64.toBitVec) hx hb d_law_239 (lB_of _).symm ?_
    refine lv_ldc2 hx hb hown (hT _ cj_law_13) d_law_240 ?_
    refine tpl (z := lB 4294967295#64) (by decide) ?_
    refine bv_land hx hb d_law_243 ?_
    refine bv_lor hx hb d_law_244 ?_
    refine tpl (z := (lB (q_lg (xs (10 * i + 4)) (xs (10 * i + 5))))) rfl ?_
    refine lv_aload_n hx hb d_law_245 rfl (lv_at hl 0 rfl) ?_
    refine lv_iload_n hx hb d_law_246 rfl (lv_at hl 3 rfl) ?_
    refine lv_bipush (v := nI 6) hx hb d_law_247 (by decide) ?_
    refine nt_iadd (x := (10 * i)) hx hb d_law_249 ?_
    refine nt_sld (j := 10 * i + 6) hx hb hX hbl hbA hS (by omega) hL d_law_250 ?_
    refine lv_if_eq (tgt := 258) hx hb d_law_251 (by decide) (fun _ => ?_) (fun h => absurd h6 h)
    refine lv_iconst (v := nI 0) hx hb d_law_258 (by decide) ?_
    refine tpi (z := (bz false)) rfl ?_
    refine lv_aload_n hx hb d_law_259 rfl (lv_at hl 0 rfl) ?_
    refine lv_iload_n hx hb d_law_260 rfl (lv_at hl 3 rfl) ?_
    refine lv_bipush (v := nI 7) hx hb d_law_261 (by decide) ?_
    refine nt_iadd (x := (10 * i)) hx hb d_law_263 ?_
    refine nt_sld (j := 10 * i + 7) hx hb hX hbl hbA hS (by omega) hL d_law_264 ?_
    refine lv_if_eq (tgt := 272) hx hb d_law_265 (by decide) (fun h => absurd h h7) (fun _ => ?_)
    refine lv_iconst (v := nI 1) hx hb d_law_268 (by decide) ?_
    refine lv_goto (tgt := 273) hx hb d_law_269 (by decide) ?_
    refine tpi (z := (bz true)) rfl ?_
    refine lv_aload_n hx hb d_law_273 rfl (lv_at hl 0 rfl) ?_
    refine lv_iload_n hx hb d_law_274 rfl (lv_at hl 3 rfl) ?_
    refine lv_bipush (v := nI 8) hx hb d_law_275 (by decide) ?_
    refine nt_iadd (x := (10 * i)) hx hb d_law_277 ?_
    refine nt_sld (j := 10 * i + 8) hx hb hX hbl hbA hS (by omega) hL d_law_278 ?_
    refine lv_i2l (v := lB (xs (10 * i + 8)).toInt64.toBitVec) hx hb d_law_279 (lB_of _).symm ?_
    refine lv_bipush (v := nI 32) hx hb d_law_280 (by decide) ?_
    refine bv_lshl hx hb (by omega) d_law_282 ?_
    refine lv_aload_n hx hb d_law_283 rfl (lv_at hl 0 rfl) ?_
    refine lv_iload_n hx hb d_law_284 rfl (lv_at hl 3 rfl) ?_
    refine lv_bipush (v := nI 9) hx hb d_law_285 (by decide) ?_
    refine nt_iadd (x := (10 * i)) hx hb d_law_287 ?_
    refine nt_sld (j := 10 * i + 9) hx hb hX hbl hbA hS (by omega) hL d_law_288 ?_
    refine lv_i2l (v := lB (xs (10 * i + 9)).toInt64.toBitVec) hx hb d_law_289 (lB_of _).symm ?_
    refine lv_ldc2 hx hb hown (hT _ cj_law_13) d_law_290 ?_
    refine tpl (z := lB 4294967295#64) (by decide) ?_
    refine bv_land hx hb d_law_293 ?_
    refine bv_lor hx hb d_law_294 ?_
    refine tpl (z := (lB (q_lg (xs (10 * i + 8)) (xs (10 * i + 9))))) rfl ?_
    refine kk_muI (wr := [(x0, .inr (2, xf k1 p0 b0 r0 cnt)), (k1, .inr (0, kf n1 po1 fi1 la1 d1 o1 t1)), (t1, .inl (cL, 2048, .inr (.inl f1))), (b0, .inl (cB, 5000, .inl (fun j => sb (dt j)))), (r0, .inl (cB, 40064, .inl rf)), (p0, .inr (1, [.ref n0, .ref s0])), (n0, .inl (cL, 64, .inr (.inl nf))), (s0, .inl (cL, 64, .inr (.inl sf)))]) (run_muV (rest := [.int (bz (q_kok (xs (10 * i + 1))))]) F (c_M_kind l D cL cB cI m0 mb cnt n po fi la d o dt (xs (10 * i + 1)) (q_lg (xs (10 * i + 2)) (xs (10 * i + 3))) (q_lg (xs (10 * i + 4)) (xs (10 * i + 5))) false true (q_lg (xs (10 * i + 8)) (xs (10 * i + 9))) _) k_M_kind ml_law_19 ⟨rfl, rfl, by decide, by decide⟩ hK (hP.sub [8, 9] rfl) (hD.sub [8, 9] (by decide) rfl) rfl rfl rfl rfl hl.1 rfl (Nat.le_of_ble_eq_true rfl) d_law_295 hcap2) hS hP hD hA [8, 9] [0, 1, 2, 3, 4, 5, 6, 7] rfl rfl (by decide) (by decide) (fun r u H locs hv hP hD hS => ?_)
    obtain ⟨n2, po2, fi2, la2, d2, o2⟩ := u
    obtain ⟨hv1, hv2⟩ := hv
    subst hv1
    have hE := kp_eq hw2 hv2
    have hok1 := kp_ok hw2 hn hp hfi hla
    cases hE
    have hP : va_P D classes [(x0, .inr (2, xf k1 p0 b0 r0 cnt)), (k1, .inr (0, kf n1 po1 fi1 la1 d1 o1 t1)), (t1, .inl (cL, 2048, .inr (.inl f1))), (b0, .inl (cB, 5000, .inl (fun j => sb (dt j)))), (r0, .inl (cB, 40064, .inl rf)), (p0, .inr (1, [.ref n0, .ref s0])), (n0, .inl (cL, 64, .inr (.inl nf))), (s0, .inl (cL, 64, .inr (.inl sf))), (m0, .inr (3, mf n1 po1 fi1 la1 d1 o1 mb cnt)), (mb, .inl (cI, 5000, .inl (fun j => nI (dt j))))] H := hP
    have hD : va_D A [(x0, .inr (2, xf k1 p0 b0 r0 cnt)), (k1, .inr (0, kf n1 po1 fi1 la1 d1 o1 t1)), (t1, .inl (cL, 2048, .inr (.inl f1))), (b0, .inl (cB, 5000, .inl (fun j => sb (dt j)))), (r0, .inl (cB, 40064, .inl rf)), (p0, .inr (1, [.ref n0, .ref s0])), (n0, .inl (cL, 64, .inr (.inl nf))), (s0, .inl (cL, 64, .inr (.inl sf))), (m0, .inr (3, mf n1 po1 fi1 la1 d1 o1 mb cnt)), (mb, .inl (cI, 5000, .inl (fun j => nI (dt j))))] := hD
    refine lv_icmp_eq (tgt := 703) hx hb d_law_298 (by decide) (fun _ => ?_) (fun h => absurd rfl h)
    refine lv_iinc (v := (nI (10 * i + 10))) (lv' := [(3, .int (nI (10 * i + 10))), (0, .ref b), (1, .ref x0), (2, .ref m0)]) hx hb d_law_703 hl (k := 3) rfl (nI_inc10 _) (by decide) rfl (fun ls hl => ?_)
    refine lv_goto (tgt := 18) hx hb d_law_706 (by decide) ?_
    refine W.widen (k := 10 + 2 * (i + 1)) (n := 52263 + 2056 * (i + 1)) (by omega) (by omega) ?_
    exact hn1 x0 k1 t1 p0 b0 r0 n0 s0 m0 mb cnt n1 po1 fi1 la1 d1 o1 f1 dt rf nf sf ⟨hok1.1, hok1.2.1, hok1.2.2.1, hok1.2.2.2, hw3, hd, hc5⟩ ls H locs hP hD hS (lv_sub hl [1, 2, 3, 0] rfl)
  · refine lv_aload_n hx hb d_law_100 rfl (lv_at hl 1 rfl) ?_
    refine lv_aload_n hx hb d_law_101 rfl (lv_at hl 0 rfl) ?_
    refine lv_iload_n hx hb d_law_102 rfl (lv_at hl 3 rfl) ?_
    refine lv_iconst (v := nI 1) hx hb d_law_103 (by decide) ?_
    refine nt_iadd (x := (10 * i)) hx hb d_law_104 ?_
    refine nt_sld (j := 10 * i + 1) hx hb hX hbl hbA hS (by omega) hL d_law_105 ?_
    refine lv_aload_n hx hb d_law_106 rfl (lv_at hl 0 rfl) ?_
    refine lv_iload_n hx hb d_law_107 rfl (lv_at hl 3 rfl) ?_
    refine lv_iconst (v := nI 2) hx hb d_law_108 (by decide) ?_
    refine nt_iadd (x := (10 * i)) hx hb d_law_109 ?_
    refine nt_sld (j := 10 * i + 2) hx hb hX hbl hbA hS (by omega) hL d_law_110 ?_
    refine lv_i2l (v := lB (xs (10 * i + 2)).toInt64.toBitVec) hx hb d_law_111 (lB_of _).symm ?_
    refine lv_bipush (v := nI 32) hx hb d_law_112 (by decide) ?_
    refine bv_lshl hx hb (by omega) d_law_114 ?_
    refine lv_aload_n hx hb d_law_115 rfl (lv_at hl 0 rfl) ?_
    refine lv_iload_n hx hb d_law_116 rfl (lv_at hl 3 rfl) ?_
    refine lv_iconst (v := nI 3) hx hb d_law_117 (by decide) ?_
    refine nt_iadd (x := (10 * i)) hx hb d_law_118 ?_
    refine nt_sld (j := 10 * i + 3) hx hb hX hbl hbA hS (by omega) hL d_law_119 ?_
    refine lv_i2l (v := lB (xs (10 * i + 3)).toInt64.toBitVec) hx hb d_law_120 (lB_of _).symm ?_
    refine lv_ldc2 hx hb hown (hT _ cj_law_13) d_law_121 ?_
    refine tpl (z := lB 4294967295#64) (by decide) ?_
    refine bv_land hx hb d_law_124 ?_
    refine bv_lor hx hb d_law_125 ?_
    refine tpl (z := (lB (q_lg (xs (10 * i + 2)) (xs (10 * i + 3))))) rfl ?_
    refine lv_aload_n hx hb d_law_126 rfl (lv_at hl 0 rfl) ?_
    refine lv_iload_n hx hb d_law_127 rfl (lv_at hl 3 rfl) ?_
    refine lv_iconst (v := nI 4) hx hb d_law_128 (by decide) ?_
    refine nt_iadd (x := (10 * i)) hx hb d_law_129 ?_
    refine nt_sld (j := 10 * i + 4) hx hb hX hbl hbA hS (by omega) hL d_law_130 ?_
    refine lv_i2l (v := lB (xs (10 * i + 4)).toInt64.toBitVec) hx hb d_law_131 (lB_of _).symm ?_
    refine lv_bipush (v := nI 32) hx hb d_law_132 (by decide) ?_
    refine bv_lshl hx hb (by omega) d_law_134 ?_
    refine lv_aload_n hx hb d_law_135 rfl (lv_at hl 0 rfl) ?_
    refine lv_iload_n hx hb d_law_136 rfl (lv_at hl 3 rfl) ?_
    refine lv_iconst (v := nI 5) hx hb d_law_137 (by decide) ?_
    refine nt_iadd (x := (10 * i)) hx hb d_law_138 ?_
    refine nt_sld (j := 10 * i + 5) hx hb hX hbl hbA hS (by omega) hL d_law_139 ?_
    refine lv_i2l (v := lB (xs (10 * i + 5)).toInt64.toBitVec) hx hb d_law_140 (lB_of _).symm ?_
    refine lv_ldc2 hx hb hown (hT _ cj_law_13) d_law_141 ?_
    refine tpl (z := lB 4294967295#64) (by decide) ?_
    refine bv_land hx hb d_law_144 ?_
    refine bv_lor hx hb d_law_145 ?_
    refine tpl (z := (lB (q_lg (xs (10 * i + 4)) (xs (10 * i + 5))))) rfl ?_
    refine lv_aload_n hx hb d_law_146 rfl (lv_at hl 0 rfl) ?_
    refine lv_iload_n hx hb d_law_147 rfl (lv_at hl 3 rfl) ?_
    refine lv_bipush (v := nI 6) hx hb d_law_148 (by decide) ?_
    refine nt_iadd (x := (10 * i)) hx hb d_law_150 ?_
    refine nt_sld (j := 10 * i + 6) hx hb hX hbl hbA hS (by omega) hL d_law_151 ?_
    refine lv_if_eq (tgt := 159) hx hb d_law_152 (by decide) (fun h => absurd h h6) (fun _ => ?_)
    refine lv_iconst (v := nI 1) hx hb d_law_155 (by decide) ?_
    refine lv_goto (tgt := 160) hx hb d_law_156 (by decide) ?_
    refine tpi (z := (bz true)) rfl ?_
    refine lv_aload_n hx hb d_law_160 rfl (lv_at hl 0 rfl) ?_
    refine lv_iload_n hx hb d_law_161 rfl (lv_at hl 3 rfl) ?_
    refine lv_bipush (v := nI 7) hx hb d_law_162 (by decide) ?_
    refine nt_iadd (x := (10 * i)) hx hb d_law_164 ?_
    refine nt_sld (j := 10 * i + 7) hx hb hX hbl hbA hS (by omega) hL d_law_165 ?_
    refine lv_if_eq (tgt := 173) hx hb d_law_166 (by decide) (fun _ => ?_) (fun h => absurd h7 h)
    refine lv_iconst (v := nI 0) hx hb d_law_173 (by decide) ?_
    refine tpi (z := (bz false)) rfl ?_
    refine lv_aload_n hx hb d_law_174 rfl (lv_at hl 0 rfl) ?_
    refine lv_iload_n hx hb d_law_175 rfl (lv_at hl 3 rfl) ?_
    refine lv_bipush (v := nI 8) hx hb d_law_176 (by decide) ?_
    refine nt_iadd (x := (10 * i)) hx hb d_law_178 ?_
    refine nt_sld (j := 10 * i + 8) hx hb hX hbl hbA hS (by omega) hL d_law_179 ?_
    refine lv_i2l (v := lB (xs (10 * i + 8)).toInt64.toBitVec) hx hb d_law_180 (lB_of _).symm ?_
    refine lv_bipush (v := nI 32) hx hb d_law_181 (by decide) ?_
    refine bv_lshl hx hb (by omega) d_law_183 ?_
    refine lv_aload_n hx hb d_law_184 rfl (lv_at hl 0 rfl) ?_
    refine lv_iload_n hx hb d_law_185 rfl (lv_at hl 3 rfl) ?_
    refine lv_bipush (v := nI 9) hx hb d_law_186 (by decide) ?_
    refine nt_iadd (x := (10 * i)) hx hb d_law_188 ?_
    refine nt_sld (j := 10 * i + 9) hx hb hX hbl hbA hS (by omega) hL d_law_189 ?_
    refine lv_i2l (v := lB (xs (10 * i + 9)).toInt64.toBitVec) hx hb d_law_190 (lB_of _).symm ?_
    refine lv_ldc2 hx hb hown (hT _ cj_law_13) d_law_191 ?_
    refine tpl (z := lB 4294967295#64) (by decide) ?_
    refine bv_land hx hb d_law_194 ?_
    refine bv_lor hx hb d_law_195 ?_
    refine tpl (z := (lB (q_lg (xs (10 * i + 8)) (xs (10 * i + 9))))) rfl ?_
    refine kk_muI (wr := [(b0, .inl (cB, 5000, .inl (fun j => sb (dt j)))), (r0, .inl (cB, 40064, .inl rf)), (p0, .inr (1, [.ref n0, .ref s0])), (n0, .inl (cL, 64, .inr (.inl nf))), (s0, .inl (cL, 64, .inr (.inl sf))), (m0, .inr (3, mf n po fi la d o mb cnt)), (mb, .inl (cI, 5000, .inl (fun j => nI (dt j))))]) (run_muV (rest := []) F (c_X_kind l D cL cB cI x0 k0 t0 p0 b0 r0 cnt n po fi la d o f (xs (10 * i + 1)) (q_lg (xs (10 * i + 2)) (xs (10 * i + 3))) (q_lg (xs (10 * i + 4)) (xs (10 * i + 5))) true false (q_lg (xs (10 * i + 8)) (xs (10 * i + 9))) _ hf) k_X_kind ml_law_15 ⟨rfl, rfl, by decide, by decide⟩ hK (hP.sub [0, 1, 2] rfl) (hD.sub [0, 1, 2] (by decide) rfl) rfl rfl rfl rfl hl.1 rfl (Nat.le_of_ble_eq_true rfl) d_law_196 hcap2) hS hP hD hA [0, 1, 2] [3, 4, 5, 6, 7, 8, 9] rfl rfl (by decide) (by decide) (fun r u H locs hw hP hD hS => ?_)
    obtain ⟨⟨k1, t1, f1⟩, n1, po1, fi1, la1, d1, o1⟩ := u
    obtain ⟨hw1, hw2, hw3⟩ := hw
    subst hw1
    have hw3 : ∀ b, b < 2048 → f1 b = lB (q_tab d1 (q_sd d1 n1 po1) b) := hw3
    have hP : va_P D classes [(b0, .inl (cB, 5000, .inl (fun j => sb (dt j)))), (r0, .inl (cB, 40064, .inl rf)), (p0, .inr (1, [.ref n0, .ref s0])), (n0, .inl (cL, 64, .inr (.inl nf))), (s0, .inl (cL, 64, .inr (.inl sf))), (m0, .inr (3, mf n po fi la d o mb cnt)), (mb, .inl (cI, 5000, .inl (fun j => nI (dt j)))), (x0, .inr (2, xf k1 p0 b0 r0 cnt)), (k1, .inr (0, kf n1 po1 fi1 la1 d1 o1 t1)), (t1, .inl (cL, 2048, .inr (.inl f1)))] H := hP
    have hD : va_D A [(b0, .inl (cB, 5000, .inl (fun j => sb (dt j)))), (r0, .inl (cB, 40064, .inl rf)), (p0, .inr (1, [.ref n0, .ref s0])), (n0, .inl (cL, 64, .inr (.inl nf))), (s0, .inl (cL, 64, .inr (.inl sf))), (m0, .inr (3, mf n po fi la d o mb cnt)), (mb, .inl (cI, 5000, .inl (fun j => nI (dt j)))), (x0, .inr (2, xf k1 p0 b0 r0 cnt)), (k1, .inr (0, kf n1 po1 fi1 la1 d1 o1 t1)), (t1, .inl (cL, 2048, .inr (.inl f1)))] := hD
    have hP := hP.sub (ws' := [(x0, .inr (2, xf k1 p0 b0 r0 cnt)), (k1, .inr (0, kf n1 po1 fi1 la1 d1 o1 t1)), (t1, .inl (cL, 2048, .inr (.inl f1))), (b0, .inl (cB, 5000, .inl (fun j => sb (dt j)))), (r0, .inl (cB, 40064, .inl rf)), (p0, .inr (1, [.ref n0, .ref s0])), (n0, .inl (cL, 64, .inr (.inl nf))), (s0, .inl (cL, 64, .inr (.inl sf))), (m0, .inr (3, mf n po fi la d o mb cnt)), (mb, .inl (cI, 5000, .inl (fun j => nI (dt j))))]) [7, 8, 9, 0, 1, 2, 3, 4, 5, 6] rfl
    have hD := hD.sub (ws' := [(x0, .inr (2, xf k1 p0 b0 r0 cnt)), (k1, .inr (0, kf n1 po1 fi1 la1 d1 o1 t1)), (t1, .inl (cL, 2048, .inr (.inl f1))), (b0, .inl (cB, 5000, .inl (fun j => sb (dt j)))), (r0, .inl (cB, 40064, .inl rf)), (p0, .inr (1, [.ref n0, .ref s0])), (n0, .inl (cL, 64, .inr (.inl nf))), (s0, .inl (cL, 64, .inr (.inl sf))), (m0, .inr (3, mf n po fi la d o mb cnt)), (mb, .inl (cI, 5000, .inl (fun j => nI (dt j))))]) [7, 8, 9, 0, 1, 2, 3, 4, 5, 6] (by decide) rfl
    refine lv_aload_n hx hb d_law_199 rfl (lv_at hl 2 rfl) ?_
    refine lv_aload_n hx hb d_law_200 rfl (lv_at hl 0 rfl) ?_
    refine lv_iload_n hx hb d_law_201 rfl (lv_at hl 3 rfl) ?_
    refine lv_iconst (v := nI 1) hx hb d_law_202 (by decide) ?_
    refine nt_iadd (x := (10 * i)) hx hb d_law_203 ?_
    refine nt_sld (j := 10 * i + 1) hx hb hX hbl hbA hS (by omega) hL d_law_204 ?_
    refine lv_aload_n hx hb d_law_205 rfl (lv_at hl 0 rfl) ?_
    refine lv_iload_n hx hb d_law_206 rfl (lv_at hl 3 rfl) ?_
    refine lv_iconst (v := nI 2) hx hb d_law_207 (by decide) ?_
    refine nt_iadd (x := (10 * i)) hx hb d_law_208 ?_
    refine nt_sld (j := 10 * i + 2) hx hb hX hbl hbA hS (by omega) hL d_law_209 ?_
    refine lv_i2l (v := lB (xs (10 * i + 2)).toInt64.toBitVec) hx hb d_law_210 (lB_of _).symm ?_
    refine lv_bipush (v := nI 32) hx hb d_law_211 (by decide) ?_
    refine bv_lshl hx hb (by omega) d_law_213 ?_
    refine lv_aload_n hx hb d_law_214 rfl (lv_at hl 0 rfl) ?_
    refine lv_iload_n hx hb d_law_215 rfl (lv_at hl 3 rfl) ?_
    refine lv_iconst (v := nI 3) hx hb d_law_216 (by decide) ?_
    refine nt_iadd (x := (10 * i)) hx hb d_law_217 ?_
    refine nt_sld (j := 10 * i + 3) hx hb hX hbl hbA hS (by omega) hL d_law_218 ?_
    refine lv_i2l (v := lB (xs (10 * i + 3)).toInt64.toBitVec) hx hb d_law_219 (lB_of _).symm ?_
    refine lv_ldc2 hx hb hown (hT _ cj_law_13) d_law_220 ?_
    refine tpl (z := lB 4294967295#64) (by decide) ?_
    refine bv_land hx hb d_law_223 ?_
    refine bv_lor hx hb d_law_224 ?_
    refine tpl (z := (lB (q_lg (xs (10 * i + 2)) (xs (10 * i + 3))))) rfl ?_
    refine lv_aload_n hx hb d_law_225 rfl (lv_at hl 0 rfl) ?_
    refine lv_iload_n hx hb d_law_226 rfl (lv_at hl 3 rfl) ?_
    refine lv_iconst (v := nI 4) hx hb d_law_227 (by decide) ?_
    refine nt_iadd (x := (10 * i)) hx hb d_law_228 ?_
    refine nt_sld (j := 10 * i + 4) hx hb hX hbl hbA hS (by omega) hL d_law_229 ?_
    refine lv_i2l (v := lB (xs (10 * i + 4)).toInt64.toBitVec) hx hb d_law_230 (lB_of _).symm ?_
    refine lv_bipush (v := nI 32) hx hb d_law_231 (by decide) ?_
    refine bv_lshl hx hb (by omega) d_law_233 ?_
    refine lv_aload_n hx hb d_law_234 rfl (lv_at hl 0 rfl) ?_
    refine lv_iload_n hx hb d_law_235 rfl (lv_at hl 3 rfl) ?_
    refine lv_iconst (v := nI 5) hx hb d_law_236 (by decide) ?_
    refine nt_iadd (x := (10 * i)) hx hb d_law_237 ?_
    refine nt_sld (j := 10 * i + 5) hx hb hX hbl hbA hS (by omega) hL d_law_238 ?_
    refine lv_i2l (v := lB (xs (10 * i + 5)).toInt64.toBitVec) hx hb d_law_239 (lB_of _).symm ?_
    refine lv_ldc2 hx hb hown (hT _ cj_law_13) d_law_240 ?_
    refine tpl (z := lB 4294967295#64) (by decide) ?_
    refine bv_land hx hb d_law_243 ?_
    refine bv_lor hx hb d_law_244 ?_
    refine tpl (z := (lB (q_lg (xs (10 * i + 4)) (xs (10 * i + 5))))) rfl ?_
    refine lv_aload_n hx hb d_law_245 rfl (lv_at hl 0 rfl) ?_
    refine lv_iload_n hx hb d_law_246 rfl (lv_at hl 3 rfl) ?_
    refine lv_bipush (v := nI 6) hx hb d_law_247 (by decide) ?_
    refine nt_iadd (x := (10 * i)) hx hb d_law_249 ?_
    refine nt_sld (j := 10 * i + 6) hx hb hX hbl hbA hS (by omega) hL d_law_250 ?_
    refine lv_if_eq (tgt := 258) hx hb d_law_251 (by decide) (fun h => absurd h h6) (fun _ => ?_)
    refine lv_iconst (v := nI 1) hx hb d_law_254 (by decide) ?_
    refine lv_goto (tgt := 259) hx hb d_law_255 (by decide) ?_
    refine tpi (z := (bz true)) rfl ?_
    refine lv_aload_n hx hb d_law_259 rfl (lv_at hl 0 rfl) ?_
    refine lv_iload_n hx hb d_law_260 rfl (lv_at hl 3 rfl) ?_
    refine lv_bipush (v := nI 7) hx hb d_law_261 (by decide) ?_
    refine nt_iadd (x := (10 * i)) hx hb d_law_263 ?_
    refine nt_sld (j := 10 * i + 7) hx hb hX hbl hbA hS (by omega) hL d_law_264 ?_
    refine lv_if_eq (tgt := 272) hx hb d_law_265 (by decide) (fun _ => ?_) (fun h => absurd h7 h)
    refine lv_iconst (v := nI 0) hx hb d_law_272 (by decide) ?_
    refine tpi (z := (bz false)) rfl ?_
    refine lv_aload_n hx hb d_law_273 rfl (lv_at hl 0 rfl) ?_
    refine lv_iload_n hx hb d_law_274 rfl (lv_at hl 3 rfl) ?_
    refine lv_bipush (v := nI 8) hx hb d_law_275 (by decide) ?_
    refine nt_iadd (x := (10 * i)) hx hb d_law_277 ?_
    refine nt_sld (j := 10 * i + 8) hx hb hX hbl hbA hS (by omega) hL d_law_278 ?_
    refine lv_i2l (v := lB (xs (10 * i + 8)).toInt64.toBitVec) hx hb d_law_279 (lB_of _).symm ?_
    refine lv_bipush (v := nI 32) hx hb d_law_280 (by decide) ?_
    refine bv_lshl hx hb (by omega) d_law_282 ?_
    refine lv_aload_n hx hb d_law_283 rfl (lv_at hl 0 rfl) ?_
    refine lv_iload_n hx hb d_law_284 rfl (lv_at hl 3 rfl) ?_
    refine lv_bipush (v := nI 9) hx hb d_law_285 (by decide) ?_
    refine nt_iadd (x := (10 * i)) hx hb d_law_287 ?_
    refine nt_sld (j := 10 * i + 9) hx hb hX hbl hbA hS (by omega) hL d_law_288 ?_
    refine lv_i2l (v := lB (xs (10 * i + 9)).toInt64.toBitVec) hx hb d_law_289 (lB_of _).symm ?_
    refine lv_ldc2 hx hb hown (hT _ cj_law_13) d_law_290 ?_
    refine tpl (z := lB 4294967295#64) (by decide) ?_
    refine bv_land hx hb d_law_293 ?_
    refine bv_lor hx hb d_law_294 ?_
    refine tpl (z := (lB (q_lg (xs (10 * i + 8)) (xs (10 * i + 9))))) rfl ?_
    refine kk_muI (wr := [(x0, .inr (2, xf k1 p0 b0 r0 cnt)), (k1, .inr (0, kf n1 po1 fi1 la1 d1 o1 t1)), (t1, .inl (cL, 2048, .inr (.inl f1))), (b0, .inl (cB, 5000, .inl (fun j => sb (dt j)))), (r0, .inl (cB, 40064, .inl rf)), (p0, .inr (1, [.ref n0, .ref s0])), (n0, .inl (cL, 64, .inr (.inl nf))), (s0, .inl (cL, 64, .inr (.inl sf)))]) (run_muV (rest := [.int (bz (q_kok (xs (10 * i + 1))))]) F (c_M_kind l D cL cB cI m0 mb cnt n po fi la d o dt (xs (10 * i + 1)) (q_lg (xs (10 * i + 2)) (xs (10 * i + 3))) (q_lg (xs (10 * i + 4)) (xs (10 * i + 5))) true false (q_lg (xs (10 * i + 8)) (xs (10 * i + 9))) _) k_M_kind ml_law_19 ⟨rfl, rfl, by decide, by decide⟩ hK (hP.sub [8, 9] rfl) (hD.sub [8, 9] (by decide) rfl) rfl rfl rfl rfl hl.1 rfl (Nat.le_of_ble_eq_true rfl) d_law_295 hcap2) hS hP hD hA [8, 9] [0, 1, 2, 3, 4, 5, 6, 7] rfl rfl (by decide) (by decide) (fun r u H locs hv hP hD hS => ?_)
    obtain ⟨n2, po2, fi2, la2, d2, o2⟩ := u
    obtain ⟨hv1, hv2⟩ := hv
    subst hv1
    have hE := kp_eq hw2 hv2
    have hok1 := kp_ok hw2 hn hp hfi hla
    cases hE
    have hP : va_P D classes [(x0, .inr (2, xf k1 p0 b0 r0 cnt)), (k1, .inr (0, kf n1 po1 fi1 la1 d1 o1 t1)), (t1, .inl (cL, 2048, .inr (.inl f1))), (b0, .inl (cB, 5000, .inl (fun j => sb (dt j)))), (r0, .inl (cB, 40064, .inl rf)), (p0, .inr (1, [.ref n0, .ref s0])), (n0, .inl (cL, 64, .inr (.inl nf))), (s0, .inl (cL, 64, .inr (.inl sf))), (m0, .inr (3, mf n1 po1 fi1 la1 d1 o1 mb cnt)), (mb, .inl (cI, 5000, .inl (fun j => nI (dt j))))] H := hP
    have hD : va_D A [(x0, .inr (2, xf k1 p0 b0 r0 cnt)), (k1, .inr (0, kf n1 po1 fi1 la1 d1 o1 t1)), (t1, .inl (cL, 2048, .inr (.inl f1))), (b0, .inl (cB, 5000, .inl (fun j => sb (dt j)))), (r0, .inl (cB, 40064, .inl rf)), (p0, .inr (1, [.ref n0, .ref s0])), (n0, .inl (cL, 64, .inr (.inl nf))), (s0, .inl (cL, 64, .inr (.inl sf))), (m0, .inr (3, mf n1 po1 fi1 la1 d1 o1 mb cnt)), (mb, .inl (cI, 5000, .inl (fun j => nI (dt j))))] := hD
    refine lv_icmp_eq (tgt := 703) hx hb d_law_298 (by decide) (fun _ => ?_) (fun h => absurd rfl h)
    refine lv_iinc (v := (nI (10 * i + 10))) (lv' := [(3, .int (nI (10 * i + 10))), (0, .ref b), (1, .ref x0), (2, .ref m0)]) hx hb d_law_703 hl (k := 3) rfl (nI_inc10 _) (by decide) rfl (fun ls hl => ?_)
    refine lv_goto (tgt := 18) hx hb d_law_706 (by decide) ?_
    refine W.widen (k := 10 + 2 * (i + 1)) (n := 52263 + 2056 * (i + 1)) (by omega) (by omega) ?_
    exact hn1 x0 k1 t1 p0 b0 r0 n0 s0 m0 mb cnt n1 po1 fi1 la1 d1 o1 f1 dt rf nf sf ⟨hok1.1, hok1.2.1, hok1.2.2.1, hok1.2.2.2, hw3, hd, hc5⟩ ls H locs hP hD hS (lv_sub hl [1, 2, 3, 0] rfl)
  · refine lv_aload_n hx hb d_law_100 rfl (lv_at hl 1 rfl) ?_
    refine lv_aload_n hx hb d_law_101 rfl (lv_at hl 0 rfl) ?_
    refine lv_iload_n hx hb d_law_102 rfl (lv_at hl 3 rfl) ?_
    refine lv_iconst (v := nI 1) hx hb d_law_103 (by decide) ?_
    refine nt_iadd (x := (10 * i)) hx hb d_law_104 ?_
    refine nt_sld (j := 10 * i + 1) hx hb hX hbl hbA hS (by omega) hL d_law_105 ?_
    refine lv_aload_n hx hb d_law_106 rfl (lv_at hl 0 rfl) ?_
    refine lv_iload_n hx hb d_law_107 rfl (lv_at hl 3 rfl) ?_
    refine lv_iconst (v := nI 2) hx hb d_law_108 (by decide) ?_
    refine nt_iadd (x := (10 * i)) hx hb d_law_109 ?_
    refine nt_sld (j := 10 * i + 2) hx hb hX hbl hbA hS (by omega) hL d_law_110 ?_
    refine lv_i2l (v := lB (xs (10 * i + 2)).toInt64.toBitVec) hx hb d_law_111 (lB_of _).symm ?_
    refine lv_bipush (v := nI 32) hx hb d_law_112 (by decide) ?_
    refine bv_lshl hx hb (by omega) d_law_114 ?_
    refine lv_aload_n hx hb d_law_115 rfl (lv_at hl 0 rfl) ?_
    refine lv_iload_n hx hb d_law_116 rfl (lv_at hl 3 rfl) ?_
    refine lv_iconst (v := nI 3) hx hb d_law_117 (by decide) ?_
    refine nt_iadd (x := (10 * i)) hx hb d_law_118 ?_
    refine nt_sld (j := 10 * i + 3) hx hb hX hbl hbA hS (by omega) hL d_law_119 ?_
    refine lv_i2l (v := lB (xs (10 * i + 3)).toInt64.toBitVec) hx hb d_law_120 (lB_of _).symm ?_
    refine lv_ldc2 hx hb hown (hT _ cj_law_13) d_law_121 ?_
    refine tpl (z := lB 4294967295#64) (by decide) ?_
    refine bv_land hx hb d_law_124 ?_
    refine bv_lor hx hb d_law_125 ?_
    refine tpl (z := (lB (q_lg (xs (10 * i + 2)) (xs (10 * i + 3))))) rfl ?_
    refine lv_aload_n hx hb d_law_126 rfl (lv_at hl 0 rfl) ?_
    refine lv_iload_n hx hb d_law_127 rfl (lv_at hl 3 rfl) ?_
    refine lv_iconst (v := nI 4) hx hb d_law_128 (by decide) ?_
    refine nt_iadd (x := (10 * i)) hx hb d_law_129 ?_
    refine nt_sld (j := 10 * i + 4) hx hb hX hbl hbA hS (by omega) hL d_law_130 ?_
    refine lv_i2l (v := lB (xs (10 * i + 4)).toInt64.toBitVec) hx hb d_law_131 (lB_of _).symm ?_
    refine lv_bipush (v := nI 32) hx hb d_law_132 (by decide) ?_
    refine bv_lshl hx hb (by omega) d_law_134 ?_
    refine lv_aload_n hx hb d_law_135 rfl (lv_at hl 0 rfl) ?_
    refine lv_iload_n hx hb d_law_136 rfl (lv_at hl 3 rfl) ?_
    refine lv_iconst (v := nI 5) hx hb d_law_137 (by decide) ?_
    refine nt_iadd (x := (10 * i)) hx hb d_law_138 ?_
    refine nt_sld (j := 10 * i + 5) hx hb hX hbl hbA hS (by omega) hL d_law_139 ?_
    refine lv_i2l (v := lB (xs (10 * i + 5)).toInt64.toBitVec) hx hb d_law_140 (lB_of _).symm ?_
    refine lv_ldc2 hx hb hown (hT _ cj_law_13) d_law_141 ?_
    refine tpl (z := lB 4294967295#64) (by decide) ?_
    refine bv_land hx hb d_law_144 ?_
    refine bv_lor hx hb d_law_145 ?_
    refine tpl (z := (lB (q_lg (xs (10 * i + 4)) (xs (10 * i + 5))))) rfl ?_
    refine lv_aload_n hx hb d_law_146 rfl (lv_at hl 0 rfl) ?_
    refine lv_iload_n hx hb d_law_147 rfl (lv_at hl 3 rfl) ?_
    refine lv_bipush (v := nI 6) hx hb d_law_148 (by decide) ?_
    refine nt_iadd (x := (10 * i)) hx hb d_law_150 ?_
    refine nt_sld (j := 10 * i + 6) hx hb hX hbl hbA hS (by omega) hL d_law_151 ?_
    refine lv_if_eq (tgt := 159) hx hb d_law_152 (by decide) (fun h => absurd h h6) (fun _ => ?_)
    refine lv_iconst (v := nI 1) hx hb d_law_155 (by decide) ?_
    refine lv_goto (tgt := 160) hx hb d_law_156 (by decide) ?_
    refine tpi (z := (bz true)) rfl ?_
    refine lv_aload_n hx hb d_law_160 rfl (lv_at hl 0 rfl) ?_
    refine lv_iload_n hx hb d_law_161 rfl (lv_at hl 3 rfl) ?_
    refine lv_bipush (v := nI 7) hx hb d_law_162 (by decide) ?_
    refine nt_iadd (x := (10 * i)) hx hb d_law_164 ?_
    refine nt_sld (j := 10 * i + 7) hx hb hX hbl hbA hS (by omega) hL d_law_165 ?_
    refine lv_if_eq (tgt := 173) hx hb d_law_166 (by decide) (fun h => absurd h h7) (fun _ => ?_)
    refine lv_iconst (v := nI 1) hx hb d_law_169 (by decide) ?_
    refine lv_goto (tgt := 174) hx hb d_law_170 (by decide) ?_
    refine tpi (z := (bz true)) rfl ?_
    refine lv_aload_n hx hb d_law_174 rfl (lv_at hl 0 rfl) ?_
    refine lv_iload_n hx hb d_law_175 rfl (lv_at hl 3 rfl) ?_
    refine lv_bipush (v := nI 8) hx hb d_law_176 (by decide) ?_
    refine nt_iadd (x := (10 * i)) hx hb d_law_178 ?_
    refine nt_sld (j := 10 * i + 8) hx hb hX hbl hbA hS (by omega) hL d_law_179 ?_
    refine lv_i2l (v := lB (xs (10 * i + 8)).toInt64.toBitVec) hx hb d_law_180 (lB_of _).symm ?_
    refine lv_bipush (v := nI 32) hx hb d_law_181 (by decide) ?_
    refine bv_lshl hx hb (by omega) d_law_183 ?_
    refine lv_aload_n hx hb d_law_184 rfl (lv_at hl 0 rfl) ?_
    refine lv_iload_n hx hb d_law_185 rfl (lv_at hl 3 rfl) ?_
    refine lv_bipush (v := nI 9) hx hb d_law_186 (by decide) ?_
    refine nt_iadd (x := (10 * i)) hx hb d_law_188 ?_
    refine nt_sld (j := 10 * i + 9) hx hb hX hbl hbA hS (by omega) hL d_law_189 ?_
    refine lv_i2l (v := lB (xs (10 * i + 9)).toInt64.toBitVec) hx hb d_law_190 (lB_of _).symm ?_
    refine lv_ldc2 hx hb hown (hT _ cj_law_13) d_law_191 ?_
    refine tpl (z := lB 4294967295#64) (by decide) ?_
    refine bv_land hx hb d_law_194 ?_
    refine bv_lor hx hb d_law_195 ?_
    refine tpl (z := (lB (q_lg (xs (10 * i + 8)) (xs (10 * i + 9))))) rfl ?_
    refine kk_muI (wr := [(b0, .inl (cB, 5000, .inl (fun j => sb (dt j)))), (r0, .inl (cB, 40064, .inl rf)), (p0, .inr (1, [.ref n0, .ref s0])), (n0, .inl (cL, 64, .inr (.inl nf))), (s0, .inl (cL, 64, .inr (.inl sf))), (m0, .inr (3, mf n po fi la d o mb cnt)), (mb, .inl (cI, 5000, .inl (fun j => nI (dt j))))]) (run_muV (rest := []) F (c_X_kind l D cL cB cI x0 k0 t0 p0 b0 r0 cnt n po fi la d o f (xs (10 * i + 1)) (q_lg (xs (10 * i + 2)) (xs (10 * i + 3))) (q_lg (xs (10 * i + 4)) (xs (10 * i + 5))) true true (q_lg (xs (10 * i + 8)) (xs (10 * i + 9))) _ hf) k_X_kind ml_law_15 ⟨rfl, rfl, by decide, by decide⟩ hK (hP.sub [0, 1, 2] rfl) (hD.sub [0, 1, 2] (by decide) rfl) rfl rfl rfl rfl hl.1 rfl (Nat.le_of_ble_eq_true rfl) d_law_196 hcap2) hS hP hD hA [0, 1, 2] [3, 4, 5, 6, 7, 8, 9] rfl rfl (by decide) (by decide) (fun r u H locs hw hP hD hS => ?_)
    obtain ⟨⟨k1, t1, f1⟩, n1, po1, fi1, la1, d1, o1⟩ := u
    obtain ⟨hw1, hw2, hw3⟩ := hw
    subst hw1
    have hw3 : ∀ b, b < 2048 → f1 b = lB (q_tab d1 (q_sd d1 n1 po1) b) := hw3
    have hP : va_P D classes [(b0, .inl (cB, 5000, .inl (fun j => sb (dt j)))), (r0, .inl (cB, 40064, .inl rf)), (p0, .inr (1, [.ref n0, .ref s0])), (n0, .inl (cL, 64, .inr (.inl nf))), (s0, .inl (cL, 64, .inr (.inl sf))), (m0, .inr (3, mf n po fi la d o mb cnt)), (mb, .inl (cI, 5000, .inl (fun j => nI (dt j)))), (x0, .inr (2, xf k1 p0 b0 r0 cnt)), (k1, .inr (0, kf n1 po1 fi1 la1 d1 o1 t1)), (t1, .inl (cL, 2048, .inr (.inl f1)))] H := hP
    have hD : va_D A [(b0, .inl (cB, 5000, .inl (fun j => sb (dt j)))), (r0, .inl (cB, 40064, .inl rf)), (p0, .inr (1, [.ref n0, .ref s0])), (n0, .inl (cL, 64, .inr (.inl nf))), (s0, .inl (cL, 64, .inr (.inl sf))), (m0, .inr (3, mf n po fi la d o mb cnt)), (mb, .inl (cI, 5000, .inl (fun j => nI (dt j)))), (x0, .inr (2, xf k1 p0 b0 r0 cnt)), (k1, .inr (0, kf n1 po1 fi1 la1 d1 o1 t1)), (t1, .inl (cL, 2048, .inr (.inl f1)))] := hD
    have hP := hP.sub (ws' := [(x0, .inr (2, xf k1 p0 b0 r0 cnt)), (k1, .inr (0, kf n1 po1 fi1 la1 d1 o1 t1)), (t1, .inl (cL, 2048, .inr (.inl f1))), (b0, .inl (cB, 5000, .inl (fun j => sb (dt j)))), (r0, .inl (cB, 40064, .inl rf)), (p0, .inr (1, [.ref n0, .ref s0])), (n0, .inl (cL, 64, .inr (.inl nf))), (s0, .inl (cL, 64, .inr (.inl sf))), (m0, .inr (3, mf n po fi la d o mb cnt)), (mb, .inl (cI, 5000, .inl (fun j => nI (dt j))))]) [7, 8, 9, 0, 1, 2, 3, 4, 5, 6] rfl
    have hD := hD.sub (ws' := [(x0, .inr (2, xf k1 p0 b0 r0 cnt)), (k1, .inr (0, kf n1 po1 fi1 la1 d1 o1 t1)), (t1, .inl (cL, 2048, .inr (.inl f1))), (b0, .inl (cB, 5000, .inl (fun j => sb (dt j)))), (r0, .inl (cB, 40064, .inl rf)), (p0, .inr (1, [.ref n0, .ref s0])), (n0, .inl (cL, 64, .inr (.inl nf))), (s0, .inl (cL, 64, .inr (.inl sf))), (m0, .inr (3, mf n po fi la d o mb cnt)), (mb, .inl (cI, 5000, .inl (fun j => nI (dt j))))]) [7, 8, 9, 0, 1, 2, 3, 4, 5, 6] (by decide) rfl
    refine lv_aload_n hx hb d_law_199 rfl (lv_at hl 2 rfl) ?_
    refine lv_aload_n hx hb d_law_200 rfl (lv_at hl 0 rfl) ?_
    refine lv_iload_n hx hb d_law_201 rfl (lv_at hl 3 rfl) ?_
    refine lv_iconst (v := nI 1) hx hb d_law_202 (by decide) ?_
    refine nt_iadd (x := (10 * i)) hx hb d_law_203 ?_
    refine nt_sld (j := 10 * i + 1) hx hb hX hbl hbA hS (by omega) hL d_law_204 ?_
    refine lv_aload_n hx hb d_law_205 rfl (lv_at hl 0 rfl) ?_
    refine lv_iload_n hx hb d_law_206 rfl (lv_at hl 3 rfl) ?_
    refine lv_iconst (v := nI 2) hx hb d_law_207 (by decide) ?_
    refine nt_iadd (x := (10 * i)) hx hb d_law_208 ?_
    refine nt_sld (j := 10 * i + 2) hx hb hX hbl hbA hS (by omega) hL d_law_209 ?_
    refine lv_i2l (v := lB (xs (10 * i + 2)).toInt64.toBitVec) hx hb d_law_210 (lB_of _).symm ?_
    refine lv_bipush (v := nI 32) hx hb d_law_211 (by decide) ?_
    refine bv_lshl hx hb (by omega) d_law_213 ?_
    refine lv_aload_n hx hb d_law_214 rfl (lv_at hl 0 rfl) ?_
    refine lv_iload_n hx hb d_law_215 rfl (lv_at hl 3 rfl) ?_
    refine lv_iconst (v := nI 3) hx hb d_law_216 (by decide) ?_
    refine nt_iadd (x := (10 * i)) hx hb d_law_217 ?_
    refine nt_sld (j := 10 * i + 3) hx hb hX hbl hbA hS (by omega) hL d_law_218 ?_
    refine lv_i2l (v := lB (xs (10 * i + 3)).toInt64.toBitVec) hx hb d_law_219 (lB_of _).symm ?_
    refine lv_ldc2 hx hb hown (hT _ cj_law_13) d_law_220 ?_
    refine tpl (z := lB 4294967295#64) (by decide) ?_
    refine bv_land hx hb d_law_223 ?_
    refine bv_lor hx hb d_law_224 ?_
    refine tpl (z := (lB (q_lg (xs (10 * i + 2)) (xs (10 * i + 3))))) rfl ?_
    refine lv_aload_n hx hb d_law_225 rfl (lv_at hl 0 rfl) ?_
    refine lv_iload_n hx hb d_law_226 rfl (lv_at hl 3 rfl) ?_
    refine lv_iconst (v := nI 4) hx hb d_law_227 (by decide) ?_
    refine nt_iadd (x := (10 * i)) hx hb d_law_228 ?_
    refine nt_sld (j := 10 * i + 4) hx hb hX hbl hbA hS (by omega) hL d_law_229 ?_
    refine lv_i2l (v := lB (xs (10 * i + 4)).toInt64.toBitVec) hx hb d_law_230 (lB_of _).symm ?_
    refine lv_bipush (v := nI 32) hx hb d_law_231 (by decide) ?_
    refine bv_lshl hx hb (by omega) d_law_233 ?_
    refine lv_aload_n hx hb d_law_234 rfl (lv_at hl 0 rfl) ?_
    refine lv_iload_n hx hb d_law_235 rfl (lv_at hl 3 rfl) ?_
    refine lv_iconst (v := nI 5) hx hb d_law_236 (by decide) ?_
    refine nt_iadd (x := (10 * i)) hx hb d_law_237 ?_
    refine nt_sld (j := 10 * i + 5) hx hb hX hbl hbA hS (by omega) hL d_law_238 ?_
    refine lv_i2l (v := lB (xs (10 * i + 5)).toInt64.toBitVec) hx hb d_law_239 (lB_of _).symm ?_
    refine lv_ldc2 hx hb hown (hT _ cj_law_13) d_law_240 ?_
    refine tpl (z := lB 4294967295#64) (by decide) ?_
    refine bv_land hx hb d_law_243 ?_
    refine bv_lor hx hb d_law_244 ?_
    refine tpl (z := (lB (q_lg (xs (10 * i + 4)) (xs (10 * i + 5))))) rfl ?_
    refine lv_aload_n hx hb d_law_245 rfl (lv_at hl 0 rfl) ?_
    refine lv_iload_n hx hb d_law_246 rfl (lv_at hl 3 rfl) ?_
    refine lv_bipush (v := nI 6) hx hb d_law_247 (by decide) ?_
    refine nt_iadd (x := (10 * i)) hx hb d_law_249 ?_
    refine nt_sld (j := 10 * i + 6) hx hb hX hbl hbA hS (by omega) hL d_law_250 ?_
    refine lv_if_eq (tgt := 258) hx hb d_law_251 (by decide) (fun h => absurd h h6) (fun _ => ?_)
    refine lv_iconst (v := nI 1) hx hb d_law_254 (by decide) ?_
    refine lv_goto (tgt := 259) hx hb d_law_255 (by decide) ?_
    refine tpi (z := (bz true)) rfl ?_
    refine lv_aload_n hx hb d_law_259 rfl (lv_at hl 0 rfl) ?_
    refine lv_iload_n hx hb d_law_260 rfl (lv_at hl 3 rfl) ?_
    refine lv_bipush (v := nI 7) hx hb d_law_261 (by decide) ?_
    refine nt_iadd (x := (10 * i)) hx hb d_law_263 ?_
    refine nt_sld (j := 10 * i + 7) hx hb hX hbl hbA hS (by omega) hL d_law_264 ?_
    refine lv_if_eq (tgt := 272) hx hb d_law_265 (by decide) (fun h => absurd h h7) (fun _ => ?_)
    refine lv_iconst (v := nI 1) hx hb d_law_268 (by decide) ?_
    refine lv_goto (tgt := 273) hx hb d_law_269 (by decide) ?_
    refine tpi (z := (bz true)) rfl ?_
    refine lv_aload_n hx hb d_law_273 rfl (lv_at hl 0 rfl) ?_
    refine lv_iload_n hx hb d_law_274 rfl (lv_at hl 3 rfl) ?_
    refine lv_bipush (v := nI 8) hx hb d_law_275 (by decide) ?_
    refine nt_iadd (x := (10 * i)) hx hb d_law_277 ?_
    refine nt_sld (j := 10 * i + 8) hx hb hX hbl hbA hS (by omega) hL d_law_278 ?_
    refine lv_i2l (v := lB (xs (10 * i + 8)).toInt64.toBitVec) hx hb d_law_279 (lB_of _).symm ?_
    refine lv_bipush (v := nI 32) hx hb d_law_280 (by decide) ?_
    refine bv_lshl hx hb (by omega) d_law_282 ?_
    refine lv_aload_n hx hb d_law_283 rfl (lv_at hl 0 rfl) ?_
    refine lv_iload_n hx hb d_law_284 rfl (lv_at hl 3 rfl) ?_
    refine lv_bipush (v := nI 9) hx hb d_law_285 (by decide) ?_
    refine nt_iadd (x := (10 * i)) hx hb d_law_287 ?_
    refine nt_sld (j := 10 * i + 9) hx hb hX hbl hbA hS (by omega) hL d_law_288 ?_
    refine lv_i2l (v := lB (xs (10 * i + 9)).toInt64.toBitVec) hx hb d_law_289 (lB_of _).symm ?_
    refine lv_ldc2 hx hb hown (hT _ cj_law_13) d_law_290 ?_
    refine tpl (z := lB 4294967295#64) (by decide) ?_
    refine bv_land hx hb d_law_293 ?_
    refine bv_lor hx hb d_law_294 ?_
    refine tpl (z := (lB (q_lg (xs (10 * i + 8)) (xs (10 * i + 9))))) rfl ?_
    refine kk_muI (wr := [(x0, .inr (2, xf k1 p0 b0 r0 cnt)), (k1, .inr (0, kf n1 po1 fi1 la1 d1 o1 t1)), (t1, .inl (cL, 2048, .inr (.inl f1))), (b0, .inl (cB, 5000, .inl (fun j => sb (dt j)))), (r0, .inl (cB, 40064, .inl rf)), (p0, .inr (1, [.ref n0, .ref s0])), (n0, .inl (cL, 64, .inr (.inl nf))), (s0, .inl (cL, 64, .inr (.inl sf)))]) (run_muV (rest := [.int (bz (q_kok (xs (10 * i + 1))))]) F (c_M_kind l D cL cB cI m0 mb cnt n po fi la d o dt (xs (10 * i + 1)) (q_lg (xs (10 * i + 2)) (xs (10 * i + 3))) (q_lg (xs (10 * i + 4)) (xs (10 * i + 5))) true true (q_lg (xs (10 * i + 8)) (xs (10 * i + 9))) _) k_M_kind ml_law_19 ⟨rfl, rfl, by decide, by decide⟩ hK (hP.sub [8, 9] rfl) (hD.sub [8, 9] (by decide) rfl) rfl rfl rfl rfl hl.1 rfl (Nat.le_of_ble_eq_true rfl) d_law_295 hcap2) hS hP hD hA [8, 9] [0, 1, 2, 3, 4, 5, 6, 7] rfl rfl (by decide) (by decide) (fun r u H locs hv hP hD hS => ?_)
    obtain ⟨n2, po2, fi2, la2, d2, o2⟩ := u
    obtain ⟨hv1, hv2⟩ := hv
    subst hv1
    have hE := kp_eq hw2 hv2
    have hok1 := kp_ok hw2 hn hp hfi hla
    cases hE
    have hP : va_P D classes [(x0, .inr (2, xf k1 p0 b0 r0 cnt)), (k1, .inr (0, kf n1 po1 fi1 la1 d1 o1 t1)), (t1, .inl (cL, 2048, .inr (.inl f1))), (b0, .inl (cB, 5000, .inl (fun j => sb (dt j)))), (r0, .inl (cB, 40064, .inl rf)), (p0, .inr (1, [.ref n0, .ref s0])), (n0, .inl (cL, 64, .inr (.inl nf))), (s0, .inl (cL, 64, .inr (.inl sf))), (m0, .inr (3, mf n1 po1 fi1 la1 d1 o1 mb cnt)), (mb, .inl (cI, 5000, .inl (fun j => nI (dt j))))] H := hP
    have hD : va_D A [(x0, .inr (2, xf k1 p0 b0 r0 cnt)), (k1, .inr (0, kf n1 po1 fi1 la1 d1 o1 t1)), (t1, .inl (cL, 2048, .inr (.inl f1))), (b0, .inl (cB, 5000, .inl (fun j => sb (dt j)))), (r0, .inl (cB, 40064, .inl rf)), (p0, .inr (1, [.ref n0, .ref s0])), (n0, .inl (cL, 64, .inr (.inl nf))), (s0, .inl (cL, 64, .inr (.inl sf))), (m0, .inr (3, mf n1 po1 fi1 la1 d1 o1 mb cnt)), (mb, .inl (cI, 5000, .inl (fun j => nI (dt j))))] := hD
    refine lv_icmp_eq (tgt := 703) hx hb d_law_298 (by decide) (fun _ => ?_) (fun h => absurd rfl h)
    refine lv_iinc (v := (nI (10 * i + 10))) (lv' := [(3, .int (nI (10 * i + 10))), (0, .ref b), (1, .ref x0), (2, .ref m0)]) hx hb d_law_703 hl (k := 3) rfl (nI_inc10 _) (by decide) rfl (fun ls hl => ?_)
    refine lv_goto (tgt := 18) hx hb d_law_706 (by decide) ?_
    refine W.widen (k := 10 + 2 * (i + 1)) (n := 52263 + 2056 * (i + 1)) (by omega) (by omega) ?_
    exact hn1 x0 k1 t1 p0 b0 r0 n0 s0 m0 mb cnt n1 po1 fi1 la1 d1 o1 f1 dt rf nf sf ⟨hok1.1, hok1.2.1, hok1.2.2.1, hok1.2.2.2, hw3, hd, hc5⟩ ls H locs hP hD hS (lv_sub hl [1, 2, 3, 0] rfl)
set_option maxHeartbeats 8000000 in
set_option maxRecDepth 100000 in
theorem law_c1 {p : Program} {l : Launch} {e : Env} {s : State} {m : MethodId} {below : List Frame} {meth : Method} {c : Code} {D : va_G} {cL cB cI : ClassId} {A : Nat → Prop} {b L : Nat} {xs : Nat → Int32} (hL : L ≤ 5120) (C0 : lw_At p s m meth c b L xs) (hAe : A = fun q : Nat => s.heap.size ≤ q) (hK : KN D cL cB cI s) {i : Nat} (hi : 10 * i + 10 ≤ L) (hn1 : lw_next p l e s m below meth c D cL cB cI A b (i + 1)) (x0 k0 t0 p0 b0 r0 n0 s0 m0 mb cnt n : Nat) (po fi la : BitVec 64) (d o : Bool) (f : Nat → Int64) (dt : Nat → Nat) (rf : Nat → Int32) (nf sf : Nat → Int64) (hok : lw_ok cnt n po fi la d f dt) {ls : Array Slot} {H : Heap} {locs : List Loc} (hP : va_P D classes (lw_W cL cB cI x0 k0 t0 p0 b0 r0 n0 s0 m0 mb cnt n po fi la d o f dt rf nf sf) H) (hD : va_D A (lw_W cL cB cI x0 k0 t0 p0 b0 r0 n0 s0 m0 mb cnt n po fi la d o f dt rf nf sf)) (hS : va_S A s.heap H locs) (hl : lv_has ls 4 [(0, .ref b), (1, .ref x0), (2, .ref m0), (3, .int (nI (10 * i)))]) : W p l e room_1 s m #[Value.ref b] below meth c H locs (10 + 2 * i) (52263 + 2056 * i) (lw_Z below #[Value.ref b] s) (F0 m 303 ls []) := by
  obtain ⟨hx, hb, hr, hml, hown, hts, hX, hbl, hlocks, hgv⟩ := id C0
  have hT : ∀ w ∈ g_tbl, w.before #[Value.ref b] s = true := fun w hw => hts w (List.mem_filter.mp hw).1
  have F : CallFix p m c code 4 s #[Value.ref b] g_tbl R_law := ⟨hx, hb, hml, hown, hT⟩
  have hA : ∀ q : Nat, s.heap.size ≤ q → A q := fun q h => by rw [hAe]; exact h
  have hbA : ¬ A b := by rw [hAe]; exact Nat.not_le.mpr hbl
  obtain ⟨hn, hp, hfi, hla, hf, hd, hc5⟩ := hok
  have hcap : 10 + 2 * i ≤ room_1.cells ∧ 52263 + 2056 * i ≤ room_1.slots := ⟨show _ ≤ 600000 by omega, show _ ≤ 7302249 by omega⟩
  have hcap2 : 10 + 2 * i + 2 ≤ room_1.cells ∧ 52263 + 2056 * i + 2056 ≤ room_1.slots := ⟨show _ ≤ 600000 by omega, show _ ≤ 7302249 by omega⟩
  refine lv_aload_n hx hb d_law_303 rfl (lv_at hl 1 rfl) ?_
  refine lv_aload_n hx hb d_law_304 rfl (lv_at hl 0 rfl) ?_
  refine lv_iload_n hx hb d_law_305 rfl (lv_at hl 3 rfl) ?_
  refine lv_iconst (v := nI 1) hx hb d_law_306 (by decide) ?_
  refine nt_iadd (x := (10 * i)) hx hb d_law_307 ?_
  refine nt_sld (j := 10 * i + 1) hx hb hX hbl hbA hS (by omega) hL d_law_308 ?_
  refine lv_aload_n hx hb d_law_309 rfl (lv_at hl 0 rfl) ?_
  refine lv_iload_n hx hb d_law_310 rfl (lv_at hl 3 rfl) ?_
  refine lv_iconst (v := nI 2) hx hb d_law_311 (by decide) ?_
  refine nt_iadd (x := (10 * i)) hx hb d_law_312 ?_
  refine nt_sld (j := 10 * i + 2) hx hb hX hbl hbA hS (by omega) hL d_law_313 ?_
  refine kk_muI (wr := [(k0, .inr (0, kf n po fi la d o t0)), (t0, .inl (cL, 2048, .inr (.inl f))), (r0, .inl (cB, 40064, .inl rf)), (p0, .inr (1, [.ref n0, .ref s0])), (n0, .inl (cL, 64, .inr (.inl nf))), (s0, .inl (cL, 64, .inr (.inl sf))), (m0, .inr (3, mf n po fi la d o mb cnt)), (mb, .inl (cI, 5000, .inl (fun j => nI (dt j))))]) (run_muV (rest := []) F (c_X_feed l D cL cB cI x0 k0 t0 p0 b0 r0 cnt n po fi la d o dt (xs (10 * i + 1)) (xs (10 * i + 2)) _ hc5) k_X_feed ml_law_20 ⟨rfl, rfl, by decide, by decide⟩ hK (hP.sub [0, 3] rfl) (hD.sub [0, 3] (by decide) rfl) rfl rfl rfl rfl hl.1 rfl (Nat.le_of_ble_eq_true rfl) d_law_314 hcap) hS hP hD hA [0, 3] [1, 2, 4, 5, 6, 7, 8, 9] rfl rfl (by decide) (by decide) (fun r u H locs hw hP hD hS => ?_)
  subst hw
  have hP : va_P D classes [(k0, .inr (0, kf n po fi la d o t0)), (t0, .inl (cL, 2048, .inr (.inl f))), (r0, .inl (cB, 40064, .inl rf)), (p0, .inr (1, [.ref n0, .ref s0])), (n0, .inl (cL, 64, .inr (.inl nf))), (s0, .inl (cL, 64, .inr (.inl sf))), (m0, .inr (3, mf n po fi la d o mb cnt)), (mb, .inl (cI, 5000, .inl (fun j => nI (dt j)))), (x0, .inr (2, xf k0 p0 b0 r0 (s_fcnt cnt (xs (10 * i + 1)) (xs (10 * i + 2))))), (b0, .inl (cB, 5000, .inl (fun j => sb ((s_fdt dt cnt (xs (10 * i + 1)) (xs (10 * i + 2))) j))))] H := hP
  have hD : va_D A [(k0, .inr (0, kf n po fi la d o t0)), (t0, .inl (cL, 2048, .inr (.inl f))), (r0, .inl (cB, 40064, .inl rf)), (p0, .inr (1, [.ref n0, .ref s0])), (n0, .inl (cL, 64, .inr (.inl nf))), (s0, .inl (cL, 64, .inr (.inl sf))), (m0, .inr (3, mf n po fi la d o mb cnt)), (mb, .inl (cI, 5000, .inl (fun j => nI (dt j)))), (x0, .inr (2, xf k0 p0 b0 r0 (s_fcnt cnt (xs (10 * i + 1)) (xs (10 * i + 2))))), (b0, .inl (cB, 5000, .inl (fun j => sb ((s_fdt dt cnt (xs (10 * i + 1)) (xs (10 * i + 2))) j))))] := hD
  have hP := hP.sub (ws' := [(x0, .inr (2, xf k0 p0 b0 r0 (s_fcnt cnt (xs (10 * i + 1)) (xs (10 * i + 2))))), (k0, .inr (0, kf n po fi la d o t0)), (t0, .inl (cL, 2048, .inr (.inl f))), (b0, .inl (cB, 5000, .inl (fun j => sb ((s_fdt dt cnt (xs (10 * i + 1)) (xs (10 * i + 2))) j)))), (r0, .inl (cB, 40064, .inl rf)), (p0, .inr (1, [.ref n0, .ref s0])), (n0, .inl (cL, 64, .inr (.inl nf))), (s0, .inl (cL, 64, .inr (.inl sf))), (m0, .inr (3, mf n po fi la d o mb cnt)), (mb, .inl (cI, 5000, .inl (fun j => nI (dt j))))]) [8, 0, 1, 9, 2, 3, 4, 5, 6, 7] rfl
  have hD := hD.sub (ws' := [(x0, .inr (2, xf k0 p0 b0 r0 (s_fcnt cnt (xs (10 * i + 1)) (xs (10 * i + 2))))), (k0, .inr (0, kf n po fi la d o t0)), (t0, .inl (cL, 2048, .inr (.inl f))), (b0, .inl (cB, 5000, .inl (fun j => sb ((s_fdt dt cnt (xs (10 * i + 1)) (xs (10 * i + 2))) j)))), (r0, .inl (cB, 40064, .inl rf)), (p0, .inr (1, [.ref n0, .ref s0])), (n0, .inl (cL, 64, .inr (.inl nf))), (s0, .inl (cL, 64, .inr (.inl sf))), (m0, .inr (3, mf n po fi la d o mb cnt)), (mb, .inl (cI, 5000, .inl (fun j => nI (dt j))))]) [8, 0, 1, 9, 2, 3, 4, 5, 6, 7] (by decide) rfl
  refine lv_aload_n hx hb d_law_317 rfl (lv_at hl 2 rfl) ?_
  refine lv_aload_n hx hb d_law_318 rfl (lv_at hl 0 rfl) ?_
  refine lv_iload_n hx hb d_law_319 rfl (lv_at hl 3 rfl) ?_
  refine lv_iconst (v := nI 1) hx hb d_law_320 (by decide) ?_
  refine nt_iadd (x := (10 * i)) hx hb d_law_321 ?_
  refine nt_sld (j := 10 * i + 1) hx hb hX hbl hbA hS (by omega) hL d_law_322 ?_
  refine lv_aload_n hx hb d_law_323 rfl (lv_at hl 0 rfl) ?_
  refine lv_iload_n hx hb d_law_324 rfl (lv_at hl 3 rfl) ?_
  refine lv_iconst (v := nI 2) hx hb d_law_325 (by decide) ?_
  refine nt_iadd (x := (10 * i)) hx hb d_law_326 ?_
  refine nt_sld (j := 10 * i + 2) hx hb hX hbl hbA hS (by omega) hL d_law_327 ?_
  refine kk_muI (wr := [(x0, .inr (2, xf k0 p0 b0 r0 (s_fcnt cnt (xs (10 * i + 1)) (xs (10 * i + 2))))), (k0, .inr (0, kf n po fi la d o t0)), (t0, .inl (cL, 2048, .inr (.inl f))), (b0, .inl (cB, 5000, .inl (fun j => sb ((s_fdt dt cnt (xs (10 * i + 1)) (xs (10 * i + 2))) j)))), (r0, .inl (cB, 40064, .inl rf)), (p0, .inr (1, [.ref n0, .ref s0])), (n0, .inl (cL, 64, .inr (.inl nf))), (s0, .inl (cL, 64, .inr (.inl sf)))]) (run_muV (rest := [.int (bz (q_fok cnt (xs (10 * i + 1)) (xs (10 * i + 2))))]) F (c_M_feed l D cL cB cI m0 mb cnt n po fi la d o dt (xs (10 * i + 1)) (xs (10 * i + 2)) _ hc5) k_M_feed ml_law_24 ⟨rfl, rfl, by decide, by decide⟩ hK (hP.sub [8, 9] rfl) (hD.sub [8, 9] (by decide) rfl) rfl rfl rfl rfl hl.1 rfl (Nat.le_of_ble_eq_true rfl) d_law_328 hcap) hS hP hD hA [8, 9] [0, 1, 2, 3, 4, 5, 6, 7] rfl rfl (by decide) (by decide) (fun r u H locs hw hP hD hS => ?_)
  subst hw
  have hP : va_P D classes [(x0, .inr (2, xf k0 p0 b0 r0 (s_fcnt cnt (xs (10 * i + 1)) (xs (10 * i + 2))))), (k0, .inr (0, kf n po fi la d o t0)), (t0, .inl (cL, 2048, .inr (.inl f))), (b0, .inl (cB, 5000, .inl (fun j => sb ((s_fdt dt cnt (xs (10 * i + 1)) (xs (10 * i + 2))) j)))), (r0, .inl (cB, 40064, .inl rf)), (p0, .inr (1, [.ref n0, .ref s0])), (n0, .inl (cL, 64, .inr (.inl nf))), (s0, .inl (cL, 64, .inr (.inl sf))), (m0, .inr (3, mf n po fi la d o mb (s_fcnt cnt (xs (10 * i + 1)) (xs (10 * i + 2))))), (mb, .inl (cI, 5000, .inl (fun j => nI ((s_fdt dt cnt (xs (10 * i + 1)) (xs (10 * i + 2))) j))))] H := hP
  have hD : va_D A [(x0, .inr (2, xf k0 p0 b0 r0 (s_fcnt cnt (xs (10 * i + 1)) (xs (10 * i + 2))))), (k0, .inr (0, kf n po fi la d o t0)), (t0, .inl (cL, 2048, .inr (.inl f))), (b0, .inl (cB, 5000, .inl (fun j => sb ((s_fdt dt cnt (xs (10 * i + 1)) (xs (10 * i + 2))) j)))), (r0, .inl (cB, 40064, .inl rf)), (p0, .inr (1, [.ref n0, .ref s0])), (n0, .inl (cL, 64, .inr (.inl nf))), (s0, .inl (cL, 64, .inr (.inl sf))), (m0, .inr (3, mf n po fi la d o mb (s_fcnt cnt (xs (10 * i + 1)) (xs (10 * i + 2))))), (mb, .inl (cI, 5000, .inl (fun j => nI ((s_fdt dt cnt (xs (10 * i + 1)) (xs (10 * i + 2))) j))))] := hD
  refine lv_icmp_eq (tgt := 703) hx hb d_law_331 (by decide) (fun _ => ?_) (fun h => absurd rfl h)
  refine lv_iinc (v := (nI (10 * i + 10))) (lv' := [(3, .int (nI (10 * i + 10))), (0, .ref b), (1, .ref x0), (2, .ref m0)]) hx hb d_law_703 hl (k := 3) rfl (nI_inc10 _) (by decide) rfl (fun ls hl => ?_)
  refine lv_goto (tgt := 18) hx hb d_law_706 (by decide) ?_
  refine W.widen (k := 10 + 2 * (i + 1)) (n := 52263 + 2056 * (i + 1)) (by omega) (by omega) ?_
  exact hn1 x0 k0 t0 p0 b0 r0 n0 s0 m0 mb (s_fcnt cnt (xs (10 * i + 1)) (xs (10 * i + 2))) n po fi la d o f (s_fdt dt cnt (xs (10 * i + 1)) (xs (10 * i + 2))) rf nf sf ⟨hn, hp, hfi, hla, hf, fdt_lt hd, fcnt_le hc5⟩ ls H locs hP hD hS (lv_sub hl [1, 2, 3, 0] rfl)
set_option maxHeartbeats 8000000 in
set_option maxRecDepth 100000 in
theorem law_c2 {p : Program} {l : Launch} {e : Env} {s : State} {m : MethodId} {below : List Frame} {meth : Method} {c : Code} {D : va_G} {cL cB cI : ClassId} {A : Nat → Prop} {b L : Nat} {xs : Nat → Int32} (hL : L ≤ 5120) (C0 : lw_At p s m meth c b L xs) (hAe : A = fun q : Nat => s.heap.size ≤ q) (hK : KN D cL cB cI s) {i : Nat} (hi : 10 * i + 10 ≤ L) (hn1 : lw_next p l e s m below meth c D cL cB cI A b (i + 1)) (x0 k0 t0 p0 b0 r0 n0 s0 m0 mb cnt n : Nat) (po fi la : BitVec 64) (d o : Bool) (f : Nat → Int64) (dt : Nat → Nat) (rf : Nat → Int32) (nf sf : Nat → Int64) (hok : lw_ok cnt n po fi la d f dt) {ls : Array Slot} {H : Heap} {locs : List Loc} (hP : va_P D classes (lw_W cL cB cI x0 k0 t0 p0 b0 r0 n0 s0 m0 mb cnt n po fi la d o f dt rf nf sf) H) (hD : va_D A (lw_W cL cB cI x0 k0 t0 p0 b0 r0 n0 s0 m0 mb cnt n po fi la d o f dt rf nf sf)) (hS : va_S A s.heap H locs) (hl : lv_has ls 4 [(0, .ref b), (1, .ref x0), (2, .ref m0), (3, .int (nI (10 * i)))]) : W p l e room_1 s m #[Value.ref b] below meth c H locs (10 + 2 * i) (52263 + 2056 * i) (lw_Z below #[Value.ref b] s) (F0 m 336 ls []) := by
  obtain ⟨hx, hb, hr, hml, hown, hts, hX, hbl, hlocks, hgv⟩ := id C0
  have hT : ∀ w ∈ g_tbl, w.before #[Value.ref b] s = true := fun w hw => hts w (List.mem_filter.mp hw).1
  have F : CallFix p m c code 4 s #[Value.ref b] g_tbl R_law := ⟨hx, hb, hml, hown, hT⟩
  have hA : ∀ q : Nat, s.heap.size ≤ q → A q := fun q h => by rw [hAe]; exact h
  have hbA : ¬ A b := by rw [hAe]; exact Nat.not_le.mpr hbl
  obtain ⟨hn, hp, hfi, hla, hf, hd, hc5⟩ := hok
  have hcap : 10 + 2 * i ≤ room_1.cells ∧ 52263 + 2056 * i ≤ room_1.slots := ⟨show _ ≤ 600000 by omega, show _ ≤ 7302249 by omega⟩
  have hcap2 : 10 + 2 * i + 2 ≤ room_1.cells ∧ 52263 + 2056 * i + 2056 ≤ room_1.slots := ⟨show _ ≤ 600000 by omega, show _ ≤ 7302249 by omega⟩
  refine lv_aload_n hx hb d_law_336 rfl (lv_at hl 1 rfl) ?_
  refine kk_muV (wr := [(k0, .inr (0, kf n po fi la d o t0)), (t0, .inl (cL, 2048, .inr (.inl f))), (b0, .inl (cB, 5000, .inl (fun j => sb (dt j)))), (r0, .inl (cB, 40064, .inl rf)), (p0, .inr (1, [.ref n0, .ref s0])), (n0, .inl (cL, 64, .inr (.inl nf))), (s0, .inl (cL, 64, .inr (.inl sf))), (m0, .inr (3, mf n po fi la d o mb cnt)), (mb, .inl (cI, 5000, .inl (fun j => nI (dt j))))]) (run_muV (rest := []) F (c_X_clear l D cL cB cI x0 k0 t0 p0 b0 r0 cnt n po fi la d o _) k_X_clear ml_law_25 ⟨rfl, rfl, by decide, by decide⟩ hK (hP.sub [0] rfl) (hD.sub [0] (by decide) rfl) rfl rfl rfl rfl hl.1 rfl (Nat.le_of_ble_eq_true rfl) d_law_337 hcap) hS hP hD hA [0] [1, 2, 3, 4, 5, 6, 7, 8, 9] rfl rfl (by decide) (by decide) (fun u H locs _ hP hD hS => ?_)
  have hP : va_P D classes [(k0, .inr (0, kf n po fi la d o t0)), (t0, .inl (cL, 2048, .inr (.inl f))), (b0, .inl (cB, 5000, .inl (fun j => sb (dt j)))), (r0, .inl (cB, 40064, .inl rf)), (p0, .inr (1, [.ref n0, .ref s0])), (n0, .inl (cL, 64, .inr (.inl nf))), (s0, .inl (cL, 64, .inr (.inl sf))), (m0, .inr (3, mf n po fi la d o mb cnt)), (mb, .inl (cI, 5000, .inl (fun j => nI (dt j)))), (x0, .inr (2, xf k0 p0 b0 r0 0))] H := hP
  have hD : va_D A [(k0, .inr (0, kf n po fi la d o t0)), (t0, .inl (cL, 2048, .inr (.inl f))), (b0, .inl (cB, 5000, .inl (fun j => sb (dt j)))), (r0, .inl (cB, 40064, .inl rf)), (p0, .inr (1, [.ref n0, .ref s0])), (n0, .inl (cL, 64, .inr (.inl nf))), (s0, .inl (cL, 64, .inr (.inl sf))), (m0, .inr (3, mf n po fi la d o mb cnt)), (mb, .inl (cI, 5000, .inl (fun j => nI (dt j)))), (x0, .inr (2, xf k0 p0 b0 r0 0))] := hD
  have hP := hP.sub (ws' := [(x0, .inr (2, xf k0 p0 b0 r0 0)), (k0, .inr (0, kf n po fi la d o t0)), (t0, .inl (cL, 2048, .inr (.inl f))), (b0, .inl (cB, 5000, .inl (fun j => sb (dt j)))), (r0, .inl (cB, 40064, .inl rf)), (p0, .inr (1, [.ref n0, .ref s0])), (n0, .inl (cL, 64, .inr (.inl nf))), (s0, .inl (cL, 64, .inr (.inl sf))), (m0, .inr (3, mf n po fi la d o mb cnt)), (mb, .inl (cI, 5000, .inl (fun j => nI (dt j))))]) [9, 0, 1, 2, 3, 4, 5, 6, 7, 8] rfl
  have hD := hD.sub (ws' := [(x0, .inr (2, xf k0 p0 b0 r0 0)), (k0, .inr (0, kf n po fi la d o t0)), (t0, .inl (cL, 2048, .inr (.inl f))), (b0, .inl (cB, 5000, .inl (fun j => sb (dt j)))), (r0, .inl (cB, 40064, .inl rf)), (p0, .inr (1, [.ref n0, .ref s0])), (n0, .inl (cL, 64, .inr (.inl nf))), (s0, .inl (cL, 64, .inr (.inl sf))), (m0, .inr (3, mf n po fi la d o mb cnt)), (mb, .inl (cI, 5000, .inl (fun j => nI (dt j))))]) [9, 0, 1, 2, 3, 4, 5, 6, 7, 8] (by decide) rfl
  refine lv_aload_n hx hb d_law_340 rfl (lv_at hl 2 rfl) ?_
  refine kk_muV (wr := [(x0, .inr (2, xf k0 p0 b0 r0 0)), (k0, .inr (0, kf n po fi la d o t0)), (t0, .inl (cL, 2048, .inr (.inl f))), (b0, .inl (cB, 5000, .inl (fun j => sb (dt j)))), (r0, .inl (cB, 40064, .inl rf)), (p0, .inr (1, [.ref n0, .ref s0])), (n0, .inl (cL, 64, .inr (.inl nf))), (s0, .inl (cL, 64, .inr (.inl sf)))]) (run_muV (rest := []) F (c_M_clear l D cL cB cI m0 mb cnt n po fi la d o dt _) k_M_clear ml_law_28 ⟨rfl, rfl, by decide, by decide⟩ hK (hP.sub [8, 9] rfl) (hD.sub [8, 9] (by decide) rfl) rfl rfl rfl rfl hl.1 rfl (Nat.le_of_ble_eq_true rfl) d_law_341 hcap) hS hP hD hA [8, 9] [0, 1, 2, 3, 4, 5, 6, 7] rfl rfl (by decide) (by decide) (fun u H locs _ hP hD hS => ?_)
  have hP : va_P D classes [(x0, .inr (2, xf k0 p0 b0 r0 0)), (k0, .inr (0, kf n po fi la d o t0)), (t0, .inl (cL, 2048, .inr (.inl f))), (b0, .inl (cB, 5000, .inl (fun j => sb (dt j)))), (r0, .inl (cB, 40064, .inl rf)), (p0, .inr (1, [.ref n0, .ref s0])), (n0, .inl (cL, 64, .inr (.inl nf))), (s0, .inl (cL, 64, .inr (.inl sf))), (m0, .inr (3, mf n po fi la d o mb 0)), (mb, .inl (cI, 5000, .inl (fun j => nI (dt j))))] H := hP
  have hD : va_D A [(x0, .inr (2, xf k0 p0 b0 r0 0)), (k0, .inr (0, kf n po fi la d o t0)), (t0, .inl (cL, 2048, .inr (.inl f))), (b0, .inl (cB, 5000, .inl (fun j => sb (dt j)))), (r0, .inl (cB, 40064, .inl rf)), (p0, .inr (1, [.ref n0, .ref s0])), (n0, .inl (cL, 64, .inr (.inl nf))), (s0, .inl (cL, 64, .inr (.inl sf))), (m0, .inr (3, mf n po fi la d o mb 0)), (mb, .inl (cI, 5000, .inl (fun j => nI (dt j))))] := hD
  refine lv_goto (tgt := 703) hx hb d_law_344 (by decide) ?_
  refine lv_iinc (v := (nI (10 * i + 10))) (lv' := [(3, .int (nI (10 * i + 10))), (0, .ref b), (1, .ref x0), (2, .ref m0)]) hx hb d_law_703 hl (k := 3) rfl (nI_inc10 _) (by decide) rfl (fun ls hl => ?_)
  refine lv_goto (tgt := 18) hx hb d_law_706 (by decide) ?_
  refine W.widen (k := 10 + 2 * (i + 1)) (n := 52263 + 2056 * (i + 1)) (by omega) (by omega) ?_
  exact hn1 x0 k0 t0 p0 b0 r0 n0 s0 m0 mb 0 n po fi la d o f dt rf nf sf ⟨hn, hp, hfi, hla, hf, hd, Nat.zero_le _⟩ ls H locs hP hD hS (lv_sub hl [1, 2, 3, 0] rfl)
set_option maxHeartbeats 8000000 in
set_option maxRecDepth 100000 in
theorem law_c3 {p : Program} {l : Launch} {e : Env} {s : State} {m : MethodId} {below : List Frame} {meth : Method} {c : Code} {D : va_G} {cL cB cI : ClassId} {A : Nat → Prop} {b L : Nat} {xs : Nat → Int32} (hL : L ≤ 5120) (C0 : lw_At p s m meth c b L xs) (hAe : A = fun q : Nat => s.heap.size ≤ q) (hK : KN D cL cB cI s) {i : Nat} (hi : 10 * i + 10 ≤ L) (hn1 : lw_next p l e s m below meth c D cL cB cI A b (i + 1)) (x0 k0 t0 p0 b0 r0 n0 s0 m0 mb cnt n : Nat) (po fi la : BitVec 64) (d o : Bool) (f : Nat → Int64) (dt : Nat → Nat) (rf : Nat → Int32) (nf sf : Nat → Int64) (hok : lw_ok cnt n po fi la d f dt) {ls : Array Slot} {H : Heap} {locs : List Loc} (hP : va_P D classes (lw_W cL cB cI x0 k0 t0 p0 b0 r0 n0 s0 m0 mb cnt n po fi la d o f dt rf nf sf) H) (hD : va_D A (lw_W cL cB cI x0 k0 t0 p0 b0 r0 n0 s0 m0 mb cnt n po fi la d o f dt rf nf sf)) (hS : va_S A s.heap H locs) (hl : lv_has ls 4 [(0, .ref b), (1, .ref x0), (2, .ref m0), (3, .int (nI (10 * i)))]) : W p l e room_1 s m #[Value.ref b] below meth c H locs (10 + 2 * i) (52263 + 2056 * i) (lw_Z below #[Value.ref b] s) (F0 m 347 ls []) := by
  obtain ⟨hx, hb, hr, hml, hown, hts, hX, hbl, hlocks, hgv⟩ := id C0
  have hT : ∀ w ∈ g_tbl, w.before #[Value.ref b] s = true := fun w hw => hts w (List.mem_filter.mp hw).1
  have F : CallFix p m c code 4 s #[Value.ref b] g_tbl R_law := ⟨hx, hb, hml, hown, hT⟩
  have hA : ∀ q : Nat, s.heap.size ≤ q → A q := fun q h => by rw [hAe]; exact h
  have hbA : ¬ A b := by rw [hAe]; exact Nat.not_le.mpr hbl
  obtain ⟨hn, hp, hfi, hla, hf, hd, hc5⟩ := hok
  have hcap : 10 + 2 * i ≤ room_1.cells ∧ 52263 + 2056 * i ≤ room_1.slots := ⟨show _ ≤ 600000 by omega, show _ ≤ 7302249 by omega⟩
  have hcap2 : 10 + 2 * i + 2 ≤ room_1.cells ∧ 52263 + 2056 * i + 2056 ≤ room_1.slots := ⟨show _ ≤ 600000 by omega, show _ ≤ 7302249 by omega⟩
  refine lv_aload_n hx hb d_law_347 rfl (lv_at hl 1 rfl) ?_
  refine lv_aload_n hx hb d_law_348 rfl (lv_at hl 0 rfl) ?_
  refine lv_iload_n hx hb d_law_349 rfl (lv_at hl 3 rfl) ?_
  refine lv_iconst (v := nI 1) hx hb d_law_350 (by decide) ?_
  refine nt_iadd (x := (10 * i)) hx hb d_law_351 ?_
  refine nt_sld (j := 10 * i + 1) hx hb hX hbl hbA hS (by omega) hL d_law_352 ?_
  refine kk_muI (wr := [(t0, .inl (cL, 2048, .inr (.inl f))), (r0, .inl (cB, 40064, .inl rf)), (p0, .inr (1, [.ref n0, .ref s0])), (n0, .inl (cL, 64, .inr (.inl nf))), (s0, .inl (cL, 64, .inr (.inl sf))), (m0, .inr (3, mf n po fi la d o mb cnt)), (mb, .inl (cI, 5000, .inl (fun j => nI (dt j))))]) (run_muV (rest := []) F (c_X_flip l D cL cB cI x0 k0 t0 p0 b0 r0 cnt n po fi la d o dt (xs (10 * i + 1)) _ hd hc5) k_X_flip ml_law_29 ⟨rfl, rfl, by decide, by decide⟩ hK (hP.sub [0, 1, 3] rfl) (hD.sub [0, 1, 3] (by decide) rfl) rfl rfl rfl rfl hl.1 rfl (Nat.le_of_ble_eq_true rfl) d_law_353 hcap) hS hP hD hA [0, 1, 3] [2, 4, 5, 6, 7, 8, 9] rfl rfl (by decide) (by decide) (fun r u H locs hw hP hD hS => ?_)
  subst hw
  have hP : va_P D classes [(t0, .inl (cL, 2048, .inr (.inl f))), (r0, .inl (cB, 40064, .inl rf)), (p0, .inr (1, [.ref n0, .ref s0])), (n0, .inl (cL, 64, .inr (.inl nf))), (s0, .inl (cL, 64, .inr (.inl sf))), (m0, .inr (3, mf n po fi la d o mb cnt)), (mb, .inl (cI, 5000, .inl (fun j => nI (dt j)))), (x0, .inr (2, xf k0 p0 b0 r0 cnt)), (k0, .inr (0, kf n po fi la d o t0)), (b0, .inl (cB, 5000, .inl (fun j => sb ((s_ldt d dt cnt (xs (10 * i + 1))) j))))] H := hP
  have hD : va_D A [(t0, .inl (cL, 2048, .inr (.inl f))), (r0, .inl (cB, 40064, .inl rf)), (p0, .inr (1, [.ref n0, .ref s0])), (n0, .inl (cL, 64, .inr (.inl nf))), (s0, .inl (cL, 64, .inr (.inl sf))), (m0, .inr (3, mf n po fi la d o mb cnt)), (mb, .inl (cI, 5000, .inl (fun j => nI (dt j)))), (x0, .inr (2, xf k0 p0 b0 r0 cnt)), (k0, .inr (0, kf n po fi la d o t0)), (b0, .inl (cB, 5000, .inl (fun j => sb ((s_ldt d dt cnt (xs (10 * i + 1))) j))))] := hD
  have hP := hP.sub (ws' := [(x0, .inr (2, xf k0 p0 b0 r0 cnt)), (k0, .inr (0, kf n po fi la d o t0)), (t0, .inl (cL, 2048, .inr (.inl f))), (b0, .inl (cB, 5000, .inl (fun j => sb ((s_ldt d dt cnt (xs (10 * i + 1))) j)))), (r0, .inl (cB, 40064, .inl rf)), (p0, .inr (1, [.ref n0, .ref s0])), (n0, .inl (cL, 64, .inr (.inl nf))), (s0, .inl (cL, 64, .inr (.inl sf))), (m0, .inr (3, mf n po fi la d o mb cnt)), (mb, .inl (cI, 5000, .inl (fun j => nI (dt j))))]) [7, 8, 0, 9, 1, 2, 3, 4, 5, 6] rfl
  have hD := hD.sub (ws' := [(x0, .inr (2, xf k0 p0 b0 r0 cnt)), (k0, .inr (0, kf n po fi la d o t0)), (t0, .inl (cL, 2048, .inr (.inl f))), (b0, .inl (cB, 5000, .inl (fun j => sb ((s_ldt d dt cnt (xs (10 * i + 1))) j)))), (r0, .inl (cB, 40064, .inl rf)), (p0, .inr (1, [.ref n0, .ref s0])), (n0, .inl (cL, 64, .inr (.inl nf))), (s0, .inl (cL, 64, .inr (.inl sf))), (m0, .inr (3, mf n po fi la d o mb cnt)), (mb, .inl (cI, 5000, .inl (fun j => nI (dt j))))]) [7, 8, 0, 9, 1, 2, 3, 4, 5, 6] (by decide) rfl
  refine lv_aload_n hx hb d_law_356 rfl (lv_at hl 2 rfl) ?_
  refine lv_aload_n hx hb d_law_357 rfl (lv_at hl 0 rfl) ?_
  refine lv_iload_n hx hb d_law_358 rfl (lv_at hl 3 rfl) ?_
  refine lv_iconst (v := nI 1) hx hb d_law_359 (by decide) ?_
  refine nt_iadd (x := (10 * i)) hx hb d_law_360 ?_
  refine nt_sld (j := 10 * i + 1) hx hb hX hbl hbA hS (by omega) hL d_law_361 ?_
  refine kk_muI (wr := [(x0, .inr (2, xf k0 p0 b0 r0 cnt)), (k0, .inr (0, kf n po fi la d o t0)), (t0, .inl (cL, 2048, .inr (.inl f))), (b0, .inl (cB, 5000, .inl (fun j => sb ((s_ldt d dt cnt (xs (10 * i + 1))) j)))), (r0, .inl (cB, 40064, .inl rf)), (p0, .inr (1, [.ref n0, .ref s0])), (n0, .inl (cL, 64, .inr (.inl nf))), (s0, .inl (cL, 64, .inr (.inl sf)))]) (run_muV (rest := [.int (bz (q_lok cnt (xs (10 * i + 1))))]) F (c_M_flip l D cL cB cI m0 mb cnt n po fi la d o dt (xs (10 * i + 1)) _ hc5) k_M_flip ml_law_33 ⟨rfl, rfl, by decide, by decide⟩ hK (hP.sub [8, 9] rfl) (hD.sub [8, 9] (by decide) rfl) rfl rfl rfl rfl hl.1 rfl (Nat.le_of_ble_eq_true rfl) d_law_362 hcap) hS hP hD hA [8, 9] [0, 1, 2, 3, 4, 5, 6, 7] rfl rfl (by decide) (by decide) (fun r u H locs hw hP hD hS => ?_)
  subst hw
  have hP : va_P D classes [(x0, .inr (2, xf k0 p0 b0 r0 cnt)), (k0, .inr (0, kf n po fi la d o t0)), (t0, .inl (cL, 2048, .inr (.inl f))), (b0, .inl (cB, 5000, .inl (fun j => sb ((s_ldt d dt cnt (xs (10 * i + 1))) j)))), (r0, .inl (cB, 40064, .inl rf)), (p0, .inr (1, [.ref n0, .ref s0])), (n0, .inl (cL, 64, .inr (.inl nf))), (s0, .inl (cL, 64, .inr (.inl sf))), (m0, .inr (3, mf n po fi la d o mb cnt)), (mb, .inl (cI, 5000, .inl (fun j => nI ((s_ldt d dt cnt (xs (10 * i + 1))) j))))] H := hP
  have hD : va_D A [(x0, .inr (2, xf k0 p0 b0 r0 cnt)), (k0, .inr (0, kf n po fi la d o t0)), (t0, .inl (cL, 2048, .inr (.inl f))), (b0, .inl (cB, 5000, .inl (fun j => sb ((s_ldt d dt cnt (xs (10 * i + 1))) j)))), (r0, .inl (cB, 40064, .inl rf)), (p0, .inr (1, [.ref n0, .ref s0])), (n0, .inl (cL, 64, .inr (.inl nf))), (s0, .inl (cL, 64, .inr (.inl sf))), (m0, .inr (3, mf n po fi la d o mb cnt)), (mb, .inl (cI, 5000, .inl (fun j => nI ((s_ldt d dt cnt (xs (10 * i + 1))) j))))] := hD
  refine lv_icmp_eq (tgt := 703) hx hb d_law_365 (by decide) (fun _ => ?_) (fun h => absurd rfl h)
  refine lv_iinc (v := (nI (10 * i + 10))) (lv' := [(3, .int (nI (10 * i + 10))), (0, .ref b), (1, .ref x0), (2, .ref m0)]) hx hb d_law_703 hl (k := 3) rfl (nI_inc10 _) (by decide) rfl (fun ls hl => ?_)
  refine lv_goto (tgt := 18) hx hb d_law_706 (by decide) ?_
  refine W.widen (k := 10 + 2 * (i + 1)) (n := 52263 + 2056 * (i + 1)) (by omega) (by omega) ?_
  exact hn1 x0 k0 t0 p0 b0 r0 n0 s0 m0 mb cnt n po fi la d o f (s_ldt d dt cnt (xs (10 * i + 1))) rf nf sf ⟨hn, hp, hfi, hla, hf, ldt_lt hd, hc5⟩ ls H locs hP hD hS (lv_sub hl [1, 2, 3, 0] rfl)
set_option maxHeartbeats 8000000 in
set_option maxRecDepth 100000 in
theorem law_c4 {p : Program} {l : Launch} {e : Env} {s : State} {m : MethodId} {below : List Frame} {meth : Method} {c : Code} {D : va_G} {cL cB cI : ClassId} {A : Nat → Prop} {b L : Nat} {xs : Nat → Int32} (hL : L ≤ 5120) (C0 : lw_At p s m meth c b L xs) (hAe : A = fun q : Nat => s.heap.size ≤ q) (hK : KN D cL cB cI s) {i : Nat} (hi : 10 * i + 10 ≤ L) (hn1 : lw_next p l e s m below meth c D cL cB cI A b (i + 1)) (x0 k0 t0 p0 b0 r0 n0 s0 m0 mb cnt n : Nat) (po fi la : BitVec 64) (d o : Bool) (f : Nat → Int64) (dt : Nat → Nat) (rf : Nat → Int32) (nf sf : Nat → Int64) (hok : lw_ok cnt n po fi la d f dt) {ls : Array Slot} {H : Heap} {locs : List Loc} (hP : va_P D classes (lw_W cL cB cI x0 k0 t0 p0 b0 r0 n0 s0 m0 mb cnt n po fi la d o f dt rf nf sf) H) (hD : va_D A (lw_W cL cB cI x0 k0 t0 p0 b0 r0 n0 s0 m0 mb cnt n po fi la d o f dt rf nf sf)) (hS : va_S A s.heap H locs) (hl : lv_has ls 4 [(0, .ref b), (1, .ref x0), (2, .ref m0), (3, .int (nI (10 * i)))]) : W p l e room_1 s m #[Value.ref b] below meth c H locs (10 + 2 * i) (52263 + 2056 * i) (lw_Z below #[Value.ref b] s) (F0 m 370 ls []) := by
  obtain ⟨hx, hb, hr, hml, hown, hts, hX, hbl, hlocks, hgv⟩ := id C0
  have hT : ∀ w ∈ g_tbl, w.before #[Value.ref b] s = true := fun w hw => hts w (List.mem_filter.mp hw).1
  have F : CallFix p m c code 4 s #[Value.ref b] g_tbl R_law := ⟨hx, hb, hml, hown, hT⟩
  have hA : ∀ q : Nat, s.heap.size ≤ q → A q := fun q h => by rw [hAe]; exact h
  have hbA : ¬ A b := by rw [hAe]; exact Nat.not_le.mpr hbl
  obtain ⟨hn, hp, hfi, hla, hf, hd, hc5⟩ := hok
  have hcap : 10 + 2 * i ≤ room_1.cells ∧ 52263 + 2056 * i ≤ room_1.slots := ⟨show _ ≤ 600000 by omega, show _ ≤ 7302249 by omega⟩
  have hcap2 : 10 + 2 * i + 2 ≤ room_1.cells ∧ 52263 + 2056 * i + 2056 ≤ room_1.slots := ⟨show _ ≤ 600000 by omega, show _ ≤ 7302249 by omega⟩
  refine lv_aload_n hx hb d_law_370 rfl (lv_at hl 1 rfl) ?_
  refine lv_aload_n hx hb d_law_371 rfl (lv_at hl 0 rfl) ?_
  refine lv_iload_n hx hb d_law_372 rfl (lv_at hl 3 rfl) ?_
  refine lv_iconst (v := nI 1) hx hb d_law_373 (by decide) ?_
  refine nt_iadd (x := (10 * i)) hx hb d_law_374 ?_
  refine nt_sld (j := 10 * i + 1) hx hb hX hbl hbA hS (by omega) hL d_law_375 ?_
  refine kk_muL (wr := [(p0, .inr (1, [.ref n0, .ref s0])), (n0, .inl (cL, 64, .inr (.inl nf))), (s0, .inl (cL, 64, .inr (.inl sf))), (m0, .inr (3, mf n po fi la d o mb cnt)), (mb, .inl (cI, 5000, .inl (fun j => nI (dt j))))]) (run_muV (rest := []) F (c_X_check l D cL cB cI x0 k0 t0 p0 b0 r0 cnt n po fi la d o f dt rf (xs (10 * i + 1)) _ hn hp hfi hf hd hc5) k_X_check ml_law_34 ⟨rfl, rfl, by decide, by decide⟩ hK (hP.sub [0, 1, 2, 3, 4] rfl) (hD.sub [0, 1, 2, 3, 4] (by decide) rfl) rfl rfl rfl rfl hl.1 rfl (Nat.le_of_ble_eq_true rfl) d_law_376 hcap) hS hP hD hA [0, 1, 2, 3, 4] [5, 6, 7, 8, 9] rfl rfl (by decide) (by decide) (fun r rf1 H locs hw hP hD hS => ?_)
  subst hw
  have hP : va_P D classes [(p0, .inr (1, [.ref n0, .ref s0])), (n0, .inl (cL, 64, .inr (.inl nf))), (s0, .inl (cL, 64, .inr (.inl sf))), (m0, .inr (3, mf n po fi la d o mb cnt)), (mb, .inl (cI, 5000, .inl (fun j => nI (dt j)))), (x0, .inr (2, xf k0 p0 b0 r0 cnt)), (k0, .inr (0, kf n po fi la d o t0)), (t0, .inl (cL, 2048, .inr (.inl f))), (b0, .inl (cB, 5000, .inl (fun j => sb (dt j)))), (r0, .inl (cB, 40064, .inl rf1))] H := hP
  have hD : va_D A [(p0, .inr (1, [.ref n0, .ref s0])), (n0, .inl (cL, 64, .inr (.inl nf))), (s0, .inl (cL, 64, .inr (.inl sf))), (m0, .inr (3, mf n po fi la d o mb cnt)), (mb, .inl (cI, 5000, .inl (fun j => nI (dt j)))), (x0, .inr (2, xf k0 p0 b0 r0 cnt)), (k0, .inr (0, kf n po fi la d o t0)), (t0, .inl (cL, 2048, .inr (.inl f))), (b0, .inl (cB, 5000, .inl (fun j => sb (dt j)))), (r0, .inl (cB, 40064, .inl rf1))] := hD
  have hP := hP.sub (ws' := [(x0, .inr (2, xf k0 p0 b0 r0 cnt)), (k0, .inr (0, kf n po fi la d o t0)), (t0, .inl (cL, 2048, .inr (.inl f))), (b0, .inl (cB, 5000, .inl (fun j => sb (dt j)))), (r0, .inl (cB, 40064, .inl rf1)), (p0, .inr (1, [.ref n0, .ref s0])), (n0, .inl (cL, 64, .inr (.inl nf))), (s0, .inl (cL, 64, .inr (.inl sf))), (m0, .inr (3, mf n po fi la d o mb cnt)), (mb, .inl (cI, 5000, .inl (fun j => nI (dt j))))]) [5, 6, 7, 8, 9, 0, 1, 2, 3, 4] rfl
  have hD := hD.sub (ws' := [(x0, .inr (2, xf k0 p0 b0 r0 cnt)), (k0, .inr (0, kf n po fi la d o t0)), (t0, .inl (cL, 2048, .inr (.inl f))), (b0, .inl (cB, 5000, .inl (fun j => sb (dt j)))), (r0, .inl (cB, 40064, .inl rf1)), (p0, .inr (1, [.ref n0, .ref s0])), (n0, .inl (cL, 64, .inr (.inl nf))), (s0, .inl (cL, 64, .inr (.inl sf))), (m0, .inr (3, mf n po fi la d o mb cnt)), (mb, .inl (cI, 5000, .inl (fun j => nI (dt j))))]) [5, 6, 7, 8, 9, 0, 1, 2, 3, 4] (by decide) rfl
  refine lv_aload_n hx hb d_law_379 rfl (lv_at hl 2 rfl) ?_
  refine lv_aload_n hx hb d_law_380 rfl (lv_at hl 0 rfl) ?_
  refine lv_iload_n hx hb d_law_381 rfl (lv_at hl 3 rfl) ?_
  refine lv_iconst (v := nI 1) hx hb d_law_382 (by decide) ?_
  refine nt_iadd (x := (10 * i)) hx hb d_law_383 ?_
  refine nt_sld (j := 10 * i + 1) hx hb hX hbl hbA hS (by omega) hL d_law_384 ?_
  refine roVL (rest := [.long (lB (s_check n po fi la d o dt cnt (xs (10 * i + 1))))]) F (c_M_check l D cL cB cI m0 mb cnt n po fi la d o dt (xs (10 * i + 1)) hn hd hc5) k_M_check ml_law_38 ⟨rfl, rfl, by decide, by decide⟩ hK hP hS (hP.sub [8, 9] rfl) rfl rfl rfl rfl hl.1 rfl (Nat.le_of_ble_eq_true rfl) d_law_385 hcap (fun H locs hP hS => ?_)
  refine bl_eq (a := (s_check n po fi la d o dt cnt (xs (10 * i + 1)))) (b := (s_check n po fi la d o dt cnt (xs (10 * i + 1)))) (tgt := 703) hx hb d_law_388 d_law_389 (by decide) (fun _ => ?_) (fun h => absurd rfl h)
  refine lv_iinc (v := (nI (10 * i + 10))) (lv' := [(3, .int (nI (10 * i + 10))), (0, .ref b), (1, .ref x0), (2, .ref m0)]) hx hb d_law_703 hl (k := 3) rfl (nI_inc10 _) (by decide) rfl (fun ls hl => ?_)
  refine lv_goto (tgt := 18) hx hb d_law_706 (by decide) ?_
  refine W.widen (k := 10 + 2 * (i + 1)) (n := 52263 + 2056 * (i + 1)) (by omega) (by omega) ?_
  exact hn1 x0 k0 t0 p0 b0 r0 n0 s0 m0 mb cnt n po fi la d o f dt rf1 nf sf ⟨hn, hp, hfi, hla, hf, hd, hc5⟩ ls H locs hP hD hS (lv_sub hl [1, 2, 3, 0] rfl)
set_option maxHeartbeats 8000000 in
set_option maxRecDepth 100000 in
theorem law_c5 {p : Program} {l : Launch} {e : Env} {s : State} {m : MethodId} {below : List Frame} {meth : Method} {c : Code} {D : va_G} {cL cB cI : ClassId} {A : Nat → Prop} {b L : Nat} {xs : Nat → Int32} (hL : L ≤ 5120) (C0 : lw_At p s m meth c b L xs) (hAe : A = fun q : Nat => s.heap.size ≤ q) (hK : KN D cL cB cI s) {i : Nat} (hi : 10 * i + 10 ≤ L) (hn1 : lw_next p l e s m below meth c D cL cB cI A b (i + 1)) (x0 k0 t0 p0 b0 r0 n0 s0 m0 mb cnt n : Nat) (po fi la : BitVec 64) (d o : Bool) (f : Nat → Int64) (dt : Nat → Nat) (rf : Nat → Int32) (nf sf : Nat → Int64) (hok : lw_ok cnt n po fi la d f dt) {ls : Array Slot} {H : Heap} {locs : List Loc} (hP : va_P D classes (lw_W cL cB cI x0 k0 t0 p0 b0 r0 n0 s0 m0 mb cnt n po fi la d o f dt rf nf sf) H) (hD : va_D A (lw_W cL cB cI x0 k0 t0 p0 b0 r0 n0 s0 m0 mb cnt n po fi la d o f dt rf nf sf)) (hS : va_S A s.heap H locs) (hl : lv_has ls 4 [(0, .ref b), (1, .ref x0), (2, .ref m0), (3, .int (nI (10 * i)))]) : W p l e room_1 s m #[Value.ref b] below meth c H locs (10 + 2 * i) (52263 + 2056 * i) (lw_Z below #[Value.ref b] s) (F0 m 394 ls []) := by
  obtain ⟨hx, hb, hr, hml, hown, hts, hX, hbl, hlocks, hgv⟩ := id C0
  have hT : ∀ w ∈ g_tbl, w.before #[Value.ref b] s = true := fun w hw => hts w (List.mem_filter.mp hw).1
  have F : CallFix p m c code 4 s #[Value.ref b] g_tbl R_law := ⟨hx, hb, hml, hown, hT⟩
  have hA : ∀ q : Nat, s.heap.size ≤ q → A q := fun q h => by rw [hAe]; exact h
  have hbA : ¬ A b := by rw [hAe]; exact Nat.not_le.mpr hbl
  obtain ⟨hn, hp, hfi, hla, hf, hd, hc5⟩ := hok
  have hcap : 10 + 2 * i ≤ room_1.cells ∧ 52263 + 2056 * i ≤ room_1.slots := ⟨show _ ≤ 600000 by omega, show _ ≤ 7302249 by omega⟩
  have hcap2 : 10 + 2 * i + 2 ≤ room_1.cells ∧ 52263 + 2056 * i + 2056 ≤ room_1.slots := ⟨show _ ≤ 600000 by omega, show _ ≤ 7302249 by omega⟩
  refine lv_aload_n hx hb d_law_394 rfl (lv_at hl 1 rfl) ?_
  refine lv_aload_n hx hb d_law_395 rfl (lv_at hl 0 rfl) ?_
  refine lv_iload_n hx hb d_law_396 rfl (lv_at hl 3 rfl) ?_
  refine lv_iconst (v := nI 1) hx hb d_law_397 (by decide) ?_
  refine nt_iadd (x := (10 * i)) hx hb d_law_398 ?_
  refine nt_sld (j := 10 * i + 1) hx hb hX hbl hbA hS (by omega) hL d_law_399 ?_
  refine lv_aload_n hx hb d_law_400 rfl (lv_at hl 0 rfl) ?_
  refine lv_iload_n hx hb d_law_401 rfl (lv_at hl 3 rfl) ?_
  refine lv_iconst (v := nI 2) hx hb d_law_402 (by decide) ?_
  refine nt_iadd (x := (10 * i)) hx hb d_law_403 ?_
  refine nt_sld (j := 10 * i + 2) hx hb hX hbl hbA hS (by omega) hL d_law_404 ?_
  refine roVL (rest := []) F (c_X_part l D cL cB cI x0 k0 t0 p0 b0 r0 cnt n po fi la d o f dt (xs (10 * i + 1)) (xs (10 * i + 2)) hn hp hfi hf hd hc5) k_X_part ml_law_39 ⟨rfl, rfl, by decide, by decide⟩ hK hP hS (hP.sub [0, 1, 2, 3] rfl) rfl rfl rfl rfl hl.1 rfl (Nat.le_of_ble_eq_true rfl) d_law_405 hcap (fun H locs hP hS => ?_)
  refine lv_aload_n hx hb d_law_408 rfl (lv_at hl 2 rfl) ?_
  refine lv_aload_n hx hb d_law_409 rfl (lv_at hl 0 rfl) ?_
  refine lv_iload_n hx hb d_law_410 rfl (lv_at hl 3 rfl) ?_
  refine lv_iconst (v := nI 1) hx hb d_law_411 (by decide) ?_
  refine nt_iadd (x := (10 * i)) hx hb d_law_412 ?_
  refine nt_sld (j := 10 * i + 1) hx hb hX hbl hbA hS (by omega) hL d_law_413 ?_
  refine lv_aload_n hx hb d_law_414 rfl (lv_at hl 0 rfl) ?_
  refine lv_iload_n hx hb d_law_415 rfl (lv_at hl 3 rfl) ?_
  refine lv_iconst (v := nI 2) hx hb d_law_416 (by decide) ?_
  refine nt_iadd (x := (10 * i)) hx hb d_law_417 ?_
  refine nt_sld (j := 10 * i + 2) hx hb hX hbl hbA hS (by omega) hL d_law_418 ?_
  refine roVL (rest := [.long (lB (s_part n po fi la d o dt cnt (xs (10 * i + 1)) (xs (10 * i + 2))))]) F (c_M_part l D cL cB cI m0 mb cnt n po fi la d o dt (xs (10 * i + 1)) (xs (10 * i + 2)) hn hd hc5) k_M_part ml_law_43 ⟨rfl, rfl, by decide, by decide⟩ hK hP hS (hP.sub [8, 9] rfl) rfl rfl rfl rfl hl.1 rfl (Nat.le_of_ble_eq_true rfl) d_law_419 hcap (fun H locs hP hS => ?_)
  refine bl_eq (a := (s_part n po fi la d o dt cnt (xs (10 * i + 1)) (xs (10 * i + 2)))) (b := (s_part n po fi la d o dt cnt (xs (10 * i + 1)) (xs (10 * i + 2)))) (tgt := 703) hx hb d_law_422 d_law_423 (by decide) (fun _ => ?_) (fun h => absurd rfl h)
  refine lv_iinc (v := (nI (10 * i + 10))) (lv' := [(3, .int (nI (10 * i + 10))), (0, .ref b), (1, .ref x0), (2, .ref m0)]) hx hb d_law_703 hl (k := 3) rfl (nI_inc10 _) (by decide) rfl (fun ls hl => ?_)
  refine lv_goto (tgt := 18) hx hb d_law_706 (by decide) ?_
  refine W.widen (k := 10 + 2 * (i + 1)) (n := 52263 + 2056 * (i + 1)) (by omega) (by omega) ?_
  exact hn1 x0 k0 t0 p0 b0 r0 n0 s0 m0 mb cnt n po fi la d o f dt rf nf sf ⟨hn, hp, hfi, hla, hf, hd, hc5⟩ ls H locs hP hD hS (lv_sub hl [1, 2, 3, 0] rfl)
set_option maxHeartbeats 8000000 in
set_option maxRecDepth 100000 in
theorem law_c6 {p : Program} {l : Launch} {e : Env} {s : State} {m : MethodId} {below : List Frame} {meth : Method} {c : Code} {D : va_G} {cL cB cI : ClassId} {A : Nat → Prop} {b L : Nat} {xs : Nat → Int32} (hL : L ≤ 5120) (C0 : lw_At p s m meth c b L xs) (hAe : A = fun q : Nat => s.heap.size ≤ q) (hK : KN D cL cB cI s) {i : Nat} (hi : 10 * i + 10 ≤ L) (hn1 : lw_next p l e s m below meth c D cL cB cI A b (i + 1)) (x0 k0 t0 p0 b0 r0 n0 s0 m0 mb cnt n : Nat) (po fi la : BitVec 64) (d o : Bool) (f : Nat → Int64) (dt : Nat → Nat) (rf : Nat → Int32) (nf sf : Nat → Int64) (hok : lw_ok cnt n po fi la d f dt) {ls : Array Slot} {H : Heap} {locs : List Loc} (hP : va_P D classes (lw_W cL cB cI x0 k0 t0 p0 b0 r0 n0 s0 m0 mb cnt n po fi la d o f dt rf nf sf) H) (hD : va_D A (lw_W cL cB cI x0 k0 t0 p0 b0 r0 n0 s0 m0 mb cnt n po fi la d o f dt rf nf sf)) (hS : va_S A s.heap H locs) (hl : lv_has ls 4 [(0, .ref b), (1, .ref x0), (2, .ref m0), (3, .int (nI (10 * i)))]) : W p l e room_1 s m #[Value.ref b] below meth c H locs (10 + 2 * i) (52263 + 2056 * i) (lw_Z below #[Value.ref b] s) (F0 m 428 ls []) := by
  obtain ⟨hx, hb, hr, hml, hown, hts, hX, hbl, hlocks, hgv⟩ := id C0
  have hT : ∀ w ∈ g_tbl, w.before #[Value.ref b] s = true := fun w hw => hts w (List.mem_filter.mp hw).1
  have F : CallFix p m c code 4 s #[Value.ref b] g_tbl R_law := ⟨hx, hb, hml, hown, hT⟩
  have hA : ∀ q : Nat, s.heap.size ≤ q → A q := fun q h => by rw [hAe]; exact h
  have hbA : ¬ A b := by rw [hAe]; exact Nat.not_le.mpr hbl
  obtain ⟨hn, hp, hfi, hla, hf, hd, hc5⟩ := hok
  have hcap : 10 + 2 * i ≤ room_1.cells ∧ 52263 + 2056 * i ≤ room_1.slots := ⟨show _ ≤ 600000 by omega, show _ ≤ 7302249 by omega⟩
  have hcap2 : 10 + 2 * i + 2 ≤ room_1.cells ∧ 52263 + 2056 * i + 2056 ≤ room_1.slots := ⟨show _ ≤ 600000 by omega, show _ ≤ 7302249 by omega⟩
  refine lv_aload_n hx hb d_law_428 rfl (lv_at hl 1 rfl) ?_
  refine lv_aload_n hx hb d_law_429 rfl (lv_at hl 0 rfl) ?_
  refine lv_iload_n hx hb d_law_430 rfl (lv_at hl 3 rfl) ?_
  refine lv_iconst (v := nI 1) hx hb d_law_431 (by decide) ?_
  refine nt_iadd (x := (10 * i)) hx hb d_law_432 ?_
  refine nt_sld (j := 10 * i + 1) hx hb hX hbl hbA hS (by omega) hL d_law_433 ?_
  refine lv_i2l (v := lB (xs (10 * i + 1)).toInt64.toBitVec) hx hb d_law_434 (lB_of _).symm ?_
  refine lv_bipush (v := nI 32) hx hb d_law_435 (by decide) ?_
  refine bv_lshl hx hb (by omega) d_law_437 ?_
  refine lv_aload_n hx hb d_law_438 rfl (lv_at hl 0 rfl) ?_
  refine lv_iload_n hx hb d_law_439 rfl (lv_at hl 3 rfl) ?_
  refine lv_iconst (v := nI 2) hx hb d_law_440 (by decide) ?_
  refine nt_iadd (x := (10 * i)) hx hb d_law_441 ?_
  refine nt_sld (j := 10 * i + 2) hx hb hX hbl hbA hS (by omega) hL d_law_442 ?_
  refine lv_i2l (v := lB (xs (10 * i + 2)).toInt64.toBitVec) hx hb d_law_443 (lB_of _).symm ?_
  refine lv_ldc2 hx hb hown (hT _ cj_law_13) d_law_444 ?_
  refine tpl (z := lB 4294967295#64) (by decide) ?_
  refine bv_land hx hb d_law_447 ?_
  refine bv_lor hx hb d_law_448 ?_
  refine tpl (z := (lB (q_lg (xs (10 * i + 1)) (xs (10 * i + 2))))) rfl ?_
  refine lv_aload_n hx hb d_law_449 rfl (lv_at hl 0 rfl) ?_
  refine lv_iload_n hx hb d_law_450 rfl (lv_at hl 3 rfl) ?_
  refine lv_iconst (v := nI 3) hx hb d_law_451 (by decide) ?_
  refine nt_iadd (x := (10 * i)) hx hb d_law_452 ?_
  refine nt_sld (j := 10 * i + 3) hx hb hX hbl hbA hS (by omega) hL d_law_453 ?_
  refine lv_i2l (v := lB (xs (10 * i + 3)).toInt64.toBitVec) hx hb d_law_454 (lB_of _).symm ?_
  refine lv_bipush (v := nI 32) hx hb d_law_455 (by decide) ?_
  refine bv_lshl hx hb (by omega) d_law_457 ?_
  refine lv_aload_n hx hb d_law_458 rfl (lv_at hl 0 rfl) ?_
  refine lv_iload_n hx hb d_law_459 rfl (lv_at hl 3 rfl) ?_
  refine lv_iconst (v := nI 4) hx hb d_law_460 (by decide) ?_
  refine nt_iadd (x := (10 * i)) hx hb d_law_461 ?_
  refine nt_sld (j := 10 * i + 4) hx hb hX hbl hbA hS (by omega) hL d_law_462 ?_
  refine lv_i2l (v := lB (xs (10 * i + 4)).toInt64.toBitVec) hx hb d_law_463 (lB_of _).symm ?_
  refine lv_ldc2 hx hb hown (hT _ cj_law_13) d_law_464 ?_
  refine tpl (z := lB 4294967295#64) (by decide) ?_
  refine bv_land hx hb d_law_467 ?_
  refine bv_lor hx hb d_law_468 ?_
  refine tpl (z := (lB (q_lg (xs (10 * i + 3)) (xs (10 * i + 4))))) rfl ?_
  refine lv_aload_n hx hb d_law_469 rfl (lv_at hl 0 rfl) ?_
  refine lv_iload_n hx hb d_law_470 rfl (lv_at hl 3 rfl) ?_
  refine lv_iconst (v := nI 5) hx hb d_law_471 (by decide) ?_
  refine nt_iadd (x := (10 * i)) hx hb d_law_472 ?_
  refine nt_sld (j := 10 * i + 5) hx hb hX hbl hbA hS (by omega) hL d_law_473 ?_
  refine kk_muL (wr := [(t0, .inl (cL, 2048, .inr (.inl f))), (b0, .inl (cB, 5000, .inl (fun j => sb (dt j)))), (r0, .inl (cB, 40064, .inl rf)), (m0, .inr (3, mf n po fi la d o mb cnt)), (mb, .inl (cI, 5000, .inl (fun j => nI (dt j))))]) (run_muV (rest := []) F (c_X_joined l D cL cB cI x0 k0 t0 p0 b0 r0 cnt n po fi la d o n0 s0 nf sf (q_lg (xs (10 * i + 1)) (xs (10 * i + 2))) (q_lg (xs (10 * i + 3)) (xs (10 * i + 4))) (xs (10 * i + 5)) _ hn hp hfi hla) k_X_joined ml_law_44 ⟨rfl, rfl, by decide, by decide⟩ hK (hP.sub [0, 1, 5, 6, 7] rfl) (hD.sub [0, 1, 5, 6, 7] (by decide) rfl) rfl rfl rfl rfl hl.1 rfl (Nat.le_of_ble_eq_true rfl) d_law_474 hcap) hS hP hD hA [0, 1, 5, 6, 7] [2, 3, 4, 8, 9] rfl rfl (by decide) (by decide) (fun r u H locs hw hP hD hS => ?_)
  obtain ⟨g, h⟩ := u
  subst hw
  have hP : va_P D classes [(t0, .inl (cL, 2048, .inr (.inl f))), (b0, .inl (cB, 5000, .inl (fun j => sb (dt j)))), (r0, .inl (cB, 40064, .inl rf)), (m0, .inr (3, mf n po fi la d o mb cnt)), (mb, .inl (cI, 5000, .inl (fun j => nI (dt j)))), (x0, .inr (2, xf k0 p0 b0 r0 cnt)), (k0, .inr (0, kf n po fi la d o t0)), (p0, .inr (1, [.ref n0, .ref s0])), (n0, .inl (cL, 64, .inr (.inl g))), (s0, .inl (cL, 64, .inr (.inl h)))] H := hP
  have hD : va_D A [(t0, .inl (cL, 2048, .inr (.inl f))), (b0, .inl (cB, 5000, .inl (fun j => sb (dt j)))), (r0, .inl (cB, 40064, .inl rf)), (m0, .inr (3, mf n po fi la d o mb cnt)), (mb, .inl (cI, 5000, .inl (fun j => nI (dt j)))), (x0, .inr (2, xf k0 p0 b0 r0 cnt)), (k0, .inr (0, kf n po fi la d o t0)), (p0, .inr (1, [.ref n0, .ref s0])), (n0, .inl (cL, 64, .inr (.inl g))), (s0, .inl (cL, 64, .inr (.inl h)))] := hD
  have hP := hP.sub (ws' := [(x0, .inr (2, xf k0 p0 b0 r0 cnt)), (k0, .inr (0, kf n po fi la d o t0)), (t0, .inl (cL, 2048, .inr (.inl f))), (b0, .inl (cB, 5000, .inl (fun j => sb (dt j)))), (r0, .inl (cB, 40064, .inl rf)), (p0, .inr (1, [.ref n0, .ref s0])), (n0, .inl (cL, 64, .inr (.inl g))), (s0, .inl (cL, 64, .inr (.inl h))), (m0, .inr (3, mf n po fi la d o mb cnt)), (mb, .inl (cI, 5000, .inl (fun j => nI (dt j))))]) [5, 6, 0, 1, 2, 7, 8, 9, 3, 4] rfl
  have hD := hD.sub (ws' := [(x0, .inr (2, xf k0 p0 b0 r0 cnt)), (k0, .inr (0, kf n po fi la d o t0)), (t0, .inl (cL, 2048, .inr (.inl f))), (b0, .inl (cB, 5000, .inl (fun j => sb (dt j)))), (r0, .inl (cB, 40064, .inl rf)), (p0, .inr (1, [.ref n0, .ref s0])), (n0, .inl (cL, 64, .inr (.inl g))), (s0, .inl (cL, 64, .inr (.inl h))), (m0, .inr (3, mf n po fi la d o mb cnt)), (mb, .inl (cI, 5000, .inl (fun j => nI (dt j))))]) [5, 6, 0, 1, 2, 7, 8, 9, 3, 4] (by decide) rfl
  refine lv_aload_n hx hb d_law_477 rfl (lv_at hl 2 rfl) ?_
  refine lv_aload_n hx hb d_law_478 rfl (lv_at hl 0 rfl) ?_
  refine lv_iload_n hx hb d_law_479 rfl (lv_at hl 3 rfl) ?_
  refine lv_iconst (v := nI 1) hx hb d_law_480 (by decide) ?_
  refine nt_iadd (x := (10 * i)) hx hb d_law_481 ?_
  refine nt_sld (j := 10 * i + 1) hx hb hX hbl hbA hS (by omega) hL d_law_482 ?_
  refine lv_i2l (v := lB (xs (10 * i + 1)).toInt64.toBitVec) hx hb d_law_483 (lB_of _).symm ?_
  refine lv_bipush (v := nI 32) hx hb d_law_484 (by decide) ?_
  refine bv_lshl hx hb (by omega) d_law_486 ?_
  refine lv_aload_n hx hb d_law_487 rfl (lv_at hl 0 rfl) ?_
  refine lv_iload_n hx hb d_law_488 rfl (lv_at hl 3 rfl) ?_
  refine lv_iconst (v := nI 2) hx hb d_law_489 (by decide) ?_
  refine nt_iadd (x := (10 * i)) hx hb d_law_490 ?_
  refine nt_sld (j := 10 * i + 2) hx hb hX hbl hbA hS (by omega) hL d_law_491 ?_
  refine lv_i2l (v := lB (xs (10 * i + 2)).toInt64.toBitVec) hx hb d_law_492 (lB_of _).symm ?_
  refine lv_ldc2 hx hb hown (hT _ cj_law_13) d_law_493 ?_
  refine tpl (z := lB 4294967295#64) (by decide) ?_
  refine bv_land hx hb d_law_496 ?_
  refine bv_lor hx hb d_law_497 ?_
  refine tpl (z := (lB (q_lg (xs (10 * i + 1)) (xs (10 * i + 2))))) rfl ?_
  refine lv_aload_n hx hb d_law_498 rfl (lv_at hl 0 rfl) ?_
  refine lv_iload_n hx hb d_law_499 rfl (lv_at hl 3 rfl) ?_
  refine lv_iconst (v := nI 3) hx hb d_law_500 (by decide) ?_
  refine nt_iadd (x := (10 * i)) hx hb d_law_501 ?_
  refine nt_sld (j := 10 * i + 3) hx hb hX hbl hbA hS (by omega) hL d_law_502 ?_
  refine lv_i2l (v := lB (xs (10 * i + 3)).toInt64.toBitVec) hx hb d_law_503 (lB_of _).symm ?_
  refine lv_bipush (v := nI 32) hx hb d_law_504 (by decide) ?_
  refine bv_lshl hx hb (by omega) d_law_506 ?_
  refine lv_aload_n hx hb d_law_507 rfl (lv_at hl 0 rfl) ?_
  refine lv_iload_n hx hb d_law_508 rfl (lv_at hl 3 rfl) ?_
  refine lv_iconst (v := nI 4) hx hb d_law_509 (by decide) ?_
  refine nt_iadd (x := (10 * i)) hx hb d_law_510 ?_
  refine nt_sld (j := 10 * i + 4) hx hb hX hbl hbA hS (by omega) hL d_law_511 ?_
  refine lv_i2l (v := lB (xs (10 * i + 4)).toInt64.toBitVec) hx hb d_law_512 (lB_of _).symm ?_
  refine lv_ldc2 hx hb hown (hT _ cj_law_13) d_law_513 ?_
  refine tpl (z := lB 4294967295#64) (by decide) ?_
  refine bv_land hx hb d_law_516 ?_
  refine bv_lor hx hb d_law_517 ?_
  refine tpl (z := (lB (q_lg (xs (10 * i + 3)) (xs (10 * i + 4))))) rfl ?_
  refine lv_aload_n hx hb d_law_518 rfl (lv_at hl 0 rfl) ?_
  refine lv_iload_n hx hb d_law_519 rfl (lv_at hl 3 rfl) ?_
  refine lv_iconst (v := nI 5) hx hb d_law_520 (by decide) ?_
  refine nt_iadd (x := (10 * i)) hx hb d_law_521 ?_
  refine nt_sld (j := 10 * i + 5) hx hb hX hbl hbA hS (by omega) hL d_law_522 ?_
  refine roVL (rest := [.long (lB (s_joined n po fi la o (q_lg (xs (10 * i + 1)) (xs (10 * i + 2))) (q_lg (xs (10 * i + 3)) (xs (10 * i + 4))) (xs (10 * i + 5))))]) F (c_M_joined l D cL cB cI m0 mb cnt n po fi la d o (q_lg (xs (10 * i + 1)) (xs (10 * i + 2))) (q_lg (xs (10 * i + 3)) (xs (10 * i + 4))) (xs (10 * i + 5)) hn hp hfi hla) k_M_joined ml_law_48 ⟨rfl, rfl, by decide, by decide⟩ hK hP hS (hP.sub [8] rfl) rfl rfl rfl rfl hl.1 rfl (Nat.le_of_ble_eq_true rfl) d_law_523 hcap (fun H locs hP hS => ?_)
  refine bl_eq (a := (s_joined n po fi la o (q_lg (xs (10 * i + 1)) (xs (10 * i + 2))) (q_lg (xs (10 * i + 3)) (xs (10 * i + 4))) (xs (10 * i + 5)))) (b := (s_joined n po fi la o (q_lg (xs (10 * i + 1)) (xs (10 * i + 2))) (q_lg (xs (10 * i + 3)) (xs (10 * i + 4))) (xs (10 * i + 5)))) (tgt := 703) hx hb d_law_526 d_law_527 (by decide) (fun _ => ?_) (fun h => absurd rfl h)
  refine lv_iinc (v := (nI (10 * i + 10))) (lv' := [(3, .int (nI (10 * i + 10))), (0, .ref b), (1, .ref x0), (2, .ref m0)]) hx hb d_law_703 hl (k := 3) rfl (nI_inc10 _) (by decide) rfl (fun ls hl => ?_)
  refine lv_goto (tgt := 18) hx hb d_law_706 (by decide) ?_
  refine W.widen (k := 10 + 2 * (i + 1)) (n := 52263 + 2056 * (i + 1)) (by omega) (by omega) ?_
  exact hn1 x0 k0 t0 p0 b0 r0 n0 s0 m0 mb cnt n po fi la d o f dt rf g h ⟨hn, hp, hfi, hla, hf, hd, hc5⟩ ls H locs hP hD hS (lv_sub hl [1, 2, 3, 0] rfl)
set_option maxHeartbeats 8000000 in
set_option maxRecDepth 100000 in
theorem law_c7 {p : Program} {l : Launch} {e : Env} {s : State} {m : MethodId} {below : List Frame} {meth : Method} {c : Code} {D : va_G} {cL cB cI : ClassId} {A : Nat → Prop} {b L : Nat} {xs : Nat → Int32} (hL : L ≤ 5120) (C0 : lw_At p s m meth c b L xs) (hAe : A = fun q : Nat => s.heap.size ≤ q) (hK : KN D cL cB cI s) {i : Nat} (hi : 10 * i + 10 ≤ L) (hn1 : lw_next p l e s m below meth c D cL cB cI A b (i + 1)) (x0 k0 t0 p0 b0 r0 n0 s0 m0 mb cnt n : Nat) (po fi la : BitVec 64) (d o : Bool) (f : Nat → Int64) (dt : Nat → Nat) (rf : Nat → Int32) (nf sf : Nat → Int64) (hok : lw_ok cnt n po fi la d f dt) {ls : Array Slot} {H : Heap} {locs : List Loc} (hP : va_P D classes (lw_W cL cB cI x0 k0 t0 p0 b0 r0 n0 s0 m0 mb cnt n po fi la d o f dt rf nf sf) H) (hD : va_D A (lw_W cL cB cI x0 k0 t0 p0 b0 r0 n0 s0 m0 mb cnt n po fi la d o f dt rf nf sf)) (hS : va_S A s.heap H locs) (hl : lv_has ls 4 [(0, .ref b), (1, .ref x0), (2, .ref m0), (3, .int (nI (10 * i)))]) : W p l e room_1 s m #[Value.ref b] below meth c H locs (10 + 2 * i) (52263 + 2056 * i) (lw_Z below #[Value.ref b] s) (F0 m 532 ls []) := by
  obtain ⟨hx, hb, hr, hml, hown, hts, hX, hbl, hlocks, hgv⟩ := id C0
  have hT : ∀ w ∈ g_tbl, w.before #[Value.ref b] s = true := fun w hw => hts w (List.mem_filter.mp hw).1
  have F : CallFix p m c code 4 s #[Value.ref b] g_tbl R_law := ⟨hx, hb, hml, hown, hT⟩
  have hA : ∀ q : Nat, s.heap.size ≤ q → A q := fun q h => by rw [hAe]; exact h
  have hbA : ¬ A b := by rw [hAe]; exact Nat.not_le.mpr hbl
  obtain ⟨hn, hp, hfi, hla, hf, hd, hc5⟩ := hok
  have hcap : 10 + 2 * i ≤ room_1.cells ∧ 52263 + 2056 * i ≤ room_1.slots := ⟨show _ ≤ 600000 by omega, show _ ≤ 7302249 by omega⟩
  have hcap2 : 10 + 2 * i + 2 ≤ room_1.cells ∧ 52263 + 2056 * i + 2056 ≤ room_1.slots := ⟨show _ ≤ 600000 by omega, show _ ≤ 7302249 by omega⟩
  refine lv_aload_n hx hb d_law_532 rfl (lv_at hl 1 rfl) ?_
  refine lv_aload_n hx hb d_law_533 rfl (lv_at hl 0 rfl) ?_
  refine lv_iload_n hx hb d_law_534 rfl (lv_at hl 3 rfl) ?_
  refine lv_iconst (v := nI 1) hx hb d_law_535 (by decide) ?_
  refine nt_iadd (x := (10 * i)) hx hb d_law_536 ?_
  refine nt_sld (j := 10 * i + 1) hx hb hX hbl hbA hS (by omega) hL d_law_537 ?_
  refine lv_aload_n hx hb d_law_538 rfl (lv_at hl 0 rfl) ?_
  refine lv_iload_n hx hb d_law_539 rfl (lv_at hl 3 rfl) ?_
  refine lv_iconst (v := nI 2) hx hb d_law_540 (by decide) ?_
  refine nt_iadd (x := (10 * i)) hx hb d_law_541 ?_
  refine nt_sld (j := 10 * i + 2) hx hb hX hbl hbA hS (by omega) hL d_law_542 ?_
  refine roVL (rest := []) F (c_X_entry l D cL cB cI x0 k0 t0 p0 b0 r0 cnt n po fi la d o f (xs (10 * i + 1)) (xs (10 * i + 2)) hn hp hf) k_X_entry ml_law_49 ⟨rfl, rfl, by decide, by decide⟩ hK hP hS (hP.sub [0, 1, 2] rfl) rfl rfl rfl rfl hl.1 rfl (Nat.le_of_ble_eq_true rfl) d_law_543 hcap (fun H locs hP hS => ?_)
  refine lv_aload_n hx hb d_law_546 rfl (lv_at hl 2 rfl) ?_
  refine lv_aload_n hx hb d_law_547 rfl (lv_at hl 0 rfl) ?_
  refine lv_iload_n hx hb d_law_548 rfl (lv_at hl 3 rfl) ?_
  refine lv_iconst (v := nI 1) hx hb d_law_549 (by decide) ?_
  refine nt_iadd (x := (10 * i)) hx hb d_law_550 ?_
  refine nt_sld (j := 10 * i + 1) hx hb hX hbl hbA hS (by omega) hL d_law_551 ?_
  refine lv_aload_n hx hb d_law_552 rfl (lv_at hl 0 rfl) ?_
  refine lv_iload_n hx hb d_law_553 rfl (lv_at hl 3 rfl) ?_
  refine lv_iconst (v := nI 2) hx hb d_law_554 (by decide) ?_
  refine nt_iadd (x := (10 * i)) hx hb d_law_555 ?_
  refine nt_sld (j := 10 * i + 2) hx hb hX hbl hbA hS (by omega) hL d_law_556 ?_
  refine roVL (rest := [.long (lB (s_entry n po d (xs (10 * i + 1)) (xs (10 * i + 2))))]) F (c_M_entry l D cL cB cI m0 mb cnt n po fi la d o (xs (10 * i + 1)) (xs (10 * i + 2)) hn hp) k_M_entry ml_law_52 ⟨rfl, rfl, by decide, by decide⟩ hK hP hS (hP.sub [8] rfl) rfl rfl rfl rfl hl.1 rfl (Nat.le_of_ble_eq_true rfl) d_law_557 hcap (fun H locs hP hS => ?_)
  refine bl_eq (a := (s_entry n po d (xs (10 * i + 1)) (xs (10 * i + 2)))) (b := (s_entry n po d (xs (10 * i + 1)) (xs (10 * i + 2)))) (tgt := 703) hx hb d_law_560 d_law_561 (by decide) (fun _ => ?_) (fun h => absurd rfl h)
  refine lv_iinc (v := (nI (10 * i + 10))) (lv' := [(3, .int (nI (10 * i + 10))), (0, .ref b), (1, .ref x0), (2, .ref m0)]) hx hb d_law_703 hl (k := 3) rfl (nI_inc10 _) (by decide) rfl (fun ls hl => ?_)
  refine lv_goto (tgt := 18) hx hb d_law_706 (by decide) ?_
  refine W.widen (k := 10 + 2 * (i + 1)) (n := 52263 + 2056 * (i + 1)) (by omega) (by omega) ?_
  exact hn1 x0 k0 t0 p0 b0 r0 n0 s0 m0 mb cnt n po fi la d o f dt rf nf sf ⟨hn, hp, hfi, hla, hf, hd, hc5⟩ ls H locs hP hD hS (lv_sub hl [1, 2, 3, 0] rfl)
set_option maxHeartbeats 8000000 in
set_option maxRecDepth 100000 in
theorem law_c8 {p : Program} {l : Launch} {e : Env} {s : State} {m : MethodId} {below : List Frame} {meth : Method} {c : Code} {D : va_G} {cL cB cI : ClassId} {A : Nat → Prop} {b L : Nat} {xs : Nat → Int32} (hL : L ≤ 5120) (C0 : lw_At p s m meth c b L xs) (hAe : A = fun q : Nat => s.heap.size ≤ q) (hK : KN D cL cB cI s) {i : Nat} (hi : 10 * i + 10 ≤ L) (hn1 : lw_next p l e s m below meth c D cL cB cI A b (i + 1)) (x0 k0 t0 p0 b0 r0 n0 s0 m0 mb cnt n : Nat) (po fi la : BitVec 64) (d o : Bool) (f : Nat → Int64) (dt : Nat → Nat) (rf : Nat → Int32) (nf sf : Nat → Int64) (hok : lw_ok cnt n po fi la d f dt) {ls : Array Slot} {H : Heap} {locs : List Loc} (hP : va_P D classes (lw_W cL cB cI x0 k0 t0 p0 b0 r0 n0 s0 m0 mb cnt n po fi la d o f dt rf nf sf) H) (hD : va_D A (lw_W cL cB cI x0 k0 t0 p0 b0 r0 n0 s0 m0 mb cnt n po fi la d o f dt rf nf sf)) (hS : va_S A s.heap H locs) (hl : lv_has ls 4 [(0, .ref b), (1, .ref x0), (2, .ref m0), (3, .int (nI (10 * i)))]) : W p l e room_1 s m #[Value.ref b] below meth c H locs (10 + 2 * i) (52263 + 2056 * i) (lw_Z below #[Value.ref b] s) (F0 m 566 ls []) := by
  obtain ⟨hx, hb, hr, hml, hown, hts, hX, hbl, hlocks, hgv⟩ := id C0
  have hT : ∀ w ∈ g_tbl, w.before #[Value.ref b] s = true := fun w hw => hts w (List.mem_filter.mp hw).1
  have F : CallFix p m c code 4 s #[Value.ref b] g_tbl R_law := ⟨hx, hb, hml, hown, hT⟩
  have hA : ∀ q : Nat, s.heap.size ≤ q → A q := fun q h => by rw [hAe]; exact h
  have hbA : ¬ A b := by rw [hAe]; exact Nat.not_le.mpr hbl
  obtain ⟨hn, hp, hfi, hla, hf, hd, hc5⟩ := hok
  have hcap : 10 + 2 * i ≤ room_1.cells ∧ 52263 + 2056 * i ≤ room_1.slots := ⟨show _ ≤ 600000 by omega, show _ ≤ 7302249 by omega⟩
  have hcap2 : 10 + 2 * i + 2 ≤ room_1.cells ∧ 52263 + 2056 * i + 2056 ≤ room_1.slots := ⟨show _ ≤ 600000 by omega, show _ ≤ 7302249 by omega⟩
  refine lv_aload_n hx hb d_law_566 rfl (lv_at hl 1 rfl) ?_
  refine lv_aload_n hx hb d_law_567 rfl (lv_at hl 0 rfl) ?_
  refine lv_iload_n hx hb d_law_568 rfl (lv_at hl 3 rfl) ?_
  refine lv_iconst (v := nI 1) hx hb d_law_569 (by decide) ?_
  refine nt_iadd (x := (10 * i)) hx hb d_law_570 ?_
  refine nt_sld (j := 10 * i + 1) hx hb hX hbl hbA hS (by omega) hL d_law_571 ?_
  refine lv_i2l (v := lB (xs (10 * i + 1)).toInt64.toBitVec) hx hb d_law_572 (lB_of _).symm ?_
  refine lv_bipush (v := nI 32) hx hb d_law_573 (by decide) ?_
  refine bv_lshl hx hb (by omega) d_law_575 ?_
  refine lv_aload_n hx hb d_law_576 rfl (lv_at hl 0 rfl) ?_
  refine lv_iload_n hx hb d_law_577 rfl (lv_at hl 3 rfl) ?_
  refine lv_iconst (v := nI 2) hx hb d_law_578 (by decide) ?_
  refine nt_iadd (x := (10 * i)) hx hb d_law_579 ?_
  refine nt_sld (j := 10 * i + 2) hx hb hX hbl hbA hS (by omega) hL d_law_580 ?_
  refine lv_i2l (v := lB (xs (10 * i + 2)).toInt64.toBitVec) hx hb d_law_581 (lB_of _).symm ?_
  refine lv_ldc2 hx hb hown (hT _ cj_law_13) d_law_582 ?_
  refine tpl (z := lB 4294967295#64) (by decide) ?_
  refine bv_land hx hb d_law_585 ?_
  refine bv_lor hx hb d_law_586 ?_
  refine tpl (z := (lB (q_lg (xs (10 * i + 1)) (xs (10 * i + 2))))) rfl ?_
  refine lv_aload_n hx hb d_law_587 rfl (lv_at hl 0 rfl) ?_
  refine lv_iload_n hx hb d_law_588 rfl (lv_at hl 3 rfl) ?_
  refine lv_iconst (v := nI 3) hx hb d_law_589 (by decide) ?_
  refine nt_iadd (x := (10 * i)) hx hb d_law_590 ?_
  refine nt_sld (j := 10 * i + 3) hx hb hX hbl hbA hS (by omega) hL d_law_591 ?_
  refine kk_muL (wr := [(t0, .inl (cL, 2048, .inr (.inl f))), (b0, .inl (cB, 5000, .inl (fun j => sb (dt j)))), (r0, .inl (cB, 40064, .inl rf)), (m0, .inr (3, mf n po fi la d o mb cnt)), (mb, .inl (cI, 5000, .inl (fun j => nI (dt j))))]) (run_muV (rest := []) F (c_X_zeros l D cL cB cI x0 k0 t0 p0 b0 r0 cnt n po fi la d o n0 s0 nf sf (q_lg (xs (10 * i + 1)) (xs (10 * i + 2))) (xs (10 * i + 3)) _ hn hp) k_X_zeros ml_law_53 ⟨rfl, rfl, by decide, by decide⟩ hK (hP.sub [0, 1, 5, 6, 7] rfl) (hD.sub [0, 1, 5, 6, 7] (by decide) rfl) rfl rfl rfl rfl hl.1 rfl (Nat.le_of_ble_eq_true rfl) d_law_592 hcap) hS hP hD hA [0, 1, 5, 6, 7] [2, 3, 4, 8, 9] rfl rfl (by decide) (by decide) (fun r u H locs hw hP hD hS => ?_)
  obtain ⟨g, h⟩ := u
  subst hw
  have hP : va_P D classes [(t0, .inl (cL, 2048, .inr (.inl f))), (b0, .inl (cB, 5000, .inl (fun j => sb (dt j)))), (r0, .inl (cB, 40064, .inl rf)), (m0, .inr (3, mf n po fi la d o mb cnt)), (mb, .inl (cI, 5000, .inl (fun j => nI (dt j)))), (x0, .inr (2, xf k0 p0 b0 r0 cnt)), (k0, .inr (0, kf n po fi la d o t0)), (p0, .inr (1, [.ref n0, .ref s0])), (n0, .inl (cL, 64, .inr (.inl g))), (s0, .inl (cL, 64, .inr (.inl h)))] H := hP
  have hD : va_D A [(t0, .inl (cL, 2048, .inr (.inl f))), (b0, .inl (cB, 5000, .inl (fun j => sb (dt j)))), (r0, .inl (cB, 40064, .inl rf)), (m0, .inr (3, mf n po fi la d o mb cnt)), (mb, .inl (cI, 5000, .inl (fun j => nI (dt j)))), (x0, .inr (2, xf k0 p0 b0 r0 cnt)), (k0, .inr (0, kf n po fi la d o t0)), (p0, .inr (1, [.ref n0, .ref s0])), (n0, .inl (cL, 64, .inr (.inl g))), (s0, .inl (cL, 64, .inr (.inl h)))] := hD
  have hP := hP.sub (ws' := [(x0, .inr (2, xf k0 p0 b0 r0 cnt)), (k0, .inr (0, kf n po fi la d o t0)), (t0, .inl (cL, 2048, .inr (.inl f))), (b0, .inl (cB, 5000, .inl (fun j => sb (dt j)))), (r0, .inl (cB, 40064, .inl rf)), (p0, .inr (1, [.ref n0, .ref s0])), (n0, .inl (cL, 64, .inr (.inl g))), (s0, .inl (cL, 64, .inr (.inl h))), (m0, .inr (3, mf n po fi la d o mb cnt)), (mb, .inl (cI, 5000, .inl (fun j => nI (dt j))))]) [5, 6, 0, 1, 2, 7, 8, 9, 3, 4] rfl
  have hD := hD.sub (ws' := [(x0, .inr (2, xf k0 p0 b0 r0 cnt)), (k0, .inr (0, kf n po fi la d o t0)), (t0, .inl (cL, 2048, .inr (.inl f))), (b0, .inl (cB, 5000, .inl (fun j => sb (dt j)))), (r0, .inl (cB, 40064, .inl rf)), (p0, .inr (1, [.ref n0, .ref s0])), (n0, .inl (cL, 64, .inr (.inl g))), (s0, .inl (cL, 64, .inr (.inl h))), (m0, .inr (3, mf n po fi la d o mb cnt)), (mb, .inl (cI, 5000, .inl (fun j => nI (dt j))))]) [5, 6, 0, 1, 2, 7, 8, 9, 3, 4] (by decide) rfl
  refine lv_aload_n hx hb d_law_595 rfl (lv_at hl 2 rfl) ?_
  refine lv_aload_n hx hb d_law_596 rfl (lv_at hl 0 rfl) ?_
  refine lv_iload_n hx hb d_law_597 rfl (lv_at hl 3 rfl) ?_
  refine lv_iconst (v := nI 1) hx hb d_law_598 (by decide) ?_
  refine nt_iadd (x := (10 * i)) hx hb d_law_599 ?_
  refine nt_sld (j := 10 * i + 1) hx hb hX hbl hbA hS (by omega) hL d_law_600 ?_
  refine lv_i2l (v := lB (xs (10 * i + 1)).toInt64.toBitVec) hx hb d_law_601 (lB_of _).symm ?_
  refine lv_bipush (v := nI 32) hx hb d_law_602 (by decide) ?_
  refine bv_lshl hx hb (by omega) d_law_604 ?_
  refine lv_aload_n hx hb d_law_605 rfl (lv_at hl 0 rfl) ?_
  refine lv_iload_n hx hb d_law_606 rfl (lv_at hl 3 rfl) ?_
  refine lv_iconst (v := nI 2) hx hb d_law_607 (by decide) ?_
  refine nt_iadd (x := (10 * i)) hx hb d_law_608 ?_
  refine nt_sld (j := 10 * i + 2) hx hb hX hbl hbA hS (by omega) hL d_law_609 ?_
  refine lv_i2l (v := lB (xs (10 * i + 2)).toInt64.toBitVec) hx hb d_law_610 (lB_of _).symm ?_
  refine lv_ldc2 hx hb hown (hT _ cj_law_13) d_law_611 ?_
  refine tpl (z := lB 4294967295#64) (by decide) ?_
  refine bv_land hx hb d_law_614 ?_
  refine bv_lor hx hb d_law_615 ?_
  refine tpl (z := (lB (q_lg (xs (10 * i + 1)) (xs (10 * i + 2))))) rfl ?_
  refine lv_aload_n hx hb d_law_616 rfl (lv_at hl 0 rfl) ?_
  refine lv_iload_n hx hb d_law_617 rfl (lv_at hl 3 rfl) ?_
  refine lv_iconst (v := nI 3) hx hb d_law_618 (by decide) ?_
  refine nt_iadd (x := (10 * i)) hx hb d_law_619 ?_
  refine nt_sld (j := 10 * i + 3) hx hb hX hbl hbA hS (by omega) hL d_law_620 ?_
  refine roVL (rest := [.long (lB (s_zeros n po (q_lg (xs (10 * i + 1)) (xs (10 * i + 2))) (xs (10 * i + 3))))]) F (c_M_zeros l D cL cB cI m0 mb cnt n po fi la d o (q_lg (xs (10 * i + 1)) (xs (10 * i + 2))) (xs (10 * i + 3)) hn hp) k_M_zeros ml_law_57 ⟨rfl, rfl, by decide, by decide⟩ hK hP hS (hP.sub [8] rfl) rfl rfl rfl rfl hl.1 rfl (Nat.le_of_ble_eq_true rfl) d_law_621 hcap (fun H locs hP hS => ?_)
  refine bl_eq (a := (s_zeros n po (q_lg (xs (10 * i + 1)) (xs (10 * i + 2))) (xs (10 * i + 3)))) (b := (s_zeros n po (q_lg (xs (10 * i + 1)) (xs (10 * i + 2))) (xs (10 * i + 3)))) (tgt := 703) hx hb d_law_624 d_law_625 (by decide) (fun _ => ?_) (fun h => absurd rfl h)
  refine lv_iinc (v := (nI (10 * i + 10))) (lv' := [(3, .int (nI (10 * i + 10))), (0, .ref b), (1, .ref x0), (2, .ref m0)]) hx hb d_law_703 hl (k := 3) rfl (nI_inc10 _) (by decide) rfl (fun ls hl => ?_)
  refine lv_goto (tgt := 18) hx hb d_law_706 (by decide) ?_
  refine W.widen (k := 10 + 2 * (i + 1)) (n := 52263 + 2056 * (i + 1)) (by omega) (by omega) ?_
  exact hn1 x0 k0 t0 p0 b0 r0 n0 s0 m0 mb cnt n po fi la d o f dt rf g h ⟨hn, hp, hfi, hla, hf, hd, hc5⟩ ls H locs hP hD hS (lv_sub hl [1, 2, 3, 0] rfl)
set_option maxHeartbeats 8000000 in
set_option maxRecDepth 100000 in
theorem law_c9 {p : Program} {l : Launch} {e : Env} {s : State} {m : MethodId} {below : List Frame} {meth : Method} {c : Code} {D : va_G} {cL cB cI : ClassId} {A : Nat → Prop} {b L : Nat} {xs : Nat → Int32} (hL : L ≤ 5120) (C0 : lw_At p s m meth c b L xs) (hAe : A = fun q : Nat => s.heap.size ≤ q) (hK : KN D cL cB cI s) {i : Nat} (hi : 10 * i + 10 ≤ L) (hn1 : lw_next p l e s m below meth c D cL cB cI A b (i + 1)) (x0 k0 t0 p0 b0 r0 n0 s0 m0 mb cnt n : Nat) (po fi la : BitVec 64) (d o : Bool) (f : Nat → Int64) (dt : Nat → Nat) (rf : Nat → Int32) (nf sf : Nat → Int64) (hok : lw_ok cnt n po fi la d f dt) {ls : Array Slot} {H : Heap} {locs : List Loc} (hP : va_P D classes (lw_W cL cB cI x0 k0 t0 p0 b0 r0 n0 s0 m0 mb cnt n po fi la d o f dt rf nf sf) H) (hD : va_D A (lw_W cL cB cI x0 k0 t0 p0 b0 r0 n0 s0 m0 mb cnt n po fi la d o f dt rf nf sf)) (hS : va_S A s.heap H locs) (hl : lv_has ls 4 [(0, .ref b), (1, .ref x0), (2, .ref m0), (3, .int (nI (10 * i)))]) : W p l e room_1 s m #[Value.ref b] below meth c H locs (10 + 2 * i) (52263 + 2056 * i) (lw_Z below #[Value.ref b] s) (F0 m 630 ls []) := by
  obtain ⟨hx, hb, hr, hml, hown, hts, hX, hbl, hlocks, hgv⟩ := id C0
  have hT : ∀ w ∈ g_tbl, w.before #[Value.ref b] s = true := fun w hw => hts w (List.mem_filter.mp hw).1
  have F : CallFix p m c code 4 s #[Value.ref b] g_tbl R_law := ⟨hx, hb, hml, hown, hT⟩
  have hA : ∀ q : Nat, s.heap.size ≤ q → A q := fun q h => by rw [hAe]; exact h
  have hbA : ¬ A b := by rw [hAe]; exact Nat.not_le.mpr hbl
  obtain ⟨hn, hp, hfi, hla, hf, hd, hc5⟩ := hok
  have hcap : 10 + 2 * i ≤ room_1.cells ∧ 52263 + 2056 * i ≤ room_1.slots := ⟨show _ ≤ 600000 by omega, show _ ≤ 7302249 by omega⟩
  have hcap2 : 10 + 2 * i + 2 ≤ room_1.cells ∧ 52263 + 2056 * i + 2056 ≤ room_1.slots := ⟨show _ ≤ 600000 by omega, show _ ≤ 7302249 by omega⟩
  refine lv_aload_n hx hb d_law_630 rfl (lv_at hl 1 rfl) ?_
  refine roVI (rest := []) F (c_X_round l D cL cB cI x0 k0 t0 p0 b0 r0 cnt n po fi la d o hn hp) k_X_round ml_law_58 ⟨rfl, rfl, by decide, by decide⟩ hK hP hS (hP.sub [0, 1] rfl) rfl rfl rfl rfl hl.1 rfl (Nat.le_of_ble_eq_true rfl) d_law_631 hcap (fun H locs hP hS => ?_)
  refine lv_aload_n hx hb d_law_634 rfl (lv_at hl 2 rfl) ?_
  refine roVI (rest := [.int (q_ro n po 1 4096)]) F (c_M_round l D cL cB cI m0 mb cnt n po fi la d o hn) k_M_round ml_law_62 ⟨rfl, rfl, by decide, by decide⟩ hK hP hS (hP.sub [8] rfl) rfl rfl rfl rfl hl.1 rfl (Nat.le_of_ble_eq_true rfl) d_law_635 hcap (fun H locs hP hS => ?_)
  refine lv_icmp_eq (tgt := 703) hx hb d_law_638 (by decide) (fun _ => ?_) (fun h => absurd rfl h)
  refine lv_iinc (v := (nI (10 * i + 10))) (lv' := [(3, .int (nI (10 * i + 10))), (0, .ref b), (1, .ref x0), (2, .ref m0)]) hx hb d_law_703 hl (k := 3) rfl (nI_inc10 _) (by decide) rfl (fun ls hl => ?_)
  refine lv_goto (tgt := 18) hx hb d_law_706 (by decide) ?_
  refine W.widen (k := 10 + 2 * (i + 1)) (n := 52263 + 2056 * (i + 1)) (by omega) (by omega) ?_
  exact hn1 x0 k0 t0 p0 b0 r0 n0 s0 m0 mb cnt n po fi la d o f dt rf nf sf ⟨hn, hp, hfi, hla, hf, hd, hc5⟩ ls H locs hP hD hS (lv_sub hl [1, 2, 3, 0] rfl)
set_option maxHeartbeats 8000000 in
set_option maxRecDepth 100000 in
theorem law_c10 {p : Program} {l : Launch} {e : Env} {s : State} {m : MethodId} {below : List Frame} {meth : Method} {c : Code} {D : va_G} {cL cB cI : ClassId} {A : Nat → Prop} {b L : Nat} {xs : Nat → Int32} (hL : L ≤ 5120) (C0 : lw_At p s m meth c b L xs) (hAe : A = fun q : Nat => s.heap.size ≤ q) (hK : KN D cL cB cI s) {i : Nat} (hi : 10 * i + 10 ≤ L) (hn1 : lw_next p l e s m below meth c D cL cB cI A b (i + 1)) (x0 k0 t0 p0 b0 r0 n0 s0 m0 mb cnt n : Nat) (po fi la : BitVec 64) (d o : Bool) (f : Nat → Int64) (dt : Nat → Nat) (rf : Nat → Int32) (nf sf : Nat → Int64) (hok : lw_ok cnt n po fi la d f dt) {ls : Array Slot} {H : Heap} {locs : List Loc} (hP : va_P D classes (lw_W cL cB cI x0 k0 t0 p0 b0 r0 n0 s0 m0 mb cnt n po fi la d o f dt rf nf sf) H) (hD : va_D A (lw_W cL cB cI x0 k0 t0 p0 b0 r0 n0 s0 m0 mb cnt n po fi la d o f dt rf nf sf)) (hS : va_S A s.heap H locs) (hl : lv_has ls 4 [(0, .ref b), (1, .ref x0), (2, .ref m0), (3, .int (nI (10 * i)))]) : W p l e room_1 s m #[Value.ref b] below meth c H locs (10 + 2 * i) (52263 + 2056 * i) (lw_Z below #[Value.ref b] s) (F0 m 643 ls []) := by
  obtain ⟨hx, hb, hr, hml, hown, hts, hX, hbl, hlocks, hgv⟩ := id C0
  have hT : ∀ w ∈ g_tbl, w.before #[Value.ref b] s = true := fun w hw => hts w (List.mem_filter.mp hw).1
  have F : CallFix p m c code 4 s #[Value.ref b] g_tbl R_law := ⟨hx, hb, hml, hown, hT⟩
  have hA : ∀ q : Nat, s.heap.size ≤ q → A q := fun q h => by rw [hAe]; exact h
  have hbA : ¬ A b := by rw [hAe]; exact Nat.not_le.mpr hbl
  obtain ⟨hn, hp, hfi, hla, hf, hd, hc5⟩ := hok
  have hcap : 10 + 2 * i ≤ room_1.cells ∧ 52263 + 2056 * i ≤ room_1.slots := ⟨show _ ≤ 600000 by omega, show _ ≤ 7302249 by omega⟩
  have hcap2 : 10 + 2 * i + 2 ≤ room_1.cells ∧ 52263 + 2056 * i + 2056 ≤ room_1.slots := ⟨show _ ≤ 600000 by omega, show _ ≤ 7302249 by omega⟩
  refine lv_aload_n hx hb d_law_643 rfl (lv_at hl 1 rfl) ?_
  refine kk_muI (wr := [(m0, .inr (3, mf n po fi la d o mb cnt)), (mb, .inl (cI, 5000, .inl (fun j => nI (dt j))))]) (run_muV (rest := []) F (c_X_holds l D cL cB cI x0 k0 t0 p0 b0 r0 cnt n po fi la d o f dt rf n0 s0 nf sf _ hn hp hfi hla hf hd hc5) k_X_holds ml_law_63 ⟨rfl, rfl, by decide, by decide⟩ hK (hP.sub [0, 1, 2, 3, 4, 5, 6, 7] rfl) (hD.sub [0, 1, 2, 3, 4, 5, 6, 7] (by decide) rfl) rfl rfl rfl rfl hl.1 rfl (Nat.le_of_ble_eq_true rfl) d_law_644 hcap) hS hP hD hA [0, 1, 2, 3, 4, 5, 6, 7] [8, 9] rfl rfl (by decide) (by decide) (fun r u H locs hw hP hD hS => ?_)
  obtain ⟨rf1, g, h⟩ := u
  subst hw
  have hP : va_P D classes [(m0, .inr (3, mf n po fi la d o mb cnt)), (mb, .inl (cI, 5000, .inl (fun j => nI (dt j)))), (x0, .inr (2, xf k0 p0 b0 r0 cnt)), (k0, .inr (0, kf n po fi la d o t0)), (t0, .inl (cL, 2048, .inr (.inl f))), (b0, .inl (cB, 5000, .inl (fun j => sb (dt j)))), (r0, .inl (cB, 40064, .inl rf1)), (p0, .inr (1, [.ref n0, .ref s0])), (n0, .inl (cL, 64, .inr (.inl g))), (s0, .inl (cL, 64, .inr (.inl h)))] H := hP
  have hD : va_D A [(m0, .inr (3, mf n po fi la d o mb cnt)), (mb, .inl (cI, 5000, .inl (fun j => nI (dt j)))), (x0, .inr (2, xf k0 p0 b0 r0 cnt)), (k0, .inr (0, kf n po fi la d o t0)), (t0, .inl (cL, 2048, .inr (.inl f))), (b0, .inl (cB, 5000, .inl (fun j => sb (dt j)))), (r0, .inl (cB, 40064, .inl rf1)), (p0, .inr (1, [.ref n0, .ref s0])), (n0, .inl (cL, 64, .inr (.inl g))), (s0, .inl (cL, 64, .inr (.inl h)))] := hD
  have hP := hP.sub (ws' := [(x0, .inr (2, xf k0 p0 b0 r0 cnt)), (k0, .inr (0, kf n po fi la d o t0)), (t0, .inl (cL, 2048, .inr (.inl f))), (b0, .inl (cB, 5000, .inl (fun j => sb (dt j)))), (r0, .inl (cB, 40064, .inl rf1)), (p0, .inr (1, [.ref n0, .ref s0])), (n0, .inl (cL, 64, .inr (.inl g))), (s0, .inl (cL, 64, .inr (.inl h))), (m0, .inr (3, mf n po fi la d o mb cnt)), (mb, .inl (cI, 5000, .inl (fun j => nI (dt j))))]) [2, 3, 4, 5, 6, 7, 8, 9, 0, 1] rfl
  have hD := hD.sub (ws' := [(x0, .inr (2, xf k0 p0 b0 r0 cnt)), (k0, .inr (0, kf n po fi la d o t0)), (t0, .inl (cL, 2048, .inr (.inl f))), (b0, .inl (cB, 5000, .inl (fun j => sb (dt j)))), (r0, .inl (cB, 40064, .inl rf1)), (p0, .inr (1, [.ref n0, .ref s0])), (n0, .inl (cL, 64, .inr (.inl g))), (s0, .inl (cL, 64, .inr (.inl h))), (m0, .inr (3, mf n po fi la d o mb cnt)), (mb, .inl (cI, 5000, .inl (fun j => nI (dt j))))]) [2, 3, 4, 5, 6, 7, 8, 9, 0, 1] (by decide) rfl
  refine lv_aload_n hx hb d_law_647 rfl (lv_at hl 2 rfl) ?_
  refine roVI (rest := [.int (bz true)]) F (c_M_holds l D cL cB cI m0 mb cnt n po fi la d o) k_M_holds ml_law_67 ⟨rfl, rfl, by decide, by decide⟩ hK hP hS (hP.sub [8] rfl) rfl rfl rfl rfl hl.1 rfl (Nat.le_of_ble_eq_true rfl) d_law_648 hcap (fun H locs hP hS => ?_)
  refine lv_icmp_eq (tgt := 703) hx hb d_law_651 (by decide) (fun _ => ?_) (fun h => absurd rfl h)
  refine lv_iinc (v := (nI (10 * i + 10))) (lv' := [(3, .int (nI (10 * i + 10))), (0, .ref b), (1, .ref x0), (2, .ref m0)]) hx hb d_law_703 hl (k := 3) rfl (nI_inc10 _) (by decide) rfl (fun ls hl => ?_)
  refine lv_goto (tgt := 18) hx hb d_law_706 (by decide) ?_
  refine W.widen (k := 10 + 2 * (i + 1)) (n := 52263 + 2056 * (i + 1)) (by omega) (by omega) ?_
  exact hn1 x0 k0 t0 p0 b0 r0 n0 s0 m0 mb cnt n po fi la d o f dt rf1 g h ⟨hn, hp, hfi, hla, hf, hd, hc5⟩ ls H locs hP hD hS (lv_sub hl [1, 2, 3, 0] rfl)
set_option maxHeartbeats 8000000 in
set_option maxRecDepth 100000 in
theorem law_c11 {p : Program} {l : Launch} {e : Env} {s : State} {m : MethodId} {below : List Frame} {meth : Method} {c : Code} {D : va_G} {cL cB cI : ClassId} {A : Nat → Prop} {b L : Nat} {xs : Nat → Int32} (hL : L ≤ 5120) (C0 : lw_At p s m meth c b L xs) (hAe : A = fun q : Nat => s.heap.size ≤ q) (hK : KN D cL cB cI s) {i : Nat} (hi : 10 * i + 10 ≤ L) (hn1 : lw_next p l e s m below meth c D cL cB cI A b (i + 1)) (x0 k0 t0 p0 b0 r0 n0 s0 m0 mb cnt n : Nat) (po fi la : BitVec 64) (d o : Bool) (f : Nat → Int64) (dt : Nat → Nat) (rf : Nat → Int32) (nf sf : Nat → Int64) (hok : lw_ok cnt n po fi la d f dt) {ls : Array Slot} {H : Heap} {locs : List Loc} (hP : va_P D classes (lw_W cL cB cI x0 k0 t0 p0 b0 r0 n0 s0 m0 mb cnt n po fi la d o f dt rf nf sf) H) (hD : va_D A (lw_W cL cB cI x0 k0 t0 p0 b0 r0 n0 s0 m0 mb cnt n po fi la d o f dt rf nf sf)) (hS : va_S A s.heap H locs) (hl : lv_has ls 4 [(0, .ref b), (1, .ref x0), (2, .ref m0), (3, .int (nI (10 * i)))]) : W p l e room_1 s m #[Value.ref b] below meth c H locs (10 + 2 * i) (52263 + 2056 * i) (lw_Z below #[Value.ref b] s) (F0 m 656 ls []) := by
  obtain ⟨hx, hb, hr, hml, hown, hts, hX, hbl, hlocks, hgv⟩ := id C0
  have hT : ∀ w ∈ g_tbl, w.before #[Value.ref b] s = true := fun w hw => hts w (List.mem_filter.mp hw).1
  have F : CallFix p m c code 4 s #[Value.ref b] g_tbl R_law := ⟨hx, hb, hml, hown, hT⟩
  have hA : ∀ q : Nat, s.heap.size ≤ q → A q := fun q h => by rw [hAe]; exact h
  have hbA : ¬ A b := by rw [hAe]; exact Nat.not_le.mpr hbl
  obtain ⟨hn, hp, hfi, hla, hf, hd, hc5⟩ := hok
  have hcap : 10 + 2 * i ≤ room_1.cells ∧ 52263 + 2056 * i ≤ room_1.slots := ⟨show _ ≤ 600000 by omega, show _ ≤ 7302249 by omega⟩
  have hcap2 : 10 + 2 * i + 2 ≤ room_1.cells ∧ 52263 + 2056 * i + 2056 ≤ room_1.slots := ⟨show _ ≤ 600000 by omega, show _ ≤ 7302249 by omega⟩
  refine lv_aload_n hx hb d_law_656 rfl (lv_at hl 1 rfl) ?_
  refine lv_aload_n hx hb d_law_657 rfl (lv_at hl 0 rfl) ?_
  refine lv_iload_n hx hb d_law_658 rfl (lv_at hl 3 rfl) ?_
  refine lv_iconst (v := nI 1) hx hb d_law_659 (by decide) ?_
  refine nt_iadd (x := (10 * i)) hx hb d_law_660 ?_
  refine nt_sld (j := 10 * i + 1) hx hb hX hbl hbA hS (by omega) hL d_law_661 ?_
  refine roVI (rest := []) F (c_X_count l D cL cB cI x0 k0 t0 p0 b0 r0 cnt n po fi la d o (xs (10 * i + 1))) k_X_count ml_law_68 ⟨rfl, rfl, by decide, by decide⟩ hK hP hS (hP.sub [0, 1] rfl) rfl rfl rfl rfl hl.1 rfl (Nat.le_of_ble_eq_true rfl) d_law_662 hcap (fun H locs hP hS => ?_)
  refine lv_aload_n hx hb d_law_665 rfl (lv_at hl 2 rfl) ?_
  refine lv_aload_n hx hb d_law_666 rfl (lv_at hl 0 rfl) ?_
  refine lv_iload_n hx hb d_law_667 rfl (lv_at hl 3 rfl) ?_
  refine lv_iconst (v := nI 1) hx hb d_law_668 (by decide) ?_
  refine nt_iadd (x := (10 * i)) hx hb d_law_669 ?_
  refine nt_sld (j := 10 * i + 1) hx hb hX hbl hbA hS (by omega) hL d_law_670 ?_
  refine roVI (rest := [.int (s_count cnt n d o (xs (10 * i + 1)))]) F (c_M_count l D cL cB cI m0 mb cnt n po fi la d o (xs (10 * i + 1))) k_M_count ml_law_72 ⟨rfl, rfl, by decide, by decide⟩ hK hP hS (hP.sub [8] rfl) rfl rfl rfl rfl hl.1 rfl (Nat.le_of_ble_eq_true rfl) d_law_671 hcap (fun H locs hP hS => ?_)
  refine lv_icmp_eq (tgt := 703) hx hb d_law_674 (by decide) (fun _ => ?_) (fun h => absurd rfl h)
  refine lv_iinc (v := (nI (10 * i + 10))) (lv' := [(3, .int (nI (10 * i + 10))), (0, .ref b), (1, .ref x0), (2, .ref m0)]) hx hb d_law_703 hl (k := 3) rfl (nI_inc10 _) (by decide) rfl (fun ls hl => ?_)
  refine lv_goto (tgt := 18) hx hb d_law_706 (by decide) ?_
  refine W.widen (k := 10 + 2 * (i + 1)) (n := 52263 + 2056 * (i + 1)) (by omega) (by omega) ?_
  exact hn1 x0 k0 t0 p0 b0 r0 n0 s0 m0 mb cnt n po fi la d o f dt rf nf sf ⟨hn, hp, hfi, hla, hf, hd, hc5⟩ ls H locs hP hD hS (lv_sub hl [1, 2, 3, 0] rfl)
set_option maxHeartbeats 8000000 in
set_option maxRecDepth 100000 in
theorem law_c12 {p : Program} {l : Launch} {e : Env} {s : State} {m : MethodId} {below : List Frame} {meth : Method} {c : Code} {D : va_G} {cL cB cI : ClassId} {A : Nat → Prop} {b L : Nat} {xs : Nat → Int32} (hL : L ≤ 5120) (C0 : lw_At p s m meth c b L xs) (hAe : A = fun q : Nat => s.heap.size ≤ q) (hK : KN D cL cB cI s) {i : Nat} (hi : 10 * i + 10 ≤ L) (hn1 : lw_next p l e s m below meth c D cL cB cI A b (i + 1)) (x0 k0 t0 p0 b0 r0 n0 s0 m0 mb cnt n : Nat) (po fi la : BitVec 64) (d o : Bool) (f : Nat → Int64) (dt : Nat → Nat) (rf : Nat → Int32) (nf sf : Nat → Int64) (hok : lw_ok cnt n po fi la d f dt) {ls : Array Slot} {H : Heap} {locs : List Loc} (hP : va_P D classes (lw_W cL cB cI x0 k0 t0 p0 b0 r0 n0 s0 m0 mb cnt n po fi la d o f dt rf nf sf) H) (hD : va_D A (lw_W cL cB cI x0 k0 t0 p0 b0 r0 n0 s0 m0 mb cnt n po fi la d o f dt rf nf sf)) (hS : va_S A s.heap H locs) (hl : lv_has ls 4 [(0, .ref b), (1, .ref x0), (2, .ref m0), (3, .int (nI (10 * i)))]) : W p l e room_1 s m #[Value.ref b] below meth c H locs (10 + 2 * i) (52263 + 2056 * i) (lw_Z below #[Value.ref b] s) (F0 m 679 ls []) := by
  obtain ⟨hx, hb, hr, hml, hown, hts, hX, hbl, hlocks, hgv⟩ := id C0
  have hT : ∀ w ∈ g_tbl, w.before #[Value.ref b] s = true := fun w hw => hts w (List.mem_filter.mp hw).1
  have F : CallFix p m c code 4 s #[Value.ref b] g_tbl R_law := ⟨hx, hb, hml, hown, hT⟩
  have hA : ∀ q : Nat, s.heap.size ≤ q → A q := fun q h => by rw [hAe]; exact h
  have hbA : ¬ A b := by rw [hAe]; exact Nat.not_le.mpr hbl
  obtain ⟨hn, hp, hfi, hla, hf, hd, hc5⟩ := hok
  have hcap : 10 + 2 * i ≤ room_1.cells ∧ 52263 + 2056 * i ≤ room_1.slots := ⟨show _ ≤ 600000 by omega, show _ ≤ 7302249 by omega⟩
  have hcap2 : 10 + 2 * i + 2 ≤ room_1.cells ∧ 52263 + 2056 * i + 2056 ≤ room_1.slots := ⟨show _ ≤ 600000 by omega, show _ ≤ 7302249 by omega⟩
  refine lv_aload_n hx hb d_law_679 rfl (lv_at hl 1 rfl) ?_
  refine lv_aload_n hx hb d_law_680 rfl (lv_at hl 0 rfl) ?_
  refine lv_iload_n hx hb d_law_681 rfl (lv_at hl 3 rfl) ?_
  refine lv_iconst (v := nI 1) hx hb d_law_682 (by decide) ?_
  refine nt_iadd (x := (10 * i)) hx hb d_law_683 ?_
  refine nt_sld (j := 10 * i + 1) hx hb hX hbl hbA hS (by omega) hL d_law_684 ?_
  refine roVL (rest := []) F (c_X_told l D cL cB cI x0 k0 t0 p0 b0 r0 cnt n po fi la d o (xs (10 * i + 1))) k_X_told ml_law_73 ⟨rfl, rfl, by decide, by decide⟩ hK hP hS (hP.sub [0, 1] rfl) rfl rfl rfl rfl hl.1 rfl (Nat.le_of_ble_eq_true rfl) d_law_685 hcap (fun H locs hP hS => ?_)
  refine lv_aload_n hx hb d_law_688 rfl (lv_at hl 2 rfl) ?_
  refine lv_aload_n hx hb d_law_689 rfl (lv_at hl 0 rfl) ?_
  refine lv_iload_n hx hb d_law_690 rfl (lv_at hl 3 rfl) ?_
  refine lv_iconst (v := nI 1) hx hb d_law_691 (by decide) ?_
  refine nt_iadd (x := (10 * i)) hx hb d_law_692 ?_
  refine nt_sld (j := 10 * i + 1) hx hb hX hbl hbA hS (by omega) hL d_law_693 ?_
  refine roVL (rest := [.long (lB (s_told po fi la (xs (10 * i + 1))))]) F (c_M_toldI l D cL cB cI m0 mb cnt n po fi la d o (xs (10 * i + 1))) k_M_toldI ml_law_76 ⟨rfl, rfl, by decide, by decide⟩ hK hP hS (hP.sub [8] rfl) rfl rfl rfl rfl hl.1 rfl (Nat.le_of_ble_eq_true rfl) d_law_694 hcap (fun H locs hP hS => ?_)
  refine bl_eq (a := (s_told po fi la (xs (10 * i + 1)))) (b := (s_told po fi la (xs (10 * i + 1)))) (tgt := 703) hx hb d_law_697 d_law_698 (by decide) (fun _ => ?_) (fun h => absurd rfl h)
  refine lv_iinc (v := (nI (10 * i + 10))) (lv' := [(3, .int (nI (10 * i + 10))), (0, .ref b), (1, .ref x0), (2, .ref m0)]) hx hb d_law_703 hl (k := 3) rfl (nI_inc10 _) (by decide) rfl (fun ls hl => ?_)
  refine lv_goto (tgt := 18) hx hb d_law_706 (by decide) ?_
  refine W.widen (k := 10 + 2 * (i + 1)) (n := 52263 + 2056 * (i + 1)) (by omega) (by omega) ?_
  exact hn1 x0 k0 t0 p0 b0 r0 n0 s0 m0 mb cnt n po fi la d o f dt rf nf sf ⟨hn, hp, hfi, hla, hf, hd, hc5⟩ ls H locs hP hD hS (lv_sub hl [1, 2, 3, 0] rfl)
set_option maxHeartbeats 8000000 in
set_option maxRecDepth 100000 in
theorem law_cd {p : Program} {l : Launch} {e : Env} {s : State} {m : MethodId} {below : List Frame} {meth : Method} {c : Code} {D : va_G} {cL cB cI : ClassId} {A : Nat → Prop} {b L : Nat} {xs : Nat → Int32} (hL : L ≤ 5120) (C0 : lw_At p s m meth c b L xs) (hAe : A = fun q : Nat => s.heap.size ≤ q) (hK : KN D cL cB cI s) {i : Nat} (hi : 10 * i + 10 ≤ L) (hn1 : lw_next p l e s m below meth c D cL cB cI A b (i + 1)) (x0 k0 t0 p0 b0 r0 n0 s0 m0 mb cnt n : Nat) (po fi la : BitVec 64) (d o : Bool) (f : Nat → Int64) (dt : Nat → Nat) (rf : Nat → Int32) (nf sf : Nat → Int64) (hok : lw_ok cnt n po fi la d f dt) {ls : Array Slot} {H : Heap} {locs : List Loc} (hP : va_P D classes (lw_W cL cB cI x0 k0 t0 p0 b0 r0 n0 s0 m0 mb cnt n po fi la d o f dt rf nf sf) H) (hD : va_D A (lw_W cL cB cI x0 k0 t0 p0 b0 r0 n0 s0 m0 mb cnt n po fi la d o f dt rf nf sf)) (hS : va_S A s.heap H locs) (hl : lv_has ls 4 [(0, .ref b), (1, .ref x0), (2, .ref m0), (3, .int (nI (10 * i)))]) : W p l e room_1 s m #[Value.ref b] below meth c H locs (10 + 2 * i) (52263 + 2056 * i) (lw_Z below #[Value.ref b] s) (F0 m 703 ls []) := by
  obtain ⟨hx, hb, hr, hml, hown, hts, hX, hbl, hlocks, hgv⟩ := id C0
  have hT : ∀ w ∈ g_tbl, w.before #[Value.ref b] s = true := fun w hw => hts w (List.mem_filter.mp hw).1
  have F : CallFix p m c code 4 s #[Value.ref b] g_tbl R_law := ⟨hx, hb, hml, hown, hT⟩
  have hA : ∀ q : Nat, s.heap.size ≤ q → A q := fun q h => by rw [hAe]; exact h
  have hbA : ¬ A b := by rw [hAe]; exact Nat.not_le.mpr hbl
  obtain ⟨hn, hp, hfi, hla, hf, hd, hc5⟩ := hok
  have hcap : 10 + 2 * i ≤ room_1.cells ∧ 52263 + 2056 * i ≤ room_1.slots := ⟨show _ ≤ 600000 by omega, show _ ≤ 7302249 by omega⟩
  have hcap2 : 10 + 2 * i + 2 ≤ room_1.cells ∧ 52263 + 2056 * i + 2056 ≤ room_1.slots := ⟨show _ ≤ 600000 by omega, show _ ≤ 7302249 by omega⟩
  refine lv_iinc (v := (nI (10 * i + 10))) (lv' := [(3, .int (nI (10 * i + 10))), (0, .ref b), (1, .ref x0), (2, .ref m0)]) hx hb d_law_703 hl (k := 3) rfl (nI_inc10 _) (by decide) rfl (fun ls hl => ?_)
  refine lv_goto (tgt := 18) hx hb d_law_706 (by decide) ?_
  refine W.widen (k := 10 + 2 * (i + 1)) (n := 52263 + 2056 * (i + 1)) (by omega) (by omega) ?_
  exact hn1 x0 k0 t0 p0 b0 r0 n0 s0 m0 mb cnt n po fi la d o f dt rf nf sf ⟨hn, hp, hfi, hla, hf, hd, hc5⟩ ls H locs hP hD hS (lv_sub hl [1, 2, 3, 0] rfl)
end
section
set_option maxHeartbeats 8000000 in
set_option maxRecDepth 100000 in
/-- the law's loop, from its head -/
theorem law_loop {p : Program} {l : Launch} {e : Env} {s : State} {m : MethodId} {below : List Frame} {meth : Method} {c : Code} {D : va_G} {cL cB cI : ClassId} {A : Nat → Prop} {b L : Nat} {xs : Nat → Int32} (hL : L ≤ 5120) (C0 : lw_At p s m meth c b L xs) (hAe : A = fun q : Nat => s.heap.size ≤ q) (hK : KN D cL cB cI s) : ∀ (j i : Nat), i + j = L / 10 → lw_next p l e s m below meth c D cL cB cI A b i := by
  obtain ⟨hx, hb, hr, hml, hown, hts, hX, hbl, hlocks, hgv⟩ := id C0
  have hT : ∀ w ∈ g_tbl, w.before #[Value.ref b] s = true := fun w hw => hts w (List.mem_filter.mp hw).1
  have hA : ∀ q : Nat, s.heap.size ≤ q → A q := fun q h => by rw [hAe]; exact h
  have hbA : ¬ A b := by rw [hAe]; exact Nat.not_le.mpr hbl
  intro j
  induction j with
  | zero =>
    intro i hij
    unfold lw_next
    intro x0 k0 t0 p0 b0 r0 n0 s0 m0 mb cnt n po fi la d o f dt rf nf sf hok ls H locs hP hD hS hl
    refine lv_iload_n hx hb d_law_18 rfl (lv_at hl 3 rfl) ?_
    refine lv_aload_n hx hb d_law_19 rfl (lv_at hl 0 rfl) ?_
    refine va_slen hx hb hX hbl hbA hS d_law_20 ?_
    refine tpi (z := nI L) rfl ?_
    refine lv_bipush (v := nI 10) hx hb d_law_21 (by decide) ?_
    refine lv_isub hx hb d_law_23 ?_
    refine lv_icmp_gt (tgt := 709) hx hb d_law_24 (by decide) (fun _ => ?_) (fun h => absurd ((sub10 hL (by omega)).mpr (by omega)) h)
    refine lv_iconst (v := 1) hx hb d_law_709 (by decide) ?_
    refine va_forget (fun q hq => by have h9 := hS.2.2 q hq; rw [hAe] at h9; exact h9) ?_
    refine W.widen (k := 600000) (n := 7302249) (by omega) (by omega) ?_
    exact lw_ret hx hb hr hlocks d_law_710
  | succ j ih =>
    intro i hij
    unfold lw_next
    intro x0 k0 t0 p0 b0 r0 n0 s0 m0 mb cnt n po fi la d o f dt rf nf sf hok ls H locs hP hD hS hl
    refine lv_iload_n hx hb d_law_18 rfl (lv_at hl 3 rfl) ?_
    refine lv_aload_n hx hb d_law_19 rfl (lv_at hl 0 rfl) ?_
    refine va_slen hx hb hX hbl hbA hS d_law_20 ?_
    refine tpi (z := nI L) rfl ?_
    refine lv_bipush (v := nI 10) hx hb d_law_21 (by decide) ?_
    refine lv_isub hx hb d_law_23 ?_
    have hi : 10 * i + 10 ≤ L := by omega
    have hn1 := ih (i + 1) (by omega)
    refine lv_icmp_gt (tgt := 709) hx hb d_law_24 (by decide) (fun h => absurd ((sub10 hL (by omega)).mp h) (by omega)) (fun _ => ?_)
    refine lv_aload_n hx hb d_law_27 rfl (lv_at hl 0 rfl) ?_
    refine lv_iload_n hx hb d_law_28 rfl (lv_at hl 3 rfl) ?_
    refine nt_sld (j := 10 * i) hx hb hX hbl hbA hS (by omega) hL d_law_29 ?_
    refine lv_bipush (v := nI 15) hx hb d_law_30 (by decide) ?_
    refine lv_iand hx hb d_law_32 ?_
    obtain ⟨op, hop, eop⟩ := pk_andE (xs (10 * i)) (m := nI 15) 4 (by decide)
    refine tpi (z := (nI op)) eop ?_
    rcases (show op = 0 ∨ op = 1 ∨ op = 2 ∨ op = 3 ∨ op = 4 ∨ op = 5 ∨ op = 6 ∨ op = 7 ∨ op = 8 ∨ op = 9 ∨ op = 10 ∨ op = 11 ∨ op = 12 ∨ op = 13 ∨ op = 14 ∨ op = 15 by omega) with rfl | rfl | rfl | rfl | rfl | rfl | rfl | rfl | rfl | rfl | rfl | rfl | rfl | rfl | rfl | rfl
    · refine lv_tableIn (x := nI 0) (off := 67) (tgt := 100) hx hb d_law_33 (by decide) (by decide) rfl (by decide) ?_
      exact law_c0 hL C0 hAe hK hi hn1 x0 k0 t0 p0 b0 r0 n0 s0 m0 mb cnt n po fi la d o f dt rf nf sf hok hP hD hS hl
    · refine lv_tableIn (x := nI 1) (off := 270) (tgt := 303) hx hb d_law_33 (by decide) (by decide) rfl (by decide) ?_
      exact law_c1 hL C0 hAe hK hi hn1 x0 k0 t0 p0 b0 r0 n0 s0 m0 mb cnt n po fi la d o f dt rf nf sf hok hP hD hS hl
    · refine lv_tableIn (x := nI 2) (off := 303) (tgt := 336) hx hb d_law_33 (by decide) (by decide) rfl (by decide) ?_
      exact law_c2 hL C0 hAe hK hi hn1 x0 k0 t0 p0 b0 r0 n0 s0 m0 mb cnt n po fi la d o f dt rf nf sf hok hP hD hS hl
    · refine lv_tableIn (x := nI 3) (off := 314) (tgt := 347) hx hb d_law_33 (by decide) (by decide) rfl (by decide) ?_
      exact law_c3 hL C0 hAe hK hi hn1 x0 k0 t0 p0 b0 r0 n0 s0 m0 mb cnt n po fi la d o f dt rf nf sf hok hP hD hS hl
    · refine lv_tableIn (x := nI 4) (off := 337) (tgt := 370) hx hb d_law_33 (by decide) (by decide) rfl (by decide) ?_
      exact law_c4 hL C0 hAe hK hi hn1 x0 k0 t0 p0 b0 r0 n0 s0 m0 mb cnt n po fi la d o f dt rf nf sf hok hP hD hS hl
    · refine lv_tableIn (x := nI 5) (off := 361) (tgt := 394) hx hb d_law_33 (by decide) (by decide) rfl (by decide) ?_
      exact law_c5 hL C0 hAe hK hi hn1 x0 k0 t0 p0 b0 r0 n0 s0 m0 mb cnt n po fi la d o f dt rf nf sf hok hP hD hS hl
    · refine lv_tableIn (x := nI 6) (off := 395) (tgt := 428) hx hb d_law_33 (by decide) (by decide) rfl (by decide) ?_
      exact law_c6 hL C0 hAe hK hi hn1 x0 k0 t0 p0 b0 r0 n0 s0 m0 mb cnt n po fi la d o f dt rf nf sf hok hP hD hS hl
    · refine lv_tableIn (x := nI 7) (off := 499) (tgt := 532) hx hb d_law_33 (by decide) (by decide) rfl (by decide) ?_
      exact law_c7 hL C0 hAe hK hi hn1 x0 k0 t0 p0 b0 r0 n0 s0 m0 mb cnt n po fi la d o f dt rf nf sf hok hP hD hS hl
    · refine lv_tableIn (x := nI 8) (off := 533) (tgt := 566) hx hb d_law_33 (by decide) (by decide) rfl (by decide) ?_
      exact law_c8 hL C0 hAe hK hi hn1 x0 k0 t0 p0 b0 r0 n0 s0 m0 mb cnt n po fi la d o f dt rf nf sf hok hP hD hS hl
    · refine lv_tableIn (x := nI 9) (off := 597) (tgt := 630) hx hb d_law_33 (by decide) (by decide) rfl (by decide) ?_
      exact law_c9 hL C0 hAe hK hi hn1 x0 k0 t0 p0 b0 r0 n0 s0 m0 mb cnt n po fi la d o f dt rf nf sf hok hP hD hS hl
    · refine lv_tableIn (x := nI 10) (off := 610) (tgt := 643) hx hb d_law_33 (by decide) (by decide) rfl (by decide) ?_
      exact law_c10 hL C0 hAe hK hi hn1 x0 k0 t0 p0 b0 r0 n0 s0 m0 mb cnt n po fi la d o f dt rf nf sf hok hP hD hS hl
    · refine lv_tableIn (x := nI 11) (off := 623) (tgt := 656) hx hb d_law_33 (by decide) (by decide) rfl (by decide) ?_
      exact law_c11 hL C0 hAe hK hi hn1 x0 k0 t0 p0 b0 r0 n0 s0 m0 mb cnt n po fi la d o f dt rf nf sf hok hP hD hS hl
    · refine lv_tableIn (x := nI 12) (off := 646) (tgt := 679) hx hb d_law_33 (by decide) (by decide) rfl (by decide) ?_
      exact law_c12 hL C0 hAe hK hi hn1 x0 k0 t0 p0 b0 r0 n0 s0 m0 mb cnt n po fi la d o f dt rf nf sf hok hP hD hS hl
    · refine lv_tableOut (x := nI 13) (tgt := 703) hx hb d_law_33 (by decide) (by decide) ?_
      exact law_cd hL C0 hAe hK hi hn1 x0 k0 t0 p0 b0 r0 n0 s0 m0 mb cnt n po fi la d o f dt rf nf sf hok hP hD hS hl
    · refine lv_tableOut (x := nI 14) (tgt := 703) hx hb d_law_33 (by decide) (by decide) ?_
      exact law_cd hL C0 hAe hK hi hn1 x0 k0 t0 p0 b0 r0 n0 s0 m0 mb cnt n po fi la d o f dt rf nf sf hok hP hD hS hl
    · refine lv_tableOut (x := nI 15) (tgt := 703) hx hb d_law_33 (by decide) (by decide) ?_
      exact law_cd hL C0 hAe hK hi hn1 x0 k0 t0 p0 b0 r0 n0 s0 m0 mb cnt n po fi la d o f dt rf nf sf hok hP hD hS hl
set_option maxHeartbeats 8000000 in
set_option maxRecDepth 100000 in
/-- THE LAW, from its entry -/
theorem whole_start {p : Program} {e : Env} {s : State} {m : MethodId} {below : List Frame} {meth : Method} {c : Code} (l : Launch) {b L : Nat} {xs : Nat → Int32} (hL : L ≤ 5120) (C0 : lw_At p s m meth c b L xs) : W p l e room_1 s m #[Value.ref b] below meth c s.heap [] 0 0 (lw_Z below #[Value.ref b] s) (entryFrame m ([Value.ref b] : List Value).toArray 4) := by
  obtain ⟨hx, hb, hr, hml, hown, hts, hX, hbl, hlocks, hgv⟩ := id C0
  have hT : ∀ w ∈ g_tbl, w.before #[Value.ref b] s = true := fun w hw => hts w (List.mem_filter.mp hw).1
  have F : CallFix p m c code 4 s #[Value.ref b] g_tbl R_law := ⟨hx, hb, hml, hown, hT⟩
  obtain ⟨A, hAe⟩ : ∃ A : Nat → Prop, A = fun q : Nat => s.heap.size ≤ q := ⟨_, rfl⟩
  have hA : ∀ q : Nat, s.heap.size ≤ q → A q := fun q h => by rw [hAe]; exact h
  obtain ⟨c0, iS0, hKn0⟩ := u_known (C := R_K) (T := F_K) (N := 8) (n := 8) hT i_K (hT _ st_K)
  obtain ⟨c1, iS1, hKn1⟩ := u_known (C := R_P) (T := F_P) (N := 2) (n := 2) hT i_P (hT _ st_P)
  obtain ⟨c2, iS2, hKn2⟩ := u_known (C := R_X) (T := F_X) (N := 5) (n := 5) hT i_X (hT _ st_X)
  obtain ⟨c3, iS3, hKn3⟩ := u_known (C := R_M) (T := F_M) (N := 8) (n := 8) hT i_M (hT _ st_M)
  obtain ⟨D, hKc⟩ : ∃ D : va_G, ∀ (k : Nat) (q : vw_C), classes[k]? = some q → u_Kn s q.1 q.2.1 q.2.2 (D.1 k) (D.2 k) := by
    refine ⟨(fun k => if k = 0 then c0 else if k = 1 then c1 else if k = 2 then c2 else c3, fun k => if k = 0 then iS0 else if k = 1 then iS1 else if k = 2 then iS2 else iS3), ?_⟩
    intro k q hq
    match k, hq with
    | 0, hq => cases hq; exact hKn0
    | 1, hq => cases hq; exact hKn1
    | 2, hq => cases hq; exact hKn2
    | 3, hq => cases hq; exact hKn3
    | k + 4, hq => simp [classes] at hq
  obtain ⟨cL, kL, pL, fL1, fL2, fL3⟩ := Cond.arrayClass_spec (hT _ ac_long)
  obtain ⟨cB, kB, pB, fB1, fB2, fB3⟩ := Cond.arrayClass_spec (hT _ ac_byte)
  obtain ⟨cI, kI, pI, fI1, fI2, fI3⟩ := Cond.arrayClass_spec (hT _ ac_int)
  have hK : KN D cL cB cI s := by
    refine ⟨⟨hKc, fun k q hq => ?_⟩, fun w hw => va_Nw.of (nest_on (List.mem_filter.mp hw).2) (hts w (List.mem_filter.mp hw).1)⟩
    match k, hq with
    | 0, hq => cases hq; exact ⟨fun n z => ⟨fun k h => (by cases h), kL, fL2, pL, fL3⟩, fL1⟩
    | 1, hq => cases hq; exact ⟨fun n z => ⟨fun k h => (by cases h), kB, fB2, pB, fB3⟩, fB1⟩
    | 2, hq => cases hq; exact ⟨fun n z => ⟨fun k h => (by cases h), kI, fI2, pI, fI3⟩, fI1⟩
    | k + 3, hq => simp [TY] at hq
  have hS : va_S A s.heap s.heap [] := va_S.rf
  have hP : va_P D classes [] s.heap := fun k q h => by simp at h
  have hD : va_D A [] := ⟨fun i j p q h => by simp at h, fun k q h => by simp at h⟩
  have hl := lv_entry ([.ref b]) (n := 4) (Nat.le_of_ble_eq_true rfl)
  rw [lg_entry_eq]
  generalize (lg_sl ([.ref b]) ++ List.replicate (4 - (lg_sl ([.ref b])).length) Slot.unset).toArray = ls at hl ⊢
  have hl : lv_has ls 4 [(0, .ref b)] := hl
  refine va_new (D := D) (cl := classes) (ci := 2) (fs := [.null, .null, .null, .null, .int 0]) (C := R_X) (T := F_X) (N := 5) hx hb hT i_X t_X t_X_ok hown (hT _ cl_law_7) (hT _ st_X) (hT _ in_X) hK.1 hP hD hS hA rfl (fun j hj => by rcases (show j = 0 ∨ j = 1 ∨ j = 2 ∨ j = 3 ∨ j = 4 by omega) with rfl | rfl | rfl | rfl | rfl <;> rfl) (Nat.le_of_ble_eq_true rfl) (Nat.le_of_ble_eq_true rfl) d_law_0 (fun x0 H hP hD hS => ?_)
  have hP : va_P D classes [(x0, .inr (2, [.null, .null, .null, .null, .int 0]))] H := hP
  have hD : va_D A [(x0, .inr (2, [.null, .null, .null, .null, .int 0]))] := hD
  refine lv_dup hx hb d_law_3 rfl ?_
  refine kk_muV (wr := []) (run_muI (rest := [.ref x0]) F (c_X_init l D cL cB cI x0 _) k_X_init ml_law_9 ⟨rfl, rfl, by decide, by decide⟩ hK (hP.sub [0] rfl) (hD.sub [0] (by decide) rfl) rfl hl.1 rfl (Nat.le_of_ble_eq_true rfl) d_law_4 ⟨Nat.le_of_ble_eq_true rfl, Nat.le_of_ble_eq_true rfl⟩) hS hP hD hA [0] [] rfl rfl (by decide) (by decide) (fun u H locs hw hP hD hS => ?_)
  obtain ⟨⟨k0, t0, f⟩, p0, n0, s0, b0, r0⟩ := u
  have hw : ∀ b, b < 2048 → f b = lB (q_tab true (q_sd true 32 79764919#64) b) := hw
  have hP : va_P D classes [(x0, .inr (2, xf k0 p0 b0 r0 0)), (k0, .inr (0, kf 32 79764919#64 4294967295#64 4294967295#64 true true t0)), (t0, .inl (cL, 2048, .inr (.inl f))), (b0, .inl (cB, 5000, .inl (fun _ => sb 0))), (r0, .inl (cB, 40064, .inl (fun _ => sb 0))), (p0, .inr (1, [.ref n0, .ref s0])), (n0, .inl (cL, 64, .inr (.inl (fun _ => 0)))), (s0, .inl (cL, 64, .inr (.inl (fun _ => 0))))] H := hP
  have hD : va_D A [(x0, .inr (2, xf k0 p0 b0 r0 0)), (k0, .inr (0, kf 32 79764919#64 4294967295#64 4294967295#64 true true t0)), (t0, .inl (cL, 2048, .inr (.inl f))), (b0, .inl (cB, 5000, .inl (fun _ => sb 0))), (r0, .inl (cB, 40064, .inl (fun _ => sb 0))), (p0, .inr (1, [.ref n0, .ref s0])), (n0, .inl (cL, 64, .inr (.inl (fun _ => 0)))), (s0, .inl (cL, 64, .inr (.inl (fun _ => 0))))] := hD
  refine lv_astore_n (lv' := [(1, .ref x0), (0, .ref b)]) hx hb d_law_7 rfl hl (by decide) rfl (fun ls hl => ?_)
  refine va_new (D := D) (cl := classes) (ci := 3) (fs := [.int 0, .long 0, .long 0, .long 0, .int 0, .int 0, .null, .int 0]) (C := R_M) (T := F_M) (N := 8) hx hb hT i_M t_M t_M_ok hown (hT _ cl_law_10) (hT _ st_M) (hT _ in_M) hK.1 hP hD hS hA rfl (fun j hj => by rcases (show j = 0 ∨ j = 1 ∨ j = 2 ∨ j = 3 ∨ j = 4 ∨ j = 5 ∨ j = 6 ∨ j = 7 by omega) with rfl | rfl | rfl | rfl | rfl | rfl | rfl | rfl <;> rfl) (Nat.le_of_ble_eq_true rfl) (Nat.le_of_ble_eq_true rfl) d_law_8 (fun m0 H hP hD hS => ?_)
  have hP : va_P D classes [(x0, .inr (2, xf k0 p0 b0 r0 0)), (k0, .inr (0, kf 32 79764919#64 4294967295#64 4294967295#64 true true t0)), (t0, .inl (cL, 2048, .inr (.inl f))), (b0, .inl (cB, 5000, .inl (fun _ => sb 0))), (r0, .inl (cB, 40064, .inl (fun _ => sb 0))), (p0, .inr (1, [.ref n0, .ref s0])), (n0, .inl (cL, 64, .inr (.inl (fun _ => 0)))), (s0, .inl (cL, 64, .inr (.inl (fun _ => 0)))), (m0, .inr (3, [.int 0, .long 0, .long 0, .long 0, .int 0, .int 0, .null, .int 0]))] H := hP
  have hD : va_D A [(x0, .inr (2, xf k0 p0 b0 r0 0)), (k0, .inr (0, kf 32 79764919#64 4294967295#64 4294967295#64 true true t0)), (t0, .inl (cL, 2048, .inr (.inl f))), (b0, .inl (cB, 5000, .inl (fun _ => sb 0))), (r0, .inl (cB, 40064, .inl (fun _ => sb 0))), (p0, .inr (1, [.ref n0, .ref s0])), (n0, .inl (cL, 64, .inr (.inl (fun _ => 0)))), (s0, .inl (cL, 64, .inr (.inl (fun _ => 0)))), (m0, .inr (3, [.int 0, .long 0, .long 0, .long 0, .int 0, .int 0, .null, .int 0]))] := hD
  refine lv_dup hx hb d_law_11 rfl ?_
  refine kk_muV (wr := [(x0, .inr (2, xf k0 p0 b0 r0 0)), (k0, .inr (0, kf 32 79764919#64 4294967295#64 4294967295#64 true true t0)), (t0, .inl (cL, 2048, .inr (.inl f))), (b0, .inl (cB, 5000, .inl (fun _ => sb 0))), (r0, .inl (cB, 40064, .inl (fun _ => sb 0))), (p0, .inr (1, [.ref n0, .ref s0])), (n0, .inl (cL, 64, .inr (.inl (fun _ => 0)))), (s0, .inl (cL, 64, .inr (.inl (fun _ => 0))))]) (run_muI (rest := [.ref m0]) F (c_M_init l D cL cB cI m0 _) k_M_init ml_law_12 ⟨rfl, rfl, by decide, by decide⟩ hK (hP.sub [8] rfl) (hD.sub [8] (by decide) rfl) rfl hl.1 rfl (Nat.le_of_ble_eq_true rfl) d_law_12 ⟨Nat.le_of_ble_eq_true rfl, Nat.le_of_ble_eq_true rfl⟩) hS hP hD hA [8] [0, 1, 2, 3, 4, 5, 6, 7] rfl rfl (by decide) (by decide) (fun mb H locs _ hP hD hS => ?_)
  have hP : va_P D classes [(x0, .inr (2, xf k0 p0 b0 r0 0)), (k0, .inr (0, kf 32 79764919#64 4294967295#64 4294967295#64 true true t0)), (t0, .inl (cL, 2048, .inr (.inl f))), (b0, .inl (cB, 5000, .inl (fun _ => sb 0))), (r0, .inl (cB, 40064, .inl (fun _ => sb 0))), (p0, .inr (1, [.ref n0, .ref s0])), (n0, .inl (cL, 64, .inr (.inl (fun _ => 0)))), (s0, .inl (cL, 64, .inr (.inl (fun _ => 0)))), (m0, .inr (3, mf 32 79764919#64 4294967295#64 4294967295#64 true true mb 0)), (mb, .inl (cI, 5000, .inl (fun _ => nI 0)))] H := hP
  have hD : va_D A [(x0, .inr (2, xf k0 p0 b0 r0 0)), (k0, .inr (0, kf 32 79764919#64 4294967295#64 4294967295#64 true true t0)), (t0, .inl (cL, 2048, .inr (.inl f))), (b0, .inl (cB, 5000, .inl (fun _ => sb 0))), (r0, .inl (cB, 40064, .inl (fun _ => sb 0))), (p0, .inr (1, [.ref n0, .ref s0])), (n0, .inl (cL, 64, .inr (.inl (fun _ => 0)))), (s0, .inl (cL, 64, .inr (.inl (fun _ => 0)))), (m0, .inr (3, mf 32 79764919#64 4294967295#64 4294967295#64 true true mb 0)), (mb, .inl (cI, 5000, .inl (fun _ => nI 0)))] := hD
  refine lv_astore_n (lv' := [(2, .ref m0), (1, .ref x0), (0, .ref b)]) hx hb d_law_15 rfl hl (by decide) rfl (fun ls hl => ?_)
  refine lv_iconst (v := nI 0) hx hb d_law_16 (by decide) ?_
  refine lv_istore_n (lv' := [(3, .int (nI 0)), (2, .ref m0), (1, .ref x0), (0, .ref b)]) hx hb d_law_17 rfl hl (by decide) rfl (fun ls hl => ?_)
  exact law_loop hL C0 hAe hK (L / 10) 0 (by omega) x0 k0 t0 p0 b0 r0 n0 s0 m0 mb 0 32 79764919#64 4294967295#64 4294967295#64 true true f (fun _ => 0) (fun _ => sb 0) (fun _ => 0) (fun _ => 0) ⟨by decide, by unfold q_M; decide, by unfold q_M; decide, by unfold q_M; decide, hw, fun _ => (by decide : 0 < 256), Nat.zero_le _⟩ ls H locs hP hD hS (lv_sub hl [3, 2, 1, 0] rfl)
set_option maxHeartbeats 4000000 in
theorem lw_walk (l : Launch) (b : Addr) (xs : List Int32) : MetFree l x (headSpec (Jvm.Cond.code x code maxLocals ret :: tables_1) room_1) (lw_P b xs) (fun _ _ _ _ _ => True) lw_Q := by
  refine MetFree.of_bodyS (code := code) (maxLocals := maxLocals) (ret := ret) (by decide) ?_ ?_
  · intro args s m h hn
    obtain ⟨meth, c, h1, h2, h3, h4, h5, h6, -, -⟩ := Cond.code_spec hn (atoms_spec (ws := Jvm.Cond.code x code maxLocals ret :: tables_1) h _ List.mem_cons_self)
    exact ⟨meth, c, h1, h2, h3, h4, h5, h6⟩
  · intro p e s m args below meth c s₁ B hml0 hP _
    obtain ⟨rfl, hx, hbd, hgv⟩ := hP
    obtain ⟨scr, harrAt, hlist, hof, hsmall⟩ := hx
    obtain ⟨hcb, hkn, -, -⟩ := State.arrayAt?_spec harrAt
    have hown : s.vm.findClass R_law = some m.cls := findClass_of_methodNamed B.named
    have hts0 : ∀ c ∈ (Jvm.Cond.code x code maxLocals ret :: tables_1), c.before #[Value.ref b] s = true := atoms_spec (ws := Jvm.Cond.code x code maxLocals ret :: tables_1) B.pre
    have hts : ∀ w ∈ lw_tbl, w.before #[Value.ref b] s = true := k2_hts_sels lw_privs (fun w hw => hts0 w (List.mem_cons_of_mem _ hw)) lw_privs_ok
    have hml : c.maxLocals = 4 := B.maxLocals_eq (hts0 _ List.mem_cons_self)
    have X₀ : Stand p l e room_1 s m #[Value.ref b] below meth c s₁ [] 0 0 := Stand.of_body B
    have hh0 : s₁.heap = s.heap := by rw [B.state]; rfl
    have hsz : scr.slots.size = xs.length := by rw [← Array.length_toList, hlist, List.length_map]
    have hval : ∀ j : Nat, j < xs.length → scr.slots[j]? = some (.int (xs.getD j 0)) := fun j hj => by
      rw [← Array.getElem?_toList, hlist]
      simp [hj]
    have hbl : b < s.heap.size := (Array.getElem?_eq_some_iff.mp hcb).1
    have hX : va_X b xs.length (fun j => xs.getD j 0) s s.heap := ⟨scr, hcb, hof, hkn, hsz, hval⟩
    have K : W p l e room_1 s m #[Value.ref b] below meth c s₁.heap [] 0 0 (lw_Z below #[Value.ref b] s) (entryFrame m ([Value.ref b] : List Value).toArray 4) := by
      rw [hh0]
      exact whole_start l hbd ⟨B.exec, B.bytes, B.returns, hml, hown, hts, hX, hbl, B.notSynchronized, hgv⟩
    obtain ⟨t, a1, o, b1, b2, b3⟩ := K s₁ rfl X₀
    exact ⟨t, o, a1, b1, b2, b3⟩
theorem lw_pre_spec {args : Array Value} {s : State} (h : (Jvm.Cond.and given_1 narrow_1).before args s = true) (hr : rest_1_c.before args s = true) : ∃ (b : Addr) (xs : List Int32), lw_P b xs args s := by
  have hs := flat_of_before _ h
  have hq := flat_of_before _ hr
  have hc : (Cond.count 1).before args s = true := hs _ (by decide +kernel)
  have harr : (Cond.arrayOf (.arg 0) .int).before args s = true := hs _ (by decide +kernel)
  have hle : (Cond.le (.length (.arg 0)) (.int 5120)).before args s = true := hs _ (by decide +kernel)
  have hlen : (Cond.isInt (.length (.arg 0))).before args s = true := hq _ (by decide +kernel)
  have hall : (Cond.all (.arg 0) (.isInt (.elem (.arg 0) (.index 0)))).before args s = true := hq _ (by decide +kernel)
  obtain ⟨b, xs, hb, hx⟩ := State.ints_of_pre rfl harr hlen hall
  have hsm : xs.length < 2 ^ 31 := hx.choose_spec.2.2.2
  have hev : (Term.length (.arg 0)).eval args s none [] s = some (.int xs.length.toInt32) := hx.length_eval hb
  have hv := Cond.le_ints hev (show (Term.int 5120).eval args s none [] s = some (.int 5120) from rfl)
  have hd : xs.length.toInt32 ≤ 5120 := by
    simpa [Cond.before, Cond.holds, hv] using hle
  have hN : xs.length ≤ 5120 := (Int32.ofNat_le_ofNat hsm (by decide)).mp (show Int32.ofNat xs.length ≤ Int32.ofNat 5120 from hd)
  exact ⟨b, xs, Cond.one_arg hc (show args[0]? = some (.ref b) from hb), hx, hN, h⟩
theorem lw_comes (l : Launch) : Comes l x (Jvm.Cond.code x code maxLocals ret :: tables_1) room_1 (fun tb e args s => Calls_1 tb e args s ∧ rest_1 tb e args s ∧ Pre_1 tb e args s)
    (fun _ _ args s o t => lw_Q args s o t) := by
  intro p e ha hc hk s m args below hf hfit hheap happ hpre
  obtain ⟨b, xs, hP⟩ := lw_pre_spec hpre.2.2 hpre.2.1
  obtain ⟨k, o, h1, h2, h3, hQ⟩ := lw_walk l b xs p e ha hc hk s m args below hf ((Spec.applies_iff_loose hf).mp happ).1 hP trivial
  exact ⟨k, o, h1, h2, h3, hQ⟩
theorem lw_frame {s t : State} {o : Outcome} {args : Array Value} (h : Framed s o t [] 600000 7302249) :
    Framed s o t (fieldLocs frame_1_writes args s ++ arrayLocs frame_1_arrays args s ++ staticLocs frame_1_statics s) 600000 7302249 := h
theorem lw_limb (L : Cond) (hL : ∀ (args : Array Value) (s t : State), L.after args s (.returned (some (.int 1))) t = true) :
    ArmFor flags0 classFile x code maxLocals ret World_1 tables_1 room_1 Calls_1 rest_1 Pre_1
      (fun tb e a s o t => postC L tb e a s o t ∧ Framed s o t (fieldLocs frame_1_writes a s ++ arrayLocs frame_1_arrays a s ++ staticLocs frame_1_statics s) 600000 7302249) := by
  intro l _ _ _ p e ha hc hk s m args below hf hfit hheap happ hpre
  obtain ⟨k, o, h1, h2, h3, rfl, hF⟩ := lw_comes l p e ha hc hk s m args below hf hfit hheap happ hpre
  exact ⟨k, _, h1, h2, h3, hL args s _, lw_frame hF⟩
theorem i_vc : Claimed_1_1 ∧ Claimed_1_2 := ⟨lw_limb limb_1_1 (fun args s t => by simp [limb_1_1, Cond.after, Cond.holds, Cond.value]), lw_limb limb_1_2 (fun args s t => Cond.after_iff.mpr (by
  first | (rw [show limb_1_2 = Cond.eq .result (.int 1) from rfl, Cond.eq_ints (x := 1) (y := 1) rfl rfl]; simp; done) | (simp [limb_1_2, Cond.value, Term.eval]; done)))⟩
end
