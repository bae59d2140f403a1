section
-- ===== PART A: goes FIRST, ahead of the names: the tables' words, and 'selects' of the private methods out of them =====
/-- a private method of a class that the tables say can be made, by its rows of tables_1 -/
def lw_okq (q : MethodName × Nat) : Prop := (q.1.cls ≠ "java/lang/invoke/MethodHandle" ∧ q.1.cls ≠ "java/lang/invoke/VarHandle") ∧ Cond.instantiable q.1.cls q.2 ∈ tables_1 ∧ Cond.privateMethod q.1 ∈ tables_1 ∧ Cond.instanceMethod q.1 ∈ tables_1
theorem lw_p0 : lw_okq (⟨"LevelTree", "level", "(II)V"⟩, 15) := ⟨⟨by decide +kernel, by decide +kernel⟩, List.mem_of_getElem? (i := 10) (by decide +kernel), List.mem_of_getElem? (i := 69) (by decide +kernel), List.mem_of_getElem? (i := 70) (by decide +kernel)⟩
theorem lw_p1 : lw_okq (⟨"java/lang/Throwable", "fillInStackTrace", "(I)Ljava/lang/Throwable;"⟩, 6) := ⟨⟨by decide +kernel, by decide +kernel⟩, List.mem_of_getElem? (i := 130) (by decide +kernel), List.mem_of_getElem? (i := 128) (by decide +kernel), List.mem_of_getElem? (i := 129) (by decide +kernel)⟩
theorem lw_p2 : lw_okq (⟨"LevelTree", "is", "(II)Z"⟩, 15) := ⟨⟨by decide +kernel, by decide +kernel⟩, List.mem_of_getElem? (i := 10) (by decide +kernel), List.mem_of_getElem? (i := 201) (by decide +kernel), List.mem_of_getElem? (i := 202) (by decide +kernel)⟩
theorem lw_p3 : lw_okq (⟨"LevelTree", "ones", "(II)I"⟩, 15) := ⟨⟨by decide +kernel, by decide +kernel⟩, List.mem_of_getElem? (i := 10) (by decide +kernel), List.mem_of_getElem? (i := 205) (by decide +kernel), List.mem_of_getElem? (i := 206) (by decide +kernel)⟩
theorem lw_p4 : lw_okq (⟨"LevelTree", "part", "(II)V"⟩, 15) := ⟨⟨by decide +kernel, by decide +kernel⟩, List.mem_of_getElem? (i := 10) (by decide +kernel), List.mem_of_getElem? (i := 219) (by decide +kernel), List.mem_of_getElem? (i := 220) (by decide +kernel)⟩
theorem lw_p5 : lw_okq (⟨"LevelTree", "down", "(IZ)V"⟩, 15) := ⟨⟨by decide +kernel, by decide +kernel⟩, List.mem_of_getElem? (i := 10) (by decide +kernel), List.mem_of_getElem? (i := 223) (by decide +kernel), List.mem_of_getElem? (i := 224) (by decide +kernel)⟩
theorem lw_p6 : lw_okq (⟨"LevelTree", "select", "(IZI)I"⟩, 15) := ⟨⟨by decide +kernel, by decide +kernel⟩, List.mem_of_getElem? (i := 10) (by decide +kernel), List.mem_of_getElem? (i := 235) (by decide +kernel), List.mem_of_getElem? (i := 236) (by decide +kernel)⟩
theorem lw_p7 : lw_okq (⟨"LevelTree", "quantile", "(III)I"⟩, 15) := ⟨⟨by decide +kernel, by decide +kernel⟩, List.mem_of_getElem? (i := 10) (by decide +kernel), List.mem_of_getElem? (i := 246) (by decide +kernel), List.mem_of_getElem? (i := 247) (by decide +kernel)⟩
theorem lw_p8 : lw_okq (⟨"LevelTree", "list", "(IIII)V"⟩, 15) := ⟨⟨by decide +kernel, by decide +kernel⟩, List.mem_of_getElem? (i := 10) (by decide +kernel), List.mem_of_getElem? (i := 264) (by decide +kernel), List.mem_of_getElem? (i := 265) (by decide +kernel)⟩
theorem lw_p9 : lw_okq (⟨"LevelTree", "frequent", "(IIII)V"⟩, 15) := ⟨⟨by decide +kernel, by decide +kernel⟩, List.mem_of_getElem? (i := 10) (by decide +kernel), List.mem_of_getElem? (i := 290) (by decide +kernel), List.mem_of_getElem? (i := 291) (by decide +kernel)⟩
theorem lw_p10 : lw_okq (⟨"LevelTreeModel", "refuse", "(IZ)Z"⟩, 9) := ⟨⟨by decide +kernel, by decide +kernel⟩, List.mem_of_getElem? (i := 294) (by decide +kernel), List.mem_of_getElem? (i := 336) (by decide +kernel), List.mem_of_getElem? (i := 337) (by decide +kernel)⟩
theorem lw_p11 : lw_okq (⟨"LevelTreeModel", "noPart", "(IIZ)Z"⟩, 9) := ⟨⟨by decide +kernel, by decide +kernel⟩, List.mem_of_getElem? (i := 294) (by decide +kernel), List.mem_of_getElem? (i := 356) (by decide +kernel), List.mem_of_getElem? (i := 357) (by decide +kernel)⟩
theorem lw_p12 : lw_okq (⟨"LevelTreeModel", "counted", "(II)V"⟩, 9) := ⟨⟨by decide +kernel, by decide +kernel⟩, List.mem_of_getElem? (i := 294) (by decide +kernel), List.mem_of_getElem? (i := 368) (by decide +kernel), List.mem_of_getElem? (i := 369) (by decide +kernel)⟩
def lw_privs_1 : List (MethodName × Nat) := [(⟨"LevelTree", "level", "(II)V"⟩, 15), (⟨"java/lang/Throwable", "fillInStackTrace", "(I)Ljava/lang/Throwable;"⟩, 6), (⟨"LevelTree", "is", "(II)Z"⟩, 15), (⟨"LevelTree", "ones", "(II)I"⟩, 15), (⟨"LevelTree", "part", "(II)V"⟩, 15), (⟨"LevelTree", "down", "(IZ)V"⟩, 15), (⟨"LevelTree", "select", "(IZI)I"⟩, 15), (⟨"LevelTree", "quantile", "(III)I"⟩, 15), (⟨"LevelTree", "list", "(IIII)V"⟩, 15), (⟨"LevelTree", "frequent", "(IIII)V"⟩, 15), (⟨"LevelTreeModel", "refuse", "(IZ)Z"⟩, 9), (⟨"LevelTreeModel", "noPart", "(IIZ)Z"⟩, 9), (⟨"LevelTreeModel", "counted", "(II)V"⟩, 9)]
theorem lw_r1 : ∀ q ∈ lw_privs_1, lw_okq q := List.forall_mem_cons.mpr ⟨lw_p0, List.forall_mem_cons.mpr ⟨lw_p1, List.forall_mem_cons.mpr ⟨lw_p2, List.forall_mem_cons.mpr ⟨lw_p3, List.forall_mem_cons.mpr ⟨lw_p4, List.forall_mem_cons.mpr ⟨lw_p5, List.forall_mem_cons.mpr ⟨lw_p6, List.forall_mem_cons.mpr ⟨lw_p7, List.forall_mem_cons.mpr ⟨lw_p8, List.forall_mem_cons.mpr ⟨lw_p9, List.forall_mem_cons.mpr ⟨lw_p10, List.forall_mem_cons.mpr ⟨lw_p11, List.forall_mem_cons.mpr ⟨lw_p12, fun _ h => absurd h List.not_mem_nil⟩⟩⟩⟩⟩⟩⟩⟩⟩⟩⟩⟩⟩
def lw_privs : List (MethodName × Nat) := lw_privs_1
def lw_tbl : List Cond := k2_sels lw_privs ++ tables_1
theorem lw_privs_ok : ∀ q ∈ lw_privs, lw_okq q := lw_r1
end
section
/-! names, words of the tables, calls: printed by gen/names.py -/
abbrev R_T : String := "LevelTree"
abbrev R_M : String := "LevelTreeModel"
abbrev R_L : String := "LevelTreeLaw"
def nm_T : Nat → String := fun k => match k with
  | 0 => "row"
  | 1 => "now"
  | 2 => "then"
  | 3 => "word"
  | 4 => "ones"
  | 5 => "zeros"
  | 6 => "found"
  | 7 => "times"
  | 8 => "length"
  | 9 => "size"
  | 10 => "founds"
  | 11 => "best"
  | 12 => "bestTimes"
  | 13 => "low"
  | _ => "high"
def ds_T : Nat → String := fun k => match k with
  | 0 => "[I"
  | 1 => "[I"
  | 2 => "[I"
  | 3 => "[I"
  | 4 => "[I"
  | 5 => "[I"
  | 6 => "[I"
  | 7 => "[I"
  | 8 => "I"
  | 9 => "I"
  | 10 => "I"
  | 11 => "I"
  | 12 => "I"
  | 13 => "I"
  | _ => "I"
def fn_T : Nat → Bool := fun k => match k with
  | 0 => true
  | 1 => true
  | 2 => true
  | 3 => true
  | 4 => true
  | 5 => true
  | 6 => true
  | 7 => true
  | 8 => false
  | 9 => false
  | 10 => false
  | 11 => false
  | 12 => false
  | 13 => false
  | _ => false
def F_T : u_T := fun k => (R_T, nm_T k, ds_T k, fn_T k)
def ty_T : Nat → FieldType := fun k => match k with
  | 0 => .array .int
  | 1 => .array .int
  | 2 => .array .int
  | 3 => .array .int
  | 4 => .array .int
  | 5 => .array .int
  | 6 => .array .int
  | 7 => .array .int
  | 8 => .int
  | 9 => .int
  | 10 => .int
  | 11 => .int
  | 12 => .int
  | 13 => .int
  | _ => .int
theorem n_T : ∀ a, a < 15 → ∀ b, b < 15 → a ≠ b → (F_T a).2.1 ≠ (F_T b).2.1 := by decide +kernel
theorem ty_T_ok : ∀ k, k < 15 → parseFieldDescriptor (F_T k).2.2.1 = some (ty_T k) := by decide +kernel
def nm_M : Nat → String := fun k => match k with
  | 0 => "thrown"
  | 1 => "row"
  | 2 => "tree"
  | 3 => "counts"
  | 4 => "told"
  | 5 => "toldOften"
  | 6 => "size"
  | 7 => "built"
  | _ => "tolds"
def ds_M : Nat → String := fun k => match k with
  | 0 => "I"
  | 1 => "[I"
  | 2 => "[I"
  | 3 => "[I"
  | 4 => "[I"
  | 5 => "[I"
  | 6 => "I"
  | 7 => "I"
  | _ => "I"
def fn_M : Nat → Bool := fun k => match k with
  | 0 => false
  | 1 => true
  | 2 => true
  | 3 => true
  | 4 => true
  | 5 => true
  | 6 => false
  | 7 => false
  | _ => false
def F_M : u_T := fun k => (R_M, nm_M k, ds_M k, fn_M k)
def ty_M : Nat → FieldType := fun k => match k with
  | 0 => .int
  | 1 => .array .int
  | 2 => .array .int
  | 3 => .array .int
  | 4 => .array .int
  | 5 => .array .int
  | 6 => .int
  | 7 => .int
  | _ => .int
theorem n_M : ∀ a, a < 9 → ∀ b, b < 9 → a ≠ b → (F_M a).2.1 ≠ (F_M b).2.1 := by decide +kernel
theorem ty_M_ok : ∀ k, k < 9 → parseFieldDescriptor (F_M k).2.2.1 = some (ty_M k) := by decide +kernel
abbrev cls_ : List vw_C := [(R_T, F_T, 15), (R_M, F_M, 9)]
abbrev b_T_init : ByteArray := prog_1_method_1_code
abbrev y_T_init : MethodName := ⟨"LevelTree", "<init>", "()V"⟩
abbrev b_T_add : ByteArray := prog_1_method_2_code
abbrev y_T_add : MethodName := ⟨"LevelTree", "add", "(III)I"⟩
abbrev b_T_cut : ByteArray := prog_1_method_3_code
abbrev y_T_cut : MethodName := ⟨"LevelTree", "cut", "(I)I"⟩
abbrev b_T_build : ByteArray := prog_1_method_4_code
abbrev y_T_build : MethodName := ⟨"LevelTree", "build", "()I"⟩
abbrev b_T_level : ByteArray := prog_1_method_5_code
abbrev y_T_level : MethodName := ⟨"LevelTree", "level", "(II)V"⟩
abbrev b_T_bits : ByteArray := prog_1_method_6_code
abbrev y_T_bits : MethodName := ⟨"LevelTree", "bits", "(I)I"⟩
abbrev b_T_ones : ByteArray := prog_1_method_7_code
abbrev y_T_ones : MethodName := ⟨"LevelTree", "ones", "(II)I"⟩
abbrev b_T_is : ByteArray := prog_1_method_8_code
abbrev y_T_is : MethodName := ⟨"LevelTree", "is", "(II)Z"⟩
abbrev b_T_select : ByteArray := prog_1_method_9_code
abbrev y_T_select : MethodName := ⟨"LevelTree", "select", "(IZI)I"⟩
abbrev b_T_at : ByteArray := prog_1_method_10_code
abbrev y_T_at : MethodName := ⟨"LevelTree", "at", "(I)I"⟩
abbrev b_T_part : ByteArray := prog_1_method_11_code
abbrev y_T_part : MethodName := ⟨"LevelTree", "part", "(II)V"⟩
abbrev b_T_numchk : ByteArray := prog_1_method_12_code
abbrev y_T_numchk : MethodName := ⟨"LevelTree", "number", "(II)V"⟩
abbrev b_T_down : ByteArray := prog_1_method_13_code
abbrev y_T_down : MethodName := ⟨"LevelTree", "down", "(IZ)V"⟩
abbrev b_T_often : ByteArray := prog_1_method_14_code
abbrev y_T_often : MethodName := ⟨"LevelTree", "often", "(III)I"⟩
abbrev b_T_place : ByteArray := prog_1_method_15_code
abbrev y_T_place : MethodName := ⟨"LevelTree", "place", "(II)I"⟩
abbrev b_T_least : ByteArray := prog_1_method_16_code
abbrev y_T_least : MethodName := ⟨"LevelTree", "least", "(III)I"⟩
abbrev b_T_quantile : ByteArray := prog_1_method_17_code
abbrev y_T_quantile : MethodName := ⟨"LevelTree", "quantile", "(III)I"⟩
abbrev b_T_below : ByteArray := prog_1_method_18_code
abbrev y_T_below : MethodName := ⟨"LevelTree", "below", "(III)I"⟩
abbrev b_T_different : ByteArray := prog_1_method_19_code
abbrev y_T_different : MethodName := ⟨"LevelTree", "different", "(II)I"⟩
abbrev b_T_list : ByteArray := prog_1_method_20_code
abbrev y_T_list : MethodName := ⟨"LevelTree", "list", "(IIII)V"⟩
abbrev b_T_number : ByteArray := prog_1_method_21_code
abbrev y_T_number : MethodName := ⟨"LevelTree", "number", "(I)I"⟩
abbrev b_T_before : ByteArray := prog_1_method_22_code
abbrev y_T_before : MethodName := ⟨"LevelTree", "before", "(III)I"⟩
abbrev b_T_most : ByteArray := prog_1_method_23_code
abbrev y_T_most : MethodName := ⟨"LevelTree", "most", "(II)I"⟩
abbrev b_T_frequent : ByteArray := prog_1_method_24_code
abbrev y_T_frequent : MethodName := ⟨"LevelTree", "frequent", "(IIII)V"⟩
abbrev b_T_count : ByteArray := prog_1_method_25_code
abbrev y_T_count : MethodName := ⟨"LevelTree", "count", "(I)I"⟩
abbrev b_M_init : ByteArray := prog_3_method_1_code
abbrev y_M_init : MethodName := ⟨"LevelTreeModel", "<init>", "()V"⟩
abbrev b_M_thrown : ByteArray := prog_3_method_2_code
abbrev y_M_thrown : MethodName := ⟨"LevelTreeModel", "thrown", "()I"⟩
abbrev b_M_refuse : ByteArray := prog_3_method_3_code
abbrev y_M_refuse : MethodName := ⟨"LevelTreeModel", "refuse", "(IZ)Z"⟩
abbrev b_M_add : ByteArray := prog_3_method_4_code
abbrev y_M_add : MethodName := ⟨"LevelTreeModel", "add", "(III)I"⟩
abbrev b_M_cut : ByteArray := prog_3_method_5_code
abbrev y_M_cut : MethodName := ⟨"LevelTreeModel", "cut", "(I)I"⟩
abbrev b_M_build : ByteArray := prog_3_method_6_code
abbrev y_M_build : MethodName := ⟨"LevelTreeModel", "build", "()I"⟩
abbrev b_M_at : ByteArray := prog_3_method_7_code
abbrev y_M_at : MethodName := ⟨"LevelTreeModel", "at", "(I)I"⟩
abbrev b_M_noPart : ByteArray := prog_3_method_8_code
abbrev y_M_noPart : MethodName := ⟨"LevelTreeModel", "noPart", "(IIZ)Z"⟩
abbrev b_M_often : ByteArray := prog_3_method_9_code
abbrev y_M_often : MethodName := ⟨"LevelTreeModel", "often", "(III)I"⟩
abbrev b_M_place : ByteArray := prog_3_method_10_code
abbrev y_M_place : MethodName := ⟨"LevelTreeModel", "place", "(II)I"⟩
abbrev b_M_counted : ByteArray := prog_3_method_11_code
abbrev y_M_counted : MethodName := ⟨"LevelTreeModel", "counted", "(II)V"⟩
abbrev b_M_least : ByteArray := prog_3_method_12_code
abbrev y_M_least : MethodName := ⟨"LevelTreeModel", "least", "(III)I"⟩
abbrev b_M_below : ByteArray := prog_3_method_13_code
abbrev y_M_below : MethodName := ⟨"LevelTreeModel", "below", "(III)I"⟩
abbrev b_M_different : ByteArray := prog_3_method_14_code
abbrev y_M_different : MethodName := ⟨"LevelTreeModel", "different", "(II)I"⟩
abbrev b_M_number : ByteArray := prog_3_method_15_code
abbrev y_M_number : MethodName := ⟨"LevelTreeModel", "number", "(I)I"⟩
abbrev b_M_before : ByteArray := prog_3_method_16_code
abbrev y_M_before : MethodName := ⟨"LevelTreeModel", "before", "(III)I"⟩
abbrev b_M_most : ByteArray := prog_3_method_17_code
abbrev y_M_most : MethodName := ⟨"LevelTreeModel", "most", "(II)I"⟩
abbrev b_M_count : ByteArray := prog_3_method_18_code
abbrev y_M_count : MethodName := ⟨"LevelTreeModel", "count", "(I)I"⟩
abbrev b_L_add : ByteArray := method_3_code
abbrev y_L_add : MethodName := ⟨"LevelTreeLaw", "add", "(LLevelTree;III[J)I"⟩
abbrev b_L_cut : ByteArray := method_4_code
abbrev y_L_cut : MethodName := ⟨"LevelTreeLaw", "cut", "(LLevelTree;I[J)I"⟩
abbrev b_L_at : ByteArray := method_5_code
abbrev y_L_at : MethodName := ⟨"LevelTreeLaw", "at", "(LLevelTree;I[J)I"⟩
abbrev b_L_often : ByteArray := method_6_code
abbrev y_L_often : MethodName := ⟨"LevelTreeLaw", "often", "(LLevelTree;III[J)I"⟩
abbrev b_L_place : ByteArray := method_7_code
abbrev y_L_place : MethodName := ⟨"LevelTreeLaw", "place", "(LLevelTree;II[J)I"⟩
abbrev b_L_least : ByteArray := method_8_code
abbrev y_L_least : MethodName := ⟨"LevelTreeLaw", "least", "(LLevelTree;III[J)I"⟩
abbrev b_L_below : ByteArray := method_9_code
abbrev y_L_below : MethodName := ⟨"LevelTreeLaw", "below", "(LLevelTree;III[J)I"⟩
abbrev b_L_different : ByteArray := method_10_code
abbrev y_L_different : MethodName := ⟨"LevelTreeLaw", "different", "(LLevelTree;II[J)I"⟩
abbrev b_L_number : ByteArray := method_11_code
abbrev y_L_number : MethodName := ⟨"LevelTreeLaw", "number", "(LLevelTree;I[J)I"⟩
abbrev b_L_before : ByteArray := method_12_code
abbrev y_L_before : MethodName := ⟨"LevelTreeLaw", "before", "(LLevelTree;III[J)I"⟩
abbrev b_L_most : ByteArray := method_13_code
abbrev y_L_most : MethodName := ⟨"LevelTreeLaw", "most", "(LLevelTree;II[J)I"⟩
abbrev b_L_law : ByteArray := code
abbrev y_L_law : MethodName := ⟨"LevelTreeLaw", "law", "([I)Z"⟩
def lw_g : List Cond := lw_tbl.filter goodWord
theorem lw_g_sub : ∀ w ∈ lw_g, w ∈ lw_tbl := fun w h => (List.mem_filter.mp h).1
theorem tw_0 : Cond.initialized "LevelTreeLaw" ∈ lw_g := List.mem_filter.mpr ⟨List.mem_append_right _ (List.mem_of_getElem? (i := 0) (by decide +kernel)), rfl⟩
theorem tw_1 : Cond.initialized "LevelTree" ∈ lw_g := List.mem_filter.mpr ⟨List.mem_append_right _ (List.mem_of_getElem? (i := 1) (by decide +kernel)), rfl⟩
theorem tw_2 : Cond.initialized "LevelTreeModel" ∈ lw_g := List.mem_filter.mpr ⟨List.mem_append_right _ (List.mem_of_getElem? (i := 2) (by decide +kernel)), rfl⟩
theorem tw_3 : Cond.initialized "java/lang/Throwable" ∈ lw_g := List.mem_filter.mpr ⟨List.mem_append_right _ (List.mem_of_getElem? (i := 3) (by decide +kernel)), rfl⟩
theorem tw_4 : Cond.initialized "java/lang/Exception" ∈ lw_g := List.mem_filter.mpr ⟨List.mem_append_right _ (List.mem_of_getElem? (i := 4) (by decide +kernel)), rfl⟩
theorem tw_5 : Cond.initialized "java/lang/RuntimeException" ∈ lw_g := List.mem_filter.mpr ⟨List.mem_append_right _ (List.mem_of_getElem? (i := 5) (by decide +kernel)), rfl⟩
theorem tw_6 : Cond.initialized "java/lang/IllegalStateException" ∈ lw_g := List.mem_filter.mpr ⟨List.mem_append_right _ (List.mem_of_getElem? (i := 6) (by decide +kernel)), rfl⟩
theorem tw_7 : Cond.initialized "java/lang/IllegalArgumentException" ∈ lw_g := List.mem_filter.mpr ⟨List.mem_append_right _ (List.mem_of_getElem? (i := 7) (by decide +kernel)), rfl⟩
theorem tw_8 : Cond.initialized "java/util/NoSuchElementException" ∈ lw_g := List.mem_filter.mpr ⟨List.mem_append_right _ (List.mem_of_getElem? (i := 8) (by decide +kernel)), rfl⟩
theorem tw_9 : Cond.classLink "LevelTreeLaw" 8 "LevelTree" ∈ lw_g := List.mem_filter.mpr ⟨List.mem_append_right _ (List.mem_of_getElem? (i := 9) (by decide +kernel)), rfl⟩
theorem tw_10 : Cond.instantiable "LevelTree" 15 ∈ lw_g := List.mem_filter.mpr ⟨List.mem_append_right _ (List.mem_of_getElem? (i := 10) (by decide +kernel)), rfl⟩
theorem tw_11 : Cond.methodLink "LevelTreeLaw" 51 ⟨"LevelTree", "<init>", "()V"⟩ ∈ lw_g := List.mem_filter.mpr ⟨List.mem_append_right _ (List.mem_of_getElem? (i := 11) (by decide +kernel)), rfl⟩
theorem tw_12 : Cond.instanceMethod ⟨"LevelTree", "<init>", "()V"⟩ ∈ lw_g := List.mem_filter.mpr ⟨List.mem_append_right _ (List.mem_of_getElem? (i := 12) (by decide +kernel)), rfl⟩
theorem tw_13 : Cond.code ⟨"LevelTree", "<init>", "()V"⟩ prog_1_method_1_code 1 none ∈ lw_g := List.mem_filter.mpr ⟨List.mem_append_right _ (List.mem_of_getElem? (i := 13) (by decide +kernel)), rfl⟩
theorem tw_14 : Cond.methodLink "LevelTree" 3 ⟨"java/lang/Object", "<init>", "()V"⟩ ∈ lw_g := List.mem_filter.mpr ⟨List.mem_append_right _ (List.mem_of_getElem? (i := 14) (by decide +kernel)), rfl⟩
theorem tw_15 : Cond.instanceMethod ⟨"java/lang/Object", "<init>", "()V"⟩ ∈ lw_g := List.mem_filter.mpr ⟨List.mem_append_right _ (List.mem_of_getElem? (i := 15) (by decide +kernel)), rfl⟩
theorem tw_16 : Cond.code ⟨"java/lang/Object", "<init>", "()V"⟩ object_method_1_code 1 none ∈ lw_g := List.mem_filter.mpr ⟨List.mem_append_right _ (List.mem_of_getElem? (i := 16) (by decide +kernel)), rfl⟩
theorem tw_17 : Cond.fieldLink "LevelTree" 9 "LevelTree" "row" "[I" ∈ lw_g := List.mem_filter.mpr ⟨List.mem_append_right _ (List.mem_of_getElem? (i := 17) (by decide +kernel)), rfl⟩
theorem tw_18 : Cond.fieldLink "LevelTree" 13 "LevelTree" "now" "[I" ∈ lw_g := List.mem_filter.mpr ⟨List.mem_append_right _ (List.mem_of_getElem? (i := 18) (by decide +kernel)), rfl⟩
theorem tw_19 : Cond.fieldLink "LevelTree" 16 "LevelTree" "then" "[I" ∈ lw_g := List.mem_filter.mpr ⟨List.mem_append_right _ (List.mem_of_getElem? (i := 19) (by decide +kernel)), rfl⟩
theorem tw_20 : Cond.fieldLink "LevelTree" 19 "LevelTree" "word" "[I" ∈ lw_g := List.mem_filter.mpr ⟨List.mem_append_right _ (List.mem_of_getElem? (i := 20) (by decide +kernel)), rfl⟩
theorem tw_21 : Cond.fieldLink "LevelTree" 22 "LevelTree" "ones" "[I" ∈ lw_g := List.mem_filter.mpr ⟨List.mem_append_right _ (List.mem_of_getElem? (i := 21) (by decide +kernel)), rfl⟩
theorem tw_22 : Cond.fieldLink "LevelTree" 25 "LevelTree" "zeros" "[I" ∈ lw_g := List.mem_filter.mpr ⟨List.mem_append_right _ (List.mem_of_getElem? (i := 22) (by decide +kernel)), rfl⟩
theorem tw_23 : Cond.fieldLink "LevelTree" 28 "LevelTree" "found" "[I" ∈ lw_g := List.mem_filter.mpr ⟨List.mem_append_right _ (List.mem_of_getElem? (i := 23) (by decide +kernel)), rfl⟩
theorem tw_24 : Cond.fieldLink "LevelTree" 31 "LevelTree" "times" "[I" ∈ lw_g := List.mem_filter.mpr ⟨List.mem_append_right _ (List.mem_of_getElem? (i := 24) (by decide +kernel)), rfl⟩
theorem tw_25 : Cond.fieldLink "LevelTree" 34 "LevelTree" "length" "I" ∈ lw_g := List.mem_filter.mpr ⟨List.mem_append_right _ (List.mem_of_getElem? (i := 25) (by decide +kernel)), rfl⟩
theorem tw_26 : Cond.fieldLink "LevelTree" 44 "LevelTree" "size" "I" ∈ lw_g := List.mem_filter.mpr ⟨List.mem_append_right _ (List.mem_of_getElem? (i := 26) (by decide +kernel)), rfl⟩
theorem tw_27 : Cond.fieldLink "LevelTree" 96 "LevelTree" "founds" "I" ∈ lw_g := List.mem_filter.mpr ⟨List.mem_append_right _ (List.mem_of_getElem? (i := 27) (by decide +kernel)), rfl⟩
theorem tw_28 : Cond.fieldLink "LevelTree" 106 "LevelTree" "best" "I" ∈ lw_g := List.mem_filter.mpr ⟨List.mem_append_right _ (List.mem_of_getElem? (i := 28) (by decide +kernel)), rfl⟩
theorem tw_29 : Cond.fieldLink "LevelTree" 109 "LevelTree" "bestTimes" "I" ∈ lw_g := List.mem_filter.mpr ⟨List.mem_append_right _ (List.mem_of_getElem? (i := 29) (by decide +kernel)), rfl⟩
theorem tw_30 : Cond.fieldLink "LevelTree" 69 "LevelTree" "low" "I" ∈ lw_g := List.mem_filter.mpr ⟨List.mem_append_right _ (List.mem_of_getElem? (i := 30) (by decide +kernel)), rfl⟩
theorem tw_31 : Cond.fieldLink "LevelTree" 72 "LevelTree" "high" "I" ∈ lw_g := List.mem_filter.mpr ⟨List.mem_append_right _ (List.mem_of_getElem? (i := 31) (by decide +kernel)), rfl⟩
theorem tw_32 : Cond.laysFinal "LevelTree" "LevelTree" "row" "[I" ∈ lw_g := List.mem_filter.mpr ⟨List.mem_append_right _ (List.mem_of_getElem? (i := 32) (by decide +kernel)), rfl⟩
theorem tw_33 : Cond.soleField "LevelTree" "row" ∈ lw_g := List.mem_filter.mpr ⟨List.mem_append_right _ (List.mem_of_getElem? (i := 33) (by decide +kernel)), rfl⟩
theorem tw_34 : Cond.laysFinal "LevelTree" "LevelTree" "now" "[I" ∈ lw_g := List.mem_filter.mpr ⟨List.mem_append_right _ (List.mem_of_getElem? (i := 34) (by decide +kernel)), rfl⟩
theorem tw_35 : Cond.soleField "LevelTree" "now" ∈ lw_g := List.mem_filter.mpr ⟨List.mem_append_right _ (List.mem_of_getElem? (i := 35) (by decide +kernel)), rfl⟩
theorem tw_36 : Cond.laysFinal "LevelTree" "LevelTree" "then" "[I" ∈ lw_g := List.mem_filter.mpr ⟨List.mem_append_right _ (List.mem_of_getElem? (i := 36) (by decide +kernel)), rfl⟩
theorem tw_37 : Cond.soleField "LevelTree" "then" ∈ lw_g := List.mem_filter.mpr ⟨List.mem_append_right _ (List.mem_of_getElem? (i := 37) (by decide +kernel)), rfl⟩
theorem tw_38 : Cond.laysFinal "LevelTree" "LevelTree" "word" "[I" ∈ lw_g := List.mem_filter.mpr ⟨List.mem_append_right _ (List.mem_of_getElem? (i := 38) (by decide +kernel)), rfl⟩
theorem tw_39 : Cond.soleField "LevelTree" "word" ∈ lw_g := List.mem_filter.mpr ⟨List.mem_append_right _ (List.mem_of_getElem? (i := 39) (by decide +kernel)), rfl⟩
theorem tw_40 : Cond.laysFinal "LevelTree" "LevelTree" "ones" "[I" ∈ lw_g := List.mem_filter.mpr ⟨List.mem_append_right _ (List.mem_of_getElem? (i := 40) (by decide +kernel)), rfl⟩
theorem tw_41 : Cond.soleField "LevelTree" "ones" ∈ lw_g := List.mem_filter.mpr ⟨List.mem_append_right _ (List.mem_of_getElem? (i := 41) (by decide +kernel)), rfl⟩
theorem tw_42 : Cond.laysFinal "LevelTree" "LevelTree" "zeros" "[I" ∈ lw_g := List.mem_filter.mpr ⟨List.mem_append_right _ (List.mem_of_getElem? (i := 42) (by decide +kernel)), rfl⟩
theorem tw_43 : Cond.soleField "LevelTree" "zeros" ∈ lw_g := List.mem_filter.mpr ⟨List.mem_append_right _ (List.mem_of_getElem? (i := 43) (by decide +kernel)), rfl⟩
theorem tw_44 : Cond.laysFinal "LevelTree" "LevelTree" "found" "[I" ∈ lw_g := List.mem_filter.mpr ⟨List.mem_append_right _ (List.mem_of_getElem? (i := 44) (by decide +kernel)), rfl⟩
theorem tw_45 : Cond.soleField "LevelTree" "found" ∈ lw_g := List.mem_filter.mpr ⟨List.mem_append_right _ (List.mem_of_getElem? (i := 45) (by decide +kernel)), rfl⟩
theorem tw_46 : Cond.laysFinal "LevelTree" "LevelTree" "times" "[I" ∈ lw_g := List.mem_filter.mpr ⟨List.mem_append_right _ (List.mem_of_getElem? (i := 46) (by decide +kernel)), rfl⟩
theorem tw_47 : Cond.soleField "LevelTree" "times" ∈ lw_g := List.mem_filter.mpr ⟨List.mem_append_right _ (List.mem_of_getElem? (i := 47) (by decide +kernel)), rfl⟩
theorem tw_48 : Cond.lays "LevelTree" "LevelTree" "length" "I" ∈ lw_g := List.mem_filter.mpr ⟨List.mem_append_right _ (List.mem_of_getElem? (i := 48) (by decide +kernel)), rfl⟩
theorem tw_49 : Cond.soleField "LevelTree" "length" ∈ lw_g := List.mem_filter.mpr ⟨List.mem_append_right _ (List.mem_of_getElem? (i := 49) (by decide +kernel)), rfl⟩
theorem tw_50 : Cond.lays "LevelTree" "LevelTree" "size" "I" ∈ lw_g := List.mem_filter.mpr ⟨List.mem_append_right _ (List.mem_of_getElem? (i := 50) (by decide +kernel)), rfl⟩
theorem tw_51 : Cond.soleField "LevelTree" "size" ∈ lw_g := List.mem_filter.mpr ⟨List.mem_append_right _ (List.mem_of_getElem? (i := 51) (by decide +kernel)), rfl⟩
theorem tw_52 : Cond.lays "LevelTree" "LevelTree" "founds" "I" ∈ lw_g := List.mem_filter.mpr ⟨List.mem_append_right _ (List.mem_of_getElem? (i := 52) (by decide +kernel)), rfl⟩
theorem tw_53 : Cond.soleField "LevelTree" "founds" ∈ lw_g := List.mem_filter.mpr ⟨List.mem_append_right _ (List.mem_of_getElem? (i := 53) (by decide +kernel)), rfl⟩
theorem tw_54 : Cond.lays "LevelTree" "LevelTree" "best" "I" ∈ lw_g := List.mem_filter.mpr ⟨List.mem_append_right _ (List.mem_of_getElem? (i := 54) (by decide +kernel)), rfl⟩
theorem tw_55 : Cond.soleField "LevelTree" "best" ∈ lw_g := List.mem_filter.mpr ⟨List.mem_append_right _ (List.mem_of_getElem? (i := 55) (by decide +kernel)), rfl⟩
theorem tw_56 : Cond.lays "LevelTree" "LevelTree" "bestTimes" "I" ∈ lw_g := List.mem_filter.mpr ⟨List.mem_append_right _ (List.mem_of_getElem? (i := 56) (by decide +kernel)), rfl⟩
theorem tw_57 : Cond.soleField "LevelTree" "bestTimes" ∈ lw_g := List.mem_filter.mpr ⟨List.mem_append_right _ (List.mem_of_getElem? (i := 57) (by decide +kernel)), rfl⟩
theorem tw_58 : Cond.lays "LevelTree" "LevelTree" "low" "I" ∈ lw_g := List.mem_filter.mpr ⟨List.mem_append_right _ (List.mem_of_getElem? (i := 58) (by decide +kernel)), rfl⟩
theorem tw_59 : Cond.soleField "LevelTree" "low" ∈ lw_g := List.mem_filter.mpr ⟨List.mem_append_right _ (List.mem_of_getElem? (i := 59) (by decide +kernel)), rfl⟩
theorem tw_60 : Cond.lays "LevelTree" "LevelTree" "high" "I" ∈ lw_g := List.mem_filter.mpr ⟨List.mem_append_right _ (List.mem_of_getElem? (i := 60) (by decide +kernel)), rfl⟩
theorem tw_61 : Cond.soleField "LevelTree" "high" ∈ lw_g := List.mem_filter.mpr ⟨List.mem_append_right _ (List.mem_of_getElem? (i := 61) (by decide +kernel)), rfl⟩
theorem tw_62 : Cond.superclass "LevelTree" "java/lang/Object" ∈ lw_g := List.mem_filter.mpr ⟨List.mem_append_right _ (List.mem_of_getElem? (i := 62) (by decide +kernel)), rfl⟩
theorem tw_63 : Cond.arrayClass .int ∈ lw_g := List.mem_filter.mpr ⟨List.mem_append_right _ (List.mem_of_getElem? (i := 63) (by decide +kernel)), rfl⟩
theorem tw_64 : Cond.methodLink "LevelTreeLaw" 69 ⟨"LevelTree", "build", "()I"⟩ ∈ lw_g := List.mem_filter.mpr ⟨List.mem_append_right _ (List.mem_of_getElem? (i := 64) (by decide +kernel)), rfl⟩
theorem tw_65 : Cond.instanceMethod ⟨"LevelTree", "build", "()I"⟩ ∈ lw_g := List.mem_filter.mpr ⟨List.mem_append_right _ (List.mem_of_getElem? (i := 65) (by decide +kernel)), rfl⟩
theorem tw_66 : Cond.selects "LevelTree" ⟨"LevelTree", "build", "()I"⟩ ⟨"LevelTree", "build", "()I"⟩ ∈ lw_g := List.mem_filter.mpr ⟨List.mem_append_right _ (List.mem_of_getElem? (i := 66) (by decide +kernel)), rfl⟩
theorem tw_67 : Cond.code ⟨"LevelTree", "build", "()I"⟩ prog_1_method_4_code 2 (some .int) ∈ lw_g := List.mem_filter.mpr ⟨List.mem_append_right _ (List.mem_of_getElem? (i := 67) (by decide +kernel)), rfl⟩
theorem tw_68 : Cond.methodLink "LevelTree" 47 ⟨"LevelTree", "level", "(II)V"⟩ ∈ lw_g := List.mem_filter.mpr ⟨List.mem_append_right _ (List.mem_of_getElem? (i := 68) (by decide +kernel)), rfl⟩
theorem tw_69 : Cond.privateMethod ⟨"LevelTree", "level", "(II)V"⟩ ∈ lw_tbl := List.mem_append_right _ (List.mem_of_getElem? (i := 69) (by decide +kernel))
theorem tw_70 : Cond.instanceMethod ⟨"LevelTree", "level", "(II)V"⟩ ∈ lw_g := List.mem_filter.mpr ⟨List.mem_append_right _ (List.mem_of_getElem? (i := 70) (by decide +kernel)), rfl⟩
theorem tw_71 : Cond.code ⟨"LevelTree", "level", "(II)V"⟩ prog_1_method_5_code 8 none ∈ lw_g := List.mem_filter.mpr ⟨List.mem_append_right _ (List.mem_of_getElem? (i := 71) (by decide +kernel)), rfl⟩
theorem tw_72 : Cond.methodLink "LevelTree" 51 ⟨"LevelTree", "bits", "(I)I"⟩ ∈ lw_g := List.mem_filter.mpr ⟨List.mem_append_right _ (List.mem_of_getElem? (i := 72) (by decide +kernel)), rfl⟩
theorem tw_73 : Cond.static ⟨"LevelTree", "bits", "(I)I"⟩ ∈ lw_g := List.mem_filter.mpr ⟨List.mem_append_right _ (List.mem_of_getElem? (i := 73) (by decide +kernel)), rfl⟩
theorem tw_74 : Cond.code ⟨"LevelTree", "bits", "(I)I"⟩ prog_1_method_6_code 2 (some .int) ∈ lw_g := List.mem_filter.mpr ⟨List.mem_append_right _ (List.mem_of_getElem? (i := 74) (by decide +kernel)), rfl⟩
theorem tw_75 : Cond.constant "LevelTree" 55 1431655765 ∈ lw_g := List.mem_filter.mpr ⟨List.mem_append_right _ (List.mem_of_getElem? (i := 75) (by decide +kernel)), rfl⟩
theorem tw_76 : Cond.constant "LevelTree" 56 858993459 ∈ lw_g := List.mem_filter.mpr ⟨List.mem_append_right _ (List.mem_of_getElem? (i := 76) (by decide +kernel)), rfl⟩
theorem tw_77 : Cond.constant "LevelTree" 57 252645135 ∈ lw_g := List.mem_filter.mpr ⟨List.mem_append_right _ (List.mem_of_getElem? (i := 77) (by decide +kernel)), rfl⟩
theorem tw_78 : Cond.constant "LevelTree" 58 16843009 ∈ lw_g := List.mem_filter.mpr ⟨List.mem_append_right _ (List.mem_of_getElem? (i := 78) (by decide +kernel)), rfl⟩
theorem tw_79 : Cond.methodLink "LevelTreeLaw" 101 ⟨"LevelTree", "count", "(I)I"⟩ ∈ lw_g := List.mem_filter.mpr ⟨List.mem_append_right _ (List.mem_of_getElem? (i := 79) (by decide +kernel)), rfl⟩
theorem tw_80 : Cond.instanceMethod ⟨"LevelTree", "count", "(I)I"⟩ ∈ lw_g := List.mem_filter.mpr ⟨List.mem_append_right _ (List.mem_of_getElem? (i := 80) (by decide +kernel)), rfl⟩
theorem tw_81 : Cond.selects "LevelTree" ⟨"LevelTree", "count", "(I)I"⟩ ⟨"LevelTree", "count", "(I)I"⟩ ∈ lw_g := List.mem_filter.mpr ⟨List.mem_append_right _ (List.mem_of_getElem? (i := 81) (by decide +kernel)), rfl⟩
theorem tw_82 : Cond.code ⟨"LevelTree", "count", "(I)I"⟩ prog_1_method_25_code 2 (some .int) ∈ lw_g := List.mem_filter.mpr ⟨List.mem_append_right _ (List.mem_of_getElem? (i := 82) (by decide +kernel)), rfl⟩
theorem tw_83 : Cond.methodLink "LevelTreeLaw" 55 ⟨"LevelTreeLaw", "add", "(LLevelTree;III[J)I"⟩ ∈ lw_g := List.mem_filter.mpr ⟨List.mem_append_right _ (List.mem_of_getElem? (i := 83) (by decide +kernel)), rfl⟩
theorem tw_84 : Cond.static ⟨"LevelTreeLaw", "add", "(LLevelTree;III[J)I"⟩ ∈ lw_g := List.mem_filter.mpr ⟨List.mem_append_right _ (List.mem_of_getElem? (i := 84) (by decide +kernel)), rfl⟩
theorem tw_85 : Cond.codeWith ⟨"LevelTreeLaw", "add", "(LLevelTree;III[J)I"⟩ method_3_code 6 (some .int) [(0, 12, 15, 13)] ∈ lw_g := List.mem_filter.mpr ⟨List.mem_append_right _ (List.mem_of_getElem? (i := 85) (by decide +kernel)), rfl⟩
theorem tw_86 : Cond.classLink "LevelTreeLaw" 13 "java/lang/IllegalStateException" ∈ lw_g := List.mem_filter.mpr ⟨List.mem_append_right _ (List.mem_of_getElem? (i := 86) (by decide +kernel)), rfl⟩
theorem tw_87 : Cond.methodLink "LevelTreeLaw" 7 ⟨"LevelTree", "add", "(III)I"⟩ ∈ lw_g := List.mem_filter.mpr ⟨List.mem_append_right _ (List.mem_of_getElem? (i := 87) (by decide +kernel)), rfl⟩
theorem tw_88 : Cond.instanceMethod ⟨"LevelTree", "add", "(III)I"⟩ ∈ lw_g := List.mem_filter.mpr ⟨List.mem_append_right _ (List.mem_of_getElem? (i := 88) (by decide +kernel)), rfl⟩
theorem tw_89 : Cond.selects "LevelTree" ⟨"LevelTree", "add", "(III)I"⟩ ⟨"LevelTree", "add", "(III)I"⟩ ∈ lw_g := List.mem_filter.mpr ⟨List.mem_append_right _ (List.mem_of_getElem? (i := 89) (by decide +kernel)), rfl⟩
theorem tw_90 : Cond.code ⟨"LevelTree", "add", "(III)I"⟩ prog_1_method_2_code 4 (some .int) ∈ lw_g := List.mem_filter.mpr ⟨List.mem_append_right _ (List.mem_of_getElem? (i := 90) (by decide +kernel)), rfl⟩
theorem tw_91 : Cond.classLink "LevelTree" 38 "java/lang/IllegalStateException" ∈ lw_g := List.mem_filter.mpr ⟨List.mem_append_right _ (List.mem_of_getElem? (i := 91) (by decide +kernel)), rfl⟩
theorem tw_92 : Cond.instantiable "java/lang/IllegalStateException" 6 ∈ lw_g := List.mem_filter.mpr ⟨List.mem_append_right _ (List.mem_of_getElem? (i := 92) (by decide +kernel)), rfl⟩
theorem tw_93 : Cond.castable "java/lang/IllegalStateException" "java/lang/IllegalStateException" ∈ lw_tbl := List.mem_append_right _ (List.mem_of_getElem? (i := 93) (by decide +kernel))
theorem tw_94 : Cond.declares ⟨"java/lang/RuntimeException", "<init>", "()V"⟩ ∈ lw_tbl := List.mem_append_right _ (List.mem_of_getElem? (i := 94) (by decide +kernel))
theorem tw_95 : Cond.declares ⟨"java/lang/RuntimeException", "<init>", "(Ljava/lang/String;)V"⟩ ∈ lw_tbl := List.mem_append_right _ (List.mem_of_getElem? (i := 95) (by decide +kernel))
theorem tw_96 : Cond.declares ⟨"java/lang/Exception", "<init>", "()V"⟩ ∈ lw_tbl := List.mem_append_right _ (List.mem_of_getElem? (i := 96) (by decide +kernel))
theorem tw_97 : Cond.declares ⟨"java/lang/Exception", "<init>", "(Ljava/lang/String;)V"⟩ ∈ lw_tbl := List.mem_append_right _ (List.mem_of_getElem? (i := 97) (by decide +kernel))
theorem tw_98 : Cond.declares ⟨"java/lang/Throwable", "<init>", "()V"⟩ ∈ lw_tbl := List.mem_append_right _ (List.mem_of_getElem? (i := 98) (by decide +kernel))
theorem tw_99 : Cond.declares ⟨"java/lang/Throwable", "<init>", "(Ljava/lang/String;)V"⟩ ∈ lw_tbl := List.mem_append_right _ (List.mem_of_getElem? (i := 99) (by decide +kernel))
theorem tw_100 : Cond.selects "java/lang/IllegalStateException" ⟨"java/lang/Throwable", "fillInStackTrace", "(I)Ljava/lang/Throwable;"⟩ ⟨"java/lang/Throwable", "fillInStackTrace", "(I)Ljava/lang/Throwable;"⟩ ∈ lw_g := List.mem_filter.mpr ⟨List.mem_append_right _ (List.mem_of_getElem? (i := 100) (by decide +kernel)), rfl⟩
theorem tw_101 : Cond.selects "java/lang/IllegalStateException" ⟨"java/lang/Throwable", "fillInStackTrace", "()Ljava/lang/Throwable;"⟩ ⟨"java/lang/Throwable", "fillInStackTrace", "()Ljava/lang/Throwable;"⟩ ∈ lw_g := List.mem_filter.mpr ⟨List.mem_append_right _ (List.mem_of_getElem? (i := 101) (by decide +kernel)), rfl⟩
theorem tw_102 : Cond.lays "java/lang/IllegalStateException" "java/lang/Throwable" "cause" "Ljava/lang/Throwable;" ∈ lw_g := List.mem_filter.mpr ⟨List.mem_append_right _ (List.mem_of_getElem? (i := 102) (by decide +kernel)), rfl⟩
theorem tw_103 : Cond.lays "java/lang/Throwable" "java/lang/Throwable" "cause" "Ljava/lang/Throwable;" ∈ lw_g := List.mem_filter.mpr ⟨List.mem_append_right _ (List.mem_of_getElem? (i := 103) (by decide +kernel)), rfl⟩
theorem tw_104 : Cond.lays "java/lang/IllegalStateException" "java/lang/Throwable" "stackTrace" "[Ljava/lang/StackTraceElement;" ∈ lw_g := List.mem_filter.mpr ⟨List.mem_append_right _ (List.mem_of_getElem? (i := 104) (by decide +kernel)), rfl⟩
theorem tw_105 : Cond.lays "java/lang/Throwable" "java/lang/Throwable" "stackTrace" "[Ljava/lang/StackTraceElement;" ∈ lw_g := List.mem_filter.mpr ⟨List.mem_append_right _ (List.mem_of_getElem? (i := 105) (by decide +kernel)), rfl⟩
theorem tw_106 : Cond.lays "java/lang/IllegalStateException" "java/lang/Throwable" "suppressedExceptions" "Ljava/util/List;" ∈ lw_g := List.mem_filter.mpr ⟨List.mem_append_right _ (List.mem_of_getElem? (i := 106) (by decide +kernel)), rfl⟩
theorem tw_107 : Cond.lays "java/lang/Throwable" "java/lang/Throwable" "suppressedExceptions" "Ljava/util/List;" ∈ lw_g := List.mem_filter.mpr ⟨List.mem_append_right _ (List.mem_of_getElem? (i := 107) (by decide +kernel)), rfl⟩
theorem tw_108 : Cond.lays "java/lang/IllegalStateException" "java/lang/Throwable" "detailMessage" "Ljava/lang/String;" ∈ lw_g := List.mem_filter.mpr ⟨List.mem_append_right _ (List.mem_of_getElem? (i := 108) (by decide +kernel)), rfl⟩
theorem tw_109 : Cond.lays "java/lang/Throwable" "java/lang/Throwable" "detailMessage" "Ljava/lang/String;" ∈ lw_g := List.mem_filter.mpr ⟨List.mem_append_right _ (List.mem_of_getElem? (i := 109) (by decide +kernel)), rfl⟩
theorem tw_110 : Cond.lays "java/lang/IllegalStateException" "java/lang/Throwable" "backtrace" "Ljava/lang/Object;" ∈ lw_g := List.mem_filter.mpr ⟨List.mem_append_right _ (List.mem_of_getElem? (i := 110) (by decide +kernel)), rfl⟩
theorem tw_111 : Cond.lays "java/lang/Throwable" "java/lang/Throwable" "backtrace" "Ljava/lang/Object;" ∈ lw_g := List.mem_filter.mpr ⟨List.mem_append_right _ (List.mem_of_getElem? (i := 111) (by decide +kernel)), rfl⟩
theorem tw_112 : Cond.fieldLink "java/lang/Throwable" 198 "java/lang/Throwable" "backtrace" "Ljava/lang/Object;" ∈ lw_g := List.mem_filter.mpr ⟨List.mem_append_right _ (List.mem_of_getElem? (i := 112) (by decide +kernel)), rfl⟩
theorem tw_113 : Cond.superclass "java/lang/Throwable" "java/lang/Object" ∈ lw_g := List.mem_filter.mpr ⟨List.mem_append_right _ (List.mem_of_getElem? (i := 113) (by decide +kernel)), rfl⟩
theorem tw_114 : Cond.instanceMethod ⟨"java/lang/Throwable", "<init>", "()V"⟩ ∈ lw_g := List.mem_filter.mpr ⟨List.mem_append_right _ (List.mem_of_getElem? (i := 114) (by decide +kernel)), rfl⟩
theorem tw_115 : Cond.code ⟨"java/lang/Throwable", "<init>", "()V"⟩ prog_8_method_1_code 1 none ∈ lw_g := List.mem_filter.mpr ⟨List.mem_append_right _ (List.mem_of_getElem? (i := 115) (by decide +kernel)), rfl⟩
theorem tw_116 : Cond.methodLink "java/lang/Throwable" 1 ⟨"java/lang/Object", "<init>", "()V"⟩ ∈ lw_g := List.mem_filter.mpr ⟨List.mem_append_right _ (List.mem_of_getElem? (i := 116) (by decide +kernel)), rfl⟩
theorem tw_117 : Cond.fieldLink "java/lang/Throwable" 13 "java/lang/Throwable" "UNASSIGNED_STACK" "[Ljava/lang/StackTraceElement;" ∈ lw_g := List.mem_filter.mpr ⟨List.mem_append_right _ (List.mem_of_getElem? (i := 117) (by decide +kernel)), rfl⟩
theorem tw_118 : Cond.laysStatic "java/lang/Throwable" "UNASSIGNED_STACK" "[Ljava/lang/StackTraceElement;" ∈ lw_tbl := List.mem_append_right _ (List.mem_of_getElem? (i := 118) (by decide +kernel))
theorem tw_119 : Cond.fieldLink "java/lang/Throwable" 20 "java/lang/Throwable" "SUPPRESSED_SENTINEL" "Ljava/util/List;" ∈ lw_g := List.mem_filter.mpr ⟨List.mem_append_right _ (List.mem_of_getElem? (i := 119) (by decide +kernel)), rfl⟩
theorem tw_120 : Cond.laysStatic "java/lang/Throwable" "SUPPRESSED_SENTINEL" "Ljava/util/List;" ∈ lw_tbl := List.mem_append_right _ (List.mem_of_getElem? (i := 120) (by decide +kernel))
theorem tw_121 : Cond.methodLink "java/lang/Throwable" 27 ⟨"java/lang/Throwable", "fillInStackTrace", "()Ljava/lang/Throwable;"⟩ ∈ lw_g := List.mem_filter.mpr ⟨List.mem_append_right _ (List.mem_of_getElem? (i := 121) (by decide +kernel)), rfl⟩
theorem tw_122 : Cond.instanceMethod ⟨"java/lang/Throwable", "fillInStackTrace", "()Ljava/lang/Throwable;"⟩ ∈ lw_g := List.mem_filter.mpr ⟨List.mem_append_right _ (List.mem_of_getElem? (i := 122) (by decide +kernel)), rfl⟩
theorem tw_123 : Cond.sameMethod "java/lang/Throwable" "java/lang/Throwable" "fillInStackTrace" "()Ljava/lang/Throwable;" ∈ lw_g := List.mem_filter.mpr ⟨List.mem_append_right _ (List.mem_of_getElem? (i := 123) (by decide +kernel)), rfl⟩
theorem tw_124 : Cond.selects "java/lang/IllegalArgumentException" ⟨"java/lang/Throwable", "fillInStackTrace", "()Ljava/lang/Throwable;"⟩ ⟨"java/lang/Throwable", "fillInStackTrace", "()Ljava/lang/Throwable;"⟩ ∈ lw_g := List.mem_filter.mpr ⟨List.mem_append_right _ (List.mem_of_getElem? (i := 124) (by decide +kernel)), rfl⟩
theorem tw_125 : Cond.selects "java/util/NoSuchElementException" ⟨"java/lang/Throwable", "fillInStackTrace", "()Ljava/lang/Throwable;"⟩ ⟨"java/lang/Throwable", "fillInStackTrace", "()Ljava/lang/Throwable;"⟩ ∈ lw_g := List.mem_filter.mpr ⟨List.mem_append_right _ (List.mem_of_getElem? (i := 125) (by decide +kernel)), rfl⟩
theorem tw_126 : Cond.codeSync ⟨"java/lang/Throwable", "fillInStackTrace", "()Ljava/lang/Throwable;"⟩ prog_8_method_18_code 1 (some (.object "java/lang/Throwable")) ∈ lw_g := List.mem_filter.mpr ⟨List.mem_append_right _ (List.mem_of_getElem? (i := 126) (by decide +kernel)), rfl⟩
theorem tw_127 : Cond.methodLink "java/lang/Throwable" 202 ⟨"java/lang/Throwable", "fillInStackTrace", "(I)Ljava/lang/Throwable;"⟩ ∈ lw_g := List.mem_filter.mpr ⟨List.mem_append_right _ (List.mem_of_getElem? (i := 127) (by decide +kernel)), rfl⟩
theorem tw_128 : Cond.privateMethod ⟨"java/lang/Throwable", "fillInStackTrace", "(I)Ljava/lang/Throwable;"⟩ ∈ lw_tbl := List.mem_append_right _ (List.mem_of_getElem? (i := 128) (by decide +kernel))
theorem tw_129 : Cond.instanceMethod ⟨"java/lang/Throwable", "fillInStackTrace", "(I)Ljava/lang/Throwable;"⟩ ∈ lw_g := List.mem_filter.mpr ⟨List.mem_append_right _ (List.mem_of_getElem? (i := 129) (by decide +kernel)), rfl⟩
theorem tw_130 : Cond.instantiable "java/lang/Throwable" 6 ∈ lw_g := List.mem_filter.mpr ⟨List.mem_append_right _ (List.mem_of_getElem? (i := 130) (by decide +kernel)), rfl⟩
theorem tw_131 : Cond.native ⟨"java/lang/Throwable", "fillInStackTrace", "(I)Ljava/lang/Throwable;"⟩ ∈ lw_g := List.mem_filter.mpr ⟨List.mem_append_right _ (List.mem_of_getElem? (i := 131) (by decide +kernel)), rfl⟩
theorem tw_132 : Cond.methodLink "LevelTree" 40 ⟨"java/lang/IllegalStateException", "<init>", "()V"⟩ ∈ lw_g := List.mem_filter.mpr ⟨List.mem_append_right _ (List.mem_of_getElem? (i := 132) (by decide +kernel)), rfl⟩
theorem tw_133 : Cond.instanceMethod ⟨"java/lang/IllegalStateException", "<init>", "()V"⟩ ∈ lw_g := List.mem_filter.mpr ⟨List.mem_append_right _ (List.mem_of_getElem? (i := 133) (by decide +kernel)), rfl⟩
theorem tw_134 : Cond.code ⟨"java/lang/IllegalStateException", "<init>", "()V"⟩ prog_6_method_1_code 1 none ∈ lw_g := List.mem_filter.mpr ⟨List.mem_append_right _ (List.mem_of_getElem? (i := 134) (by decide +kernel)), rfl⟩
theorem tw_135 : Cond.methodLink "java/lang/IllegalStateException" 1 ⟨"java/lang/RuntimeException", "<init>", "()V"⟩ ∈ lw_g := List.mem_filter.mpr ⟨List.mem_append_right _ (List.mem_of_getElem? (i := 135) (by decide +kernel)), rfl⟩
theorem tw_136 : Cond.instanceMethod ⟨"java/lang/RuntimeException", "<init>", "()V"⟩ ∈ lw_g := List.mem_filter.mpr ⟨List.mem_append_right _ (List.mem_of_getElem? (i := 136) (by decide +kernel)), rfl⟩
theorem tw_137 : Cond.code ⟨"java/lang/RuntimeException", "<init>", "()V"⟩ prog_7_method_1_code 1 none ∈ lw_g := List.mem_filter.mpr ⟨List.mem_append_right _ (List.mem_of_getElem? (i := 137) (by decide +kernel)), rfl⟩
theorem tw_138 : Cond.methodLink "java/lang/RuntimeException" 1 ⟨"java/lang/Exception", "<init>", "()V"⟩ ∈ lw_g := List.mem_filter.mpr ⟨List.mem_append_right _ (List.mem_of_getElem? (i := 138) (by decide +kernel)), rfl⟩
theorem tw_139 : Cond.instanceMethod ⟨"java/lang/Exception", "<init>", "()V"⟩ ∈ lw_g := List.mem_filter.mpr ⟨List.mem_append_right _ (List.mem_of_getElem? (i := 139) (by decide +kernel)), rfl⟩
theorem tw_140 : Cond.code ⟨"java/lang/Exception", "<init>", "()V"⟩ prog_4_method_1_code 1 none ∈ lw_g := List.mem_filter.mpr ⟨List.mem_append_right _ (List.mem_of_getElem? (i := 140) (by decide +kernel)), rfl⟩
theorem tw_141 : Cond.methodLink "java/lang/Exception" 1 ⟨"java/lang/Throwable", "<init>", "()V"⟩ ∈ lw_g := List.mem_filter.mpr ⟨List.mem_append_right _ (List.mem_of_getElem? (i := 141) (by decide +kernel)), rfl⟩
theorem tw_142 : Cond.fieldLink "java/lang/Throwable" 198 "java/lang/Throwable" "backtrace" "Ljava/lang/Object;" ∈ lw_g := List.mem_filter.mpr ⟨List.mem_append_right _ (List.mem_of_getElem? (i := 142) (by decide +kernel)), rfl⟩
theorem tw_143 : Cond.fieldLink "java/lang/Throwable" 7 "java/lang/Throwable" "cause" "Ljava/lang/Throwable;" ∈ lw_g := List.mem_filter.mpr ⟨List.mem_append_right _ (List.mem_of_getElem? (i := 143) (by decide +kernel)), rfl⟩
theorem tw_144 : Cond.fieldLink "java/lang/Throwable" 17 "java/lang/Throwable" "stackTrace" "[Ljava/lang/StackTraceElement;" ∈ lw_g := List.mem_filter.mpr ⟨List.mem_append_right _ (List.mem_of_getElem? (i := 144) (by decide +kernel)), rfl⟩
theorem tw_145 : Cond.fieldLink "java/lang/Throwable" 24 "java/lang/Throwable" "suppressedExceptions" "Ljava/util/List;" ∈ lw_g := List.mem_filter.mpr ⟨List.mem_append_right _ (List.mem_of_getElem? (i := 145) (by decide +kernel)), rfl⟩
theorem tw_146 : Cond.soleField "java/lang/Throwable" "backtrace" ∈ lw_g := List.mem_filter.mpr ⟨List.mem_append_right _ (List.mem_of_getElem? (i := 146) (by decide +kernel)), rfl⟩
theorem tw_147 : Cond.soleField "java/lang/Throwable" "detailMessage" ∈ lw_g := List.mem_filter.mpr ⟨List.mem_append_right _ (List.mem_of_getElem? (i := 147) (by decide +kernel)), rfl⟩
theorem tw_148 : Cond.soleField "java/lang/Throwable" "cause" ∈ lw_g := List.mem_filter.mpr ⟨List.mem_append_right _ (List.mem_of_getElem? (i := 148) (by decide +kernel)), rfl⟩
theorem tw_149 : Cond.soleField "java/lang/Throwable" "stackTrace" ∈ lw_g := List.mem_filter.mpr ⟨List.mem_append_right _ (List.mem_of_getElem? (i := 149) (by decide +kernel)), rfl⟩
theorem tw_150 : Cond.lays "java/lang/IllegalStateException" "java/lang/Throwable" "depth" "I" ∈ lw_g := List.mem_filter.mpr ⟨List.mem_append_right _ (List.mem_of_getElem? (i := 150) (by decide +kernel)), rfl⟩
theorem tw_151 : Cond.soleField "java/lang/Throwable" "depth" ∈ lw_g := List.mem_filter.mpr ⟨List.mem_append_right _ (List.mem_of_getElem? (i := 151) (by decide +kernel)), rfl⟩
theorem tw_152 : Cond.soleField "java/lang/Throwable" "suppressedExceptions" ∈ lw_g := List.mem_filter.mpr ⟨List.mem_append_right _ (List.mem_of_getElem? (i := 152) (by decide +kernel)), rfl⟩
theorem tw_153 : Cond.superclass "java/lang/IllegalStateException" "java/lang/RuntimeException" ∈ lw_g := List.mem_filter.mpr ⟨List.mem_append_right _ (List.mem_of_getElem? (i := 153) (by decide +kernel)), rfl⟩
theorem tw_154 : Cond.methodLink "LevelTreeLaw" 65 ⟨"LevelTreeLaw", "cut", "(LLevelTree;I[J)I"⟩ ∈ lw_g := List.mem_filter.mpr ⟨List.mem_append_right _ (List.mem_of_getElem? (i := 154) (by decide +kernel)), rfl⟩
theorem tw_155 : Cond.static ⟨"LevelTreeLaw", "cut", "(LLevelTree;I[J)I"⟩ ∈ lw_g := List.mem_filter.mpr ⟨List.mem_append_right _ (List.mem_of_getElem? (i := 155) (by decide +kernel)), rfl⟩
theorem tw_156 : Cond.codeWith ⟨"LevelTreeLaw", "cut", "(LLevelTree;I[J)I"⟩ method_4_code 4 (some .int) [(0, 9, 12, 19)] ∈ lw_g := List.mem_filter.mpr ⟨List.mem_append_right _ (List.mem_of_getElem? (i := 156) (by decide +kernel)), rfl⟩
theorem tw_157 : Cond.classLink "LevelTreeLaw" 19 "java/lang/IllegalArgumentException" ∈ lw_g := List.mem_filter.mpr ⟨List.mem_append_right _ (List.mem_of_getElem? (i := 157) (by decide +kernel)), rfl⟩
theorem tw_158 : Cond.methodLink "LevelTreeLaw" 15 ⟨"LevelTree", "cut", "(I)I"⟩ ∈ lw_g := List.mem_filter.mpr ⟨List.mem_append_right _ (List.mem_of_getElem? (i := 158) (by decide +kernel)), rfl⟩
theorem tw_159 : Cond.instanceMethod ⟨"LevelTree", "cut", "(I)I"⟩ ∈ lw_g := List.mem_filter.mpr ⟨List.mem_append_right _ (List.mem_of_getElem? (i := 159) (by decide +kernel)), rfl⟩
theorem tw_160 : Cond.selects "LevelTree" ⟨"LevelTree", "cut", "(I)I"⟩ ⟨"LevelTree", "cut", "(I)I"⟩ ∈ lw_g := List.mem_filter.mpr ⟨List.mem_append_right _ (List.mem_of_getElem? (i := 160) (by decide +kernel)), rfl⟩
theorem tw_161 : Cond.code ⟨"LevelTree", "cut", "(I)I"⟩ prog_1_method_3_code 2 (some .int) ∈ lw_g := List.mem_filter.mpr ⟨List.mem_append_right _ (List.mem_of_getElem? (i := 161) (by decide +kernel)), rfl⟩
theorem tw_162 : Cond.classLink "LevelTree" 41 "java/lang/IllegalArgumentException" ∈ lw_g := List.mem_filter.mpr ⟨List.mem_append_right _ (List.mem_of_getElem? (i := 162) (by decide +kernel)), rfl⟩
theorem tw_163 : Cond.instantiable "java/lang/IllegalArgumentException" 6 ∈ lw_g := List.mem_filter.mpr ⟨List.mem_append_right _ (List.mem_of_getElem? (i := 163) (by decide +kernel)), rfl⟩
theorem tw_164 : Cond.castable "java/lang/IllegalArgumentException" "java/lang/IllegalArgumentException" ∈ lw_tbl := List.mem_append_right _ (List.mem_of_getElem? (i := 164) (by decide +kernel))
theorem tw_165 : Cond.selects "java/lang/IllegalArgumentException" ⟨"java/lang/Throwable", "fillInStackTrace", "(I)Ljava/lang/Throwable;"⟩ ⟨"java/lang/Throwable", "fillInStackTrace", "(I)Ljava/lang/Throwable;"⟩ ∈ lw_g := List.mem_filter.mpr ⟨List.mem_append_right _ (List.mem_of_getElem? (i := 165) (by decide +kernel)), rfl⟩
theorem tw_166 : Cond.lays "java/lang/IllegalArgumentException" "java/lang/Throwable" "cause" "Ljava/lang/Throwable;" ∈ lw_g := List.mem_filter.mpr ⟨List.mem_append_right _ (List.mem_of_getElem? (i := 166) (by decide +kernel)), rfl⟩
theorem tw_167 : Cond.lays "java/lang/IllegalArgumentException" "java/lang/Throwable" "stackTrace" "[Ljava/lang/StackTraceElement;" ∈ lw_g := List.mem_filter.mpr ⟨List.mem_append_right _ (List.mem_of_getElem? (i := 167) (by decide +kernel)), rfl⟩
theorem tw_168 : Cond.lays "java/lang/IllegalArgumentException" "java/lang/Throwable" "suppressedExceptions" "Ljava/util/List;" ∈ lw_g := List.mem_filter.mpr ⟨List.mem_append_right _ (List.mem_of_getElem? (i := 168) (by decide +kernel)), rfl⟩
theorem tw_169 : Cond.lays "java/lang/IllegalArgumentException" "java/lang/Throwable" "detailMessage" "Ljava/lang/String;" ∈ lw_g := List.mem_filter.mpr ⟨List.mem_append_right _ (List.mem_of_getElem? (i := 169) (by decide +kernel)), rfl⟩
theorem tw_170 : Cond.lays "java/lang/IllegalArgumentException" "java/lang/Throwable" "backtrace" "Ljava/lang/Object;" ∈ lw_g := List.mem_filter.mpr ⟨List.mem_append_right _ (List.mem_of_getElem? (i := 170) (by decide +kernel)), rfl⟩
theorem tw_171 : Cond.methodLink "LevelTree" 43 ⟨"java/lang/IllegalArgumentException", "<init>", "()V"⟩ ∈ lw_g := List.mem_filter.mpr ⟨List.mem_append_right _ (List.mem_of_getElem? (i := 171) (by decide +kernel)), rfl⟩
theorem tw_172 : Cond.instanceMethod ⟨"java/lang/IllegalArgumentException", "<init>", "()V"⟩ ∈ lw_g := List.mem_filter.mpr ⟨List.mem_append_right _ (List.mem_of_getElem? (i := 172) (by decide +kernel)), rfl⟩
theorem tw_173 : Cond.code ⟨"java/lang/IllegalArgumentException", "<init>", "()V"⟩ prog_5_method_1_code 1 none ∈ lw_g := List.mem_filter.mpr ⟨List.mem_append_right _ (List.mem_of_getElem? (i := 173) (by decide +kernel)), rfl⟩
theorem tw_174 : Cond.methodLink "java/lang/IllegalArgumentException" 1 ⟨"java/lang/RuntimeException", "<init>", "()V"⟩ ∈ lw_g := List.mem_filter.mpr ⟨List.mem_append_right _ (List.mem_of_getElem? (i := 174) (by decide +kernel)), rfl⟩
theorem tw_175 : Cond.lays "java/lang/IllegalArgumentException" "java/lang/Throwable" "depth" "I" ∈ lw_g := List.mem_filter.mpr ⟨List.mem_append_right _ (List.mem_of_getElem? (i := 175) (by decide +kernel)), rfl⟩
theorem tw_176 : Cond.superclass "java/lang/IllegalArgumentException" "java/lang/RuntimeException" ∈ lw_g := List.mem_filter.mpr ⟨List.mem_append_right _ (List.mem_of_getElem? (i := 176) (by decide +kernel)), rfl⟩
theorem tw_177 : Cond.methodLink "LevelTreeLaw" 73 ⟨"LevelTreeLaw", "at", "(LLevelTree;I[J)I"⟩ ∈ lw_g := List.mem_filter.mpr ⟨List.mem_append_right _ (List.mem_of_getElem? (i := 177) (by decide +kernel)), rfl⟩
theorem tw_178 : Cond.static ⟨"LevelTreeLaw", "at", "(LLevelTree;I[J)I"⟩ ∈ lw_g := List.mem_filter.mpr ⟨List.mem_append_right _ (List.mem_of_getElem? (i := 178) (by decide +kernel)), rfl⟩
theorem tw_179 : Cond.codeWith ⟨"LevelTreeLaw", "at", "(LLevelTree;I[J)I"⟩ method_5_code 4 (some .int) [(0, 9, 12, 24)] ∈ lw_g := List.mem_filter.mpr ⟨List.mem_append_right _ (List.mem_of_getElem? (i := 179) (by decide +kernel)), rfl⟩
theorem tw_180 : Cond.classLink "LevelTreeLaw" 24 "java/util/NoSuchElementException" ∈ lw_g := List.mem_filter.mpr ⟨List.mem_append_right _ (List.mem_of_getElem? (i := 180) (by decide +kernel)), rfl⟩
theorem tw_181 : Cond.methodLink "LevelTreeLaw" 21 ⟨"LevelTree", "at", "(I)I"⟩ ∈ lw_g := List.mem_filter.mpr ⟨List.mem_append_right _ (List.mem_of_getElem? (i := 181) (by decide +kernel)), rfl⟩
theorem tw_182 : Cond.instanceMethod ⟨"LevelTree", "at", "(I)I"⟩ ∈ lw_g := List.mem_filter.mpr ⟨List.mem_append_right _ (List.mem_of_getElem? (i := 182) (by decide +kernel)), rfl⟩
theorem tw_183 : Cond.selects "LevelTree" ⟨"LevelTree", "at", "(I)I"⟩ ⟨"LevelTree", "at", "(I)I"⟩ ∈ lw_g := List.mem_filter.mpr ⟨List.mem_append_right _ (List.mem_of_getElem? (i := 183) (by decide +kernel)), rfl⟩
theorem tw_184 : Cond.code ⟨"LevelTree", "at", "(I)I"⟩ prog_1_method_10_code 6 (some .int) ∈ lw_g := List.mem_filter.mpr ⟨List.mem_append_right _ (List.mem_of_getElem? (i := 184) (by decide +kernel)), rfl⟩
theorem tw_185 : Cond.classLink "LevelTree" 62 "java/util/NoSuchElementException" ∈ lw_g := List.mem_filter.mpr ⟨List.mem_append_right _ (List.mem_of_getElem? (i := 185) (by decide +kernel)), rfl⟩
theorem tw_186 : Cond.instantiable "java/util/NoSuchElementException" 6 ∈ lw_g := List.mem_filter.mpr ⟨List.mem_append_right _ (List.mem_of_getElem? (i := 186) (by decide +kernel)), rfl⟩
theorem tw_187 : Cond.castable "java/util/NoSuchElementException" "java/util/NoSuchElementException" ∈ lw_tbl := List.mem_append_right _ (List.mem_of_getElem? (i := 187) (by decide +kernel))
theorem tw_188 : Cond.selects "java/util/NoSuchElementException" ⟨"java/lang/Throwable", "fillInStackTrace", "(I)Ljava/lang/Throwable;"⟩ ⟨"java/lang/Throwable", "fillInStackTrace", "(I)Ljava/lang/Throwable;"⟩ ∈ lw_g := List.mem_filter.mpr ⟨List.mem_append_right _ (List.mem_of_getElem? (i := 188) (by decide +kernel)), rfl⟩
theorem tw_189 : Cond.lays "java/util/NoSuchElementException" "java/lang/Throwable" "cause" "Ljava/lang/Throwable;" ∈ lw_g := List.mem_filter.mpr ⟨List.mem_append_right _ (List.mem_of_getElem? (i := 189) (by decide +kernel)), rfl⟩
theorem tw_190 : Cond.lays "java/util/NoSuchElementException" "java/lang/Throwable" "stackTrace" "[Ljava/lang/StackTraceElement;" ∈ lw_g := List.mem_filter.mpr ⟨List.mem_append_right _ (List.mem_of_getElem? (i := 190) (by decide +kernel)), rfl⟩
theorem tw_191 : Cond.lays "java/util/NoSuchElementException" "java/lang/Throwable" "suppressedExceptions" "Ljava/util/List;" ∈ lw_g := List.mem_filter.mpr ⟨List.mem_append_right _ (List.mem_of_getElem? (i := 191) (by decide +kernel)), rfl⟩
theorem tw_192 : Cond.lays "java/util/NoSuchElementException" "java/lang/Throwable" "detailMessage" "Ljava/lang/String;" ∈ lw_g := List.mem_filter.mpr ⟨List.mem_append_right _ (List.mem_of_getElem? (i := 192) (by decide +kernel)), rfl⟩
theorem tw_193 : Cond.lays "java/util/NoSuchElementException" "java/lang/Throwable" "backtrace" "Ljava/lang/Object;" ∈ lw_g := List.mem_filter.mpr ⟨List.mem_append_right _ (List.mem_of_getElem? (i := 193) (by decide +kernel)), rfl⟩
theorem tw_194 : Cond.methodLink "LevelTree" 64 ⟨"java/util/NoSuchElementException", "<init>", "()V"⟩ ∈ lw_g := List.mem_filter.mpr ⟨List.mem_append_right _ (List.mem_of_getElem? (i := 194) (by decide +kernel)), rfl⟩
theorem tw_195 : Cond.instanceMethod ⟨"java/util/NoSuchElementException", "<init>", "()V"⟩ ∈ lw_g := List.mem_filter.mpr ⟨List.mem_append_right _ (List.mem_of_getElem? (i := 195) (by decide +kernel)), rfl⟩
theorem tw_196 : Cond.code ⟨"java/util/NoSuchElementException", "<init>", "()V"⟩ prog_9_method_1_code 1 none ∈ lw_g := List.mem_filter.mpr ⟨List.mem_append_right _ (List.mem_of_getElem? (i := 196) (by decide +kernel)), rfl⟩
theorem tw_197 : Cond.methodLink "java/util/NoSuchElementException" 1 ⟨"java/lang/RuntimeException", "<init>", "()V"⟩ ∈ lw_g := List.mem_filter.mpr ⟨List.mem_append_right _ (List.mem_of_getElem? (i := 197) (by decide +kernel)), rfl⟩
theorem tw_198 : Cond.lays "java/util/NoSuchElementException" "java/lang/Throwable" "depth" "I" ∈ lw_g := List.mem_filter.mpr ⟨List.mem_append_right _ (List.mem_of_getElem? (i := 198) (by decide +kernel)), rfl⟩
theorem tw_199 : Cond.superclass "java/util/NoSuchElementException" "java/lang/RuntimeException" ∈ lw_g := List.mem_filter.mpr ⟨List.mem_append_right _ (List.mem_of_getElem? (i := 199) (by decide +kernel)), rfl⟩
theorem tw_200 : Cond.methodLink "LevelTree" 65 ⟨"LevelTree", "is", "(II)Z"⟩ ∈ lw_g := List.mem_filter.mpr ⟨List.mem_append_right _ (List.mem_of_getElem? (i := 200) (by decide +kernel)), rfl⟩
theorem tw_201 : Cond.privateMethod ⟨"LevelTree", "is", "(II)Z"⟩ ∈ lw_tbl := List.mem_append_right _ (List.mem_of_getElem? (i := 201) (by decide +kernel))
theorem tw_202 : Cond.instanceMethod ⟨"LevelTree", "is", "(II)Z"⟩ ∈ lw_g := List.mem_filter.mpr ⟨List.mem_append_right _ (List.mem_of_getElem? (i := 202) (by decide +kernel)), rfl⟩
theorem tw_203 : Cond.code ⟨"LevelTree", "is", "(II)Z"⟩ prog_1_method_8_code 3 (some .boolean) ∈ lw_g := List.mem_filter.mpr ⟨List.mem_append_right _ (List.mem_of_getElem? (i := 203) (by decide +kernel)), rfl⟩
theorem tw_204 : Cond.methodLink "LevelTree" 59 ⟨"LevelTree", "ones", "(II)I"⟩ ∈ lw_g := List.mem_filter.mpr ⟨List.mem_append_right _ (List.mem_of_getElem? (i := 204) (by decide +kernel)), rfl⟩
theorem tw_205 : Cond.privateMethod ⟨"LevelTree", "ones", "(II)I"⟩ ∈ lw_tbl := List.mem_append_right _ (List.mem_of_getElem? (i := 205) (by decide +kernel))
theorem tw_206 : Cond.instanceMethod ⟨"LevelTree", "ones", "(II)I"⟩ ∈ lw_g := List.mem_filter.mpr ⟨List.mem_append_right _ (List.mem_of_getElem? (i := 206) (by decide +kernel)), rfl⟩
theorem tw_207 : Cond.code ⟨"LevelTree", "ones", "(II)I"⟩ prog_1_method_7_code 3 (some .int) ∈ lw_g := List.mem_filter.mpr ⟨List.mem_append_right _ (List.mem_of_getElem? (i := 207) (by decide +kernel)), rfl⟩
theorem tw_208 : Cond.methodLink "LevelTreeLaw" 76 ⟨"LevelTreeLaw", "often", "(LLevelTree;III[J)I"⟩ ∈ lw_g := List.mem_filter.mpr ⟨List.mem_append_right _ (List.mem_of_getElem? (i := 208) (by decide +kernel)), rfl⟩
theorem tw_209 : Cond.static ⟨"LevelTreeLaw", "often", "(LLevelTree;III[J)I"⟩ ∈ lw_g := List.mem_filter.mpr ⟨List.mem_append_right _ (List.mem_of_getElem? (i := 209) (by decide +kernel)), rfl⟩
theorem tw_210 : Cond.codeWith ⟨"LevelTreeLaw", "often", "(LLevelTree;III[J)I"⟩ method_6_code 6 (some .int) [(0, 12, 15, 19)] ∈ lw_g := List.mem_filter.mpr ⟨List.mem_append_right _ (List.mem_of_getElem? (i := 210) (by decide +kernel)), rfl⟩
theorem tw_211 : Cond.methodLink "LevelTreeLaw" 26 ⟨"LevelTree", "often", "(III)I"⟩ ∈ lw_g := List.mem_filter.mpr ⟨List.mem_append_right _ (List.mem_of_getElem? (i := 211) (by decide +kernel)), rfl⟩
theorem tw_212 : Cond.instanceMethod ⟨"LevelTree", "often", "(III)I"⟩ ∈ lw_g := List.mem_filter.mpr ⟨List.mem_append_right _ (List.mem_of_getElem? (i := 212) (by decide +kernel)), rfl⟩
theorem tw_213 : Cond.selects "LevelTree" ⟨"LevelTree", "often", "(III)I"⟩ ⟨"LevelTree", "often", "(III)I"⟩ ∈ lw_g := List.mem_filter.mpr ⟨List.mem_append_right _ (List.mem_of_getElem? (i := 213) (by decide +kernel)), rfl⟩
theorem tw_214 : Cond.code ⟨"LevelTree", "often", "(III)I"⟩ prog_1_method_14_code 5 (some .int) ∈ lw_g := List.mem_filter.mpr ⟨List.mem_append_right _ (List.mem_of_getElem? (i := 214) (by decide +kernel)), rfl⟩
theorem tw_215 : Cond.methodLink "LevelTree" 75 ⟨"LevelTree", "number", "(II)V"⟩ ∈ lw_g := List.mem_filter.mpr ⟨List.mem_append_right _ (List.mem_of_getElem? (i := 215) (by decide +kernel)), rfl⟩
theorem tw_216 : Cond.static ⟨"LevelTree", "number", "(II)V"⟩ ∈ lw_g := List.mem_filter.mpr ⟨List.mem_append_right _ (List.mem_of_getElem? (i := 216) (by decide +kernel)), rfl⟩
theorem tw_217 : Cond.code ⟨"LevelTree", "number", "(II)V"⟩ prog_1_method_12_code 2 none ∈ lw_g := List.mem_filter.mpr ⟨List.mem_append_right _ (List.mem_of_getElem? (i := 217) (by decide +kernel)), rfl⟩
theorem tw_218 : Cond.methodLink "LevelTree" 78 ⟨"LevelTree", "part", "(II)V"⟩ ∈ lw_g := List.mem_filter.mpr ⟨List.mem_append_right _ (List.mem_of_getElem? (i := 218) (by decide +kernel)), rfl⟩
theorem tw_219 : Cond.privateMethod ⟨"LevelTree", "part", "(II)V"⟩ ∈ lw_tbl := List.mem_append_right _ (List.mem_of_getElem? (i := 219) (by decide +kernel))
theorem tw_220 : Cond.instanceMethod ⟨"LevelTree", "part", "(II)V"⟩ ∈ lw_g := List.mem_filter.mpr ⟨List.mem_append_right _ (List.mem_of_getElem? (i := 220) (by decide +kernel)), rfl⟩
theorem tw_221 : Cond.code ⟨"LevelTree", "part", "(II)V"⟩ prog_1_method_11_code 3 none ∈ lw_g := List.mem_filter.mpr ⟨List.mem_append_right _ (List.mem_of_getElem? (i := 221) (by decide +kernel)), rfl⟩
theorem tw_222 : Cond.methodLink "LevelTree" 81 ⟨"LevelTree", "down", "(IZ)V"⟩ ∈ lw_g := List.mem_filter.mpr ⟨List.mem_append_right _ (List.mem_of_getElem? (i := 222) (by decide +kernel)), rfl⟩
theorem tw_223 : Cond.privateMethod ⟨"LevelTree", "down", "(IZ)V"⟩ ∈ lw_tbl := List.mem_append_right _ (List.mem_of_getElem? (i := 223) (by decide +kernel))
theorem tw_224 : Cond.instanceMethod ⟨"LevelTree", "down", "(IZ)V"⟩ ∈ lw_g := List.mem_filter.mpr ⟨List.mem_append_right _ (List.mem_of_getElem? (i := 224) (by decide +kernel)), rfl⟩
theorem tw_225 : Cond.code ⟨"LevelTree", "down", "(IZ)V"⟩ prog_1_method_13_code 5 none ∈ lw_g := List.mem_filter.mpr ⟨List.mem_append_right _ (List.mem_of_getElem? (i := 225) (by decide +kernel)), rfl⟩
theorem tw_226 : Cond.methodLink "LevelTreeLaw" 79 ⟨"LevelTreeLaw", "place", "(LLevelTree;II[J)I"⟩ ∈ lw_g := List.mem_filter.mpr ⟨List.mem_append_right _ (List.mem_of_getElem? (i := 226) (by decide +kernel)), rfl⟩
theorem tw_227 : Cond.static ⟨"LevelTreeLaw", "place", "(LLevelTree;II[J)I"⟩ ∈ lw_g := List.mem_filter.mpr ⟨List.mem_append_right _ (List.mem_of_getElem? (i := 227) (by decide +kernel)), rfl⟩
theorem tw_228 : Cond.codeWith ⟨"LevelTreeLaw", "place", "(LLevelTree;II[J)I"⟩ method_7_code 5 (some .int) [(0, 10, 13, 19), (0, 10, 17, 24)] ∈ lw_g := List.mem_filter.mpr ⟨List.mem_append_right _ (List.mem_of_getElem? (i := 228) (by decide +kernel)), rfl⟩
theorem tw_229 : Cond.methodLink "LevelTreeLaw" 29 ⟨"LevelTree", "place", "(II)I"⟩ ∈ lw_g := List.mem_filter.mpr ⟨List.mem_append_right _ (List.mem_of_getElem? (i := 229) (by decide +kernel)), rfl⟩
theorem tw_230 : Cond.instanceMethod ⟨"LevelTree", "place", "(II)I"⟩ ∈ lw_g := List.mem_filter.mpr ⟨List.mem_append_right _ (List.mem_of_getElem? (i := 230) (by decide +kernel)), rfl⟩
theorem tw_231 : Cond.selects "LevelTree" ⟨"LevelTree", "place", "(II)I"⟩ ⟨"LevelTree", "place", "(II)I"⟩ ∈ lw_g := List.mem_filter.mpr ⟨List.mem_append_right _ (List.mem_of_getElem? (i := 231) (by decide +kernel)), rfl⟩
theorem tw_232 : Cond.code ⟨"LevelTree", "place", "(II)I"⟩ prog_1_method_15_code 6 (some .int) ∈ lw_g := List.mem_filter.mpr ⟨List.mem_append_right _ (List.mem_of_getElem? (i := 232) (by decide +kernel)), rfl⟩
theorem tw_233 : Cond.methodLink "LevelTree" 85 ⟨"LevelTree", "often", "(III)I"⟩ ∈ lw_g := List.mem_filter.mpr ⟨List.mem_append_right _ (List.mem_of_getElem? (i := 233) (by decide +kernel)), rfl⟩
theorem tw_234 : Cond.methodLink "LevelTree" 89 ⟨"LevelTree", "select", "(IZI)I"⟩ ∈ lw_g := List.mem_filter.mpr ⟨List.mem_append_right _ (List.mem_of_getElem? (i := 234) (by decide +kernel)), rfl⟩
theorem tw_235 : Cond.privateMethod ⟨"LevelTree", "select", "(IZI)I"⟩ ∈ lw_tbl := List.mem_append_right _ (List.mem_of_getElem? (i := 235) (by decide +kernel))
theorem tw_236 : Cond.instanceMethod ⟨"LevelTree", "select", "(IZI)I"⟩ ∈ lw_g := List.mem_filter.mpr ⟨List.mem_append_right _ (List.mem_of_getElem? (i := 236) (by decide +kernel)), rfl⟩
theorem tw_237 : Cond.code ⟨"LevelTree", "select", "(IZI)I"⟩ prog_1_method_9_code 8 (some .int) ∈ lw_g := List.mem_filter.mpr ⟨List.mem_append_right _ (List.mem_of_getElem? (i := 237) (by decide +kernel)), rfl⟩
theorem tw_238 : Cond.methodLink "LevelTreeLaw" 83 ⟨"LevelTreeLaw", "least", "(LLevelTree;III[J)I"⟩ ∈ lw_g := List.mem_filter.mpr ⟨List.mem_append_right _ (List.mem_of_getElem? (i := 238) (by decide +kernel)), rfl⟩
theorem tw_239 : Cond.static ⟨"LevelTreeLaw", "least", "(LLevelTree;III[J)I"⟩ ∈ lw_g := List.mem_filter.mpr ⟨List.mem_append_right _ (List.mem_of_getElem? (i := 239) (by decide +kernel)), rfl⟩
theorem tw_240 : Cond.codeWith ⟨"LevelTreeLaw", "least", "(LLevelTree;III[J)I"⟩ method_8_code 6 (some .int) [(0, 12, 15, 19), (0, 12, 19, 24)] ∈ lw_g := List.mem_filter.mpr ⟨List.mem_append_right _ (List.mem_of_getElem? (i := 240) (by decide +kernel)), rfl⟩
theorem tw_241 : Cond.methodLink "LevelTreeLaw" 33 ⟨"LevelTree", "least", "(III)I"⟩ ∈ lw_g := List.mem_filter.mpr ⟨List.mem_append_right _ (List.mem_of_getElem? (i := 241) (by decide +kernel)), rfl⟩
theorem tw_242 : Cond.instanceMethod ⟨"LevelTree", "least", "(III)I"⟩ ∈ lw_g := List.mem_filter.mpr ⟨List.mem_append_right _ (List.mem_of_getElem? (i := 242) (by decide +kernel)), rfl⟩
theorem tw_243 : Cond.selects "LevelTree" ⟨"LevelTree", "least", "(III)I"⟩ ⟨"LevelTree", "least", "(III)I"⟩ ∈ lw_g := List.mem_filter.mpr ⟨List.mem_append_right _ (List.mem_of_getElem? (i := 243) (by decide +kernel)), rfl⟩
theorem tw_244 : Cond.code ⟨"LevelTree", "least", "(III)I"⟩ prog_1_method_16_code 4 (some .int) ∈ lw_g := List.mem_filter.mpr ⟨List.mem_append_right _ (List.mem_of_getElem? (i := 244) (by decide +kernel)), rfl⟩
theorem tw_245 : Cond.methodLink "LevelTree" 93 ⟨"LevelTree", "quantile", "(III)I"⟩ ∈ lw_g := List.mem_filter.mpr ⟨List.mem_append_right _ (List.mem_of_getElem? (i := 245) (by decide +kernel)), rfl⟩
theorem tw_246 : Cond.privateMethod ⟨"LevelTree", "quantile", "(III)I"⟩ ∈ lw_tbl := List.mem_append_right _ (List.mem_of_getElem? (i := 246) (by decide +kernel))
theorem tw_247 : Cond.instanceMethod ⟨"LevelTree", "quantile", "(III)I"⟩ ∈ lw_g := List.mem_filter.mpr ⟨List.mem_append_right _ (List.mem_of_getElem? (i := 247) (by decide +kernel)), rfl⟩
theorem tw_248 : Cond.code ⟨"LevelTree", "quantile", "(III)I"⟩ prog_1_method_17_code 9 (some .int) ∈ lw_g := List.mem_filter.mpr ⟨List.mem_append_right _ (List.mem_of_getElem? (i := 248) (by decide +kernel)), rfl⟩
theorem tw_249 : Cond.methodLink "LevelTreeLaw" 86 ⟨"LevelTreeLaw", "below", "(LLevelTree;III[J)I"⟩ ∈ lw_g := List.mem_filter.mpr ⟨List.mem_append_right _ (List.mem_of_getElem? (i := 249) (by decide +kernel)), rfl⟩
theorem tw_250 : Cond.static ⟨"LevelTreeLaw", "below", "(LLevelTree;III[J)I"⟩ ∈ lw_g := List.mem_filter.mpr ⟨List.mem_append_right _ (List.mem_of_getElem? (i := 250) (by decide +kernel)), rfl⟩
theorem tw_251 : Cond.codeWith ⟨"LevelTreeLaw", "below", "(LLevelTree;III[J)I"⟩ method_9_code 6 (some .int) [(0, 12, 15, 19)] ∈ lw_g := List.mem_filter.mpr ⟨List.mem_append_right _ (List.mem_of_getElem? (i := 251) (by decide +kernel)), rfl⟩
theorem tw_252 : Cond.methodLink "LevelTreeLaw" 36 ⟨"LevelTree", "below", "(III)I"⟩ ∈ lw_g := List.mem_filter.mpr ⟨List.mem_append_right _ (List.mem_of_getElem? (i := 252) (by decide +kernel)), rfl⟩
theorem tw_253 : Cond.instanceMethod ⟨"LevelTree", "below", "(III)I"⟩ ∈ lw_g := List.mem_filter.mpr ⟨List.mem_append_right _ (List.mem_of_getElem? (i := 253) (by decide +kernel)), rfl⟩
theorem tw_254 : Cond.selects "LevelTree" ⟨"LevelTree", "below", "(III)I"⟩ ⟨"LevelTree", "below", "(III)I"⟩ ∈ lw_g := List.mem_filter.mpr ⟨List.mem_append_right _ (List.mem_of_getElem? (i := 254) (by decide +kernel)), rfl⟩
theorem tw_255 : Cond.code ⟨"LevelTree", "below", "(III)I"⟩ prog_1_method_18_code 7 (some .int) ∈ lw_g := List.mem_filter.mpr ⟨List.mem_append_right _ (List.mem_of_getElem? (i := 255) (by decide +kernel)), rfl⟩
theorem tw_256 : Cond.methodLink "LevelTreeLaw" 89 ⟨"LevelTreeLaw", "different", "(LLevelTree;II[J)I"⟩ ∈ lw_g := List.mem_filter.mpr ⟨List.mem_append_right _ (List.mem_of_getElem? (i := 256) (by decide +kernel)), rfl⟩
theorem tw_257 : Cond.static ⟨"LevelTreeLaw", "different", "(LLevelTree;II[J)I"⟩ ∈ lw_g := List.mem_filter.mpr ⟨List.mem_append_right _ (List.mem_of_getElem? (i := 257) (by decide +kernel)), rfl⟩
theorem tw_258 : Cond.codeWith ⟨"LevelTreeLaw", "different", "(LLevelTree;II[J)I"⟩ method_10_code 5 (some .int) [(0, 10, 13, 19)] ∈ lw_g := List.mem_filter.mpr ⟨List.mem_append_right _ (List.mem_of_getElem? (i := 258) (by decide +kernel)), rfl⟩
theorem tw_259 : Cond.methodLink "LevelTreeLaw" 39 ⟨"LevelTree", "different", "(II)I"⟩ ∈ lw_g := List.mem_filter.mpr ⟨List.mem_append_right _ (List.mem_of_getElem? (i := 259) (by decide +kernel)), rfl⟩
theorem tw_260 : Cond.instanceMethod ⟨"LevelTree", "different", "(II)I"⟩ ∈ lw_g := List.mem_filter.mpr ⟨List.mem_append_right _ (List.mem_of_getElem? (i := 260) (by decide +kernel)), rfl⟩
theorem tw_261 : Cond.selects "LevelTree" ⟨"LevelTree", "different", "(II)I"⟩ ⟨"LevelTree", "different", "(II)I"⟩ ∈ lw_g := List.mem_filter.mpr ⟨List.mem_append_right _ (List.mem_of_getElem? (i := 261) (by decide +kernel)), rfl⟩
theorem tw_262 : Cond.code ⟨"LevelTree", "different", "(II)I"⟩ prog_1_method_19_code 3 (some .int) ∈ lw_g := List.mem_filter.mpr ⟨List.mem_append_right _ (List.mem_of_getElem? (i := 262) (by decide +kernel)), rfl⟩
theorem tw_263 : Cond.methodLink "LevelTree" 99 ⟨"LevelTree", "list", "(IIII)V"⟩ ∈ lw_g := List.mem_filter.mpr ⟨List.mem_append_right _ (List.mem_of_getElem? (i := 263) (by decide +kernel)), rfl⟩
theorem tw_264 : Cond.privateMethod ⟨"LevelTree", "list", "(IIII)V"⟩ ∈ lw_tbl := List.mem_append_right _ (List.mem_of_getElem? (i := 264) (by decide +kernel))
theorem tw_265 : Cond.instanceMethod ⟨"LevelTree", "list", "(IIII)V"⟩ ∈ lw_g := List.mem_filter.mpr ⟨List.mem_append_right _ (List.mem_of_getElem? (i := 265) (by decide +kernel)), rfl⟩
theorem tw_266 : Cond.code ⟨"LevelTree", "list", "(IIII)V"⟩ prog_1_method_20_code 7 none ∈ lw_g := List.mem_filter.mpr ⟨List.mem_append_right _ (List.mem_of_getElem? (i := 266) (by decide +kernel)), rfl⟩
theorem tw_267 : Cond.methodLink "LevelTreeLaw" 92 ⟨"LevelTreeLaw", "number", "(LLevelTree;I[J)I"⟩ ∈ lw_g := List.mem_filter.mpr ⟨List.mem_append_right _ (List.mem_of_getElem? (i := 267) (by decide +kernel)), rfl⟩
theorem tw_268 : Cond.static ⟨"LevelTreeLaw", "number", "(LLevelTree;I[J)I"⟩ ∈ lw_g := List.mem_filter.mpr ⟨List.mem_append_right _ (List.mem_of_getElem? (i := 268) (by decide +kernel)), rfl⟩
theorem tw_269 : Cond.codeWith ⟨"LevelTreeLaw", "number", "(LLevelTree;I[J)I"⟩ method_11_code 4 (some .int) [(0, 9, 12, 24)] ∈ lw_g := List.mem_filter.mpr ⟨List.mem_append_right _ (List.mem_of_getElem? (i := 269) (by decide +kernel)), rfl⟩
theorem tw_270 : Cond.methodLink "LevelTreeLaw" 42 ⟨"LevelTree", "number", "(I)I"⟩ ∈ lw_g := List.mem_filter.mpr ⟨List.mem_append_right _ (List.mem_of_getElem? (i := 270) (by decide +kernel)), rfl⟩
theorem tw_271 : Cond.instanceMethod ⟨"LevelTree", "number", "(I)I"⟩ ∈ lw_g := List.mem_filter.mpr ⟨List.mem_append_right _ (List.mem_of_getElem? (i := 271) (by decide +kernel)), rfl⟩
theorem tw_272 : Cond.selects "LevelTree" ⟨"LevelTree", "number", "(I)I"⟩ ⟨"LevelTree", "number", "(I)I"⟩ ∈ lw_g := List.mem_filter.mpr ⟨List.mem_append_right _ (List.mem_of_getElem? (i := 272) (by decide +kernel)), rfl⟩
theorem tw_273 : Cond.code ⟨"LevelTree", "number", "(I)I"⟩ prog_1_method_21_code 2 (some .int) ∈ lw_g := List.mem_filter.mpr ⟨List.mem_append_right _ (List.mem_of_getElem? (i := 273) (by decide +kernel)), rfl⟩
theorem tw_274 : Cond.methodLink "LevelTreeLaw" 95 ⟨"LevelTreeLaw", "before", "(LLevelTree;III[J)I"⟩ ∈ lw_g := List.mem_filter.mpr ⟨List.mem_append_right _ (List.mem_of_getElem? (i := 274) (by decide +kernel)), rfl⟩
theorem tw_275 : Cond.static ⟨"LevelTreeLaw", "before", "(LLevelTree;III[J)I"⟩ ∈ lw_g := List.mem_filter.mpr ⟨List.mem_append_right _ (List.mem_of_getElem? (i := 275) (by decide +kernel)), rfl⟩
theorem tw_276 : Cond.codeWith ⟨"LevelTreeLaw", "before", "(LLevelTree;III[J)I"⟩ method_12_code 6 (some .int) [(0, 12, 15, 19)] ∈ lw_g := List.mem_filter.mpr ⟨List.mem_append_right _ (List.mem_of_getElem? (i := 276) (by decide +kernel)), rfl⟩
theorem tw_277 : Cond.methodLink "LevelTreeLaw" 45 ⟨"LevelTree", "before", "(III)I"⟩ ∈ lw_g := List.mem_filter.mpr ⟨List.mem_append_right _ (List.mem_of_getElem? (i := 277) (by decide +kernel)), rfl⟩
theorem tw_278 : Cond.instanceMethod ⟨"LevelTree", "before", "(III)I"⟩ ∈ lw_g := List.mem_filter.mpr ⟨List.mem_append_right _ (List.mem_of_getElem? (i := 278) (by decide +kernel)), rfl⟩
theorem tw_279 : Cond.selects "LevelTree" ⟨"LevelTree", "before", "(III)I"⟩ ⟨"LevelTree", "before", "(III)I"⟩ ∈ lw_g := List.mem_filter.mpr ⟨List.mem_append_right _ (List.mem_of_getElem? (i := 279) (by decide +kernel)), rfl⟩
theorem tw_280 : Cond.code ⟨"LevelTree", "before", "(III)I"⟩ prog_1_method_22_code 5 (some .int) ∈ lw_g := List.mem_filter.mpr ⟨List.mem_append_right _ (List.mem_of_getElem? (i := 280) (by decide +kernel)), rfl⟩
theorem tw_281 : Cond.methodLink "LevelTree" 103 ⟨"LevelTree", "below", "(III)I"⟩ ∈ lw_g := List.mem_filter.mpr ⟨List.mem_append_right _ (List.mem_of_getElem? (i := 281) (by decide +kernel)), rfl⟩
theorem tw_282 : Cond.methodLink "LevelTreeLaw" 98 ⟨"LevelTreeLaw", "most", "(LLevelTree;II[J)I"⟩ ∈ lw_g := List.mem_filter.mpr ⟨List.mem_append_right _ (List.mem_of_getElem? (i := 282) (by decide +kernel)), rfl⟩
theorem tw_283 : Cond.static ⟨"LevelTreeLaw", "most", "(LLevelTree;II[J)I"⟩ ∈ lw_g := List.mem_filter.mpr ⟨List.mem_append_right _ (List.mem_of_getElem? (i := 283) (by decide +kernel)), rfl⟩
theorem tw_284 : Cond.codeWith ⟨"LevelTreeLaw", "most", "(LLevelTree;II[J)I"⟩ method_13_code 5 (some .int) [(0, 10, 13, 19)] ∈ lw_g := List.mem_filter.mpr ⟨List.mem_append_right _ (List.mem_of_getElem? (i := 284) (by decide +kernel)), rfl⟩
theorem tw_285 : Cond.methodLink "LevelTreeLaw" 48 ⟨"LevelTree", "most", "(II)I"⟩ ∈ lw_g := List.mem_filter.mpr ⟨List.mem_append_right _ (List.mem_of_getElem? (i := 285) (by decide +kernel)), rfl⟩
theorem tw_286 : Cond.instanceMethod ⟨"LevelTree", "most", "(II)I"⟩ ∈ lw_g := List.mem_filter.mpr ⟨List.mem_append_right _ (List.mem_of_getElem? (i := 286) (by decide +kernel)), rfl⟩
theorem tw_287 : Cond.selects "LevelTree" ⟨"LevelTree", "most", "(II)I"⟩ ⟨"LevelTree", "most", "(II)I"⟩ ∈ lw_g := List.mem_filter.mpr ⟨List.mem_append_right _ (List.mem_of_getElem? (i := 287) (by decide +kernel)), rfl⟩
theorem tw_288 : Cond.code ⟨"LevelTree", "most", "(II)I"⟩ prog_1_method_23_code 3 (some .int) ∈ lw_g := List.mem_filter.mpr ⟨List.mem_append_right _ (List.mem_of_getElem? (i := 288) (by decide +kernel)), rfl⟩
theorem tw_289 : Cond.methodLink "LevelTree" 112 ⟨"LevelTree", "frequent", "(IIII)V"⟩ ∈ lw_g := List.mem_filter.mpr ⟨List.mem_append_right _ (List.mem_of_getElem? (i := 289) (by decide +kernel)), rfl⟩
theorem tw_290 : Cond.privateMethod ⟨"LevelTree", "frequent", "(IIII)V"⟩ ∈ lw_tbl := List.mem_append_right _ (List.mem_of_getElem? (i := 290) (by decide +kernel))
theorem tw_291 : Cond.instanceMethod ⟨"LevelTree", "frequent", "(IIII)V"⟩ ∈ lw_g := List.mem_filter.mpr ⟨List.mem_append_right _ (List.mem_of_getElem? (i := 291) (by decide +kernel)), rfl⟩
theorem tw_292 : Cond.code ⟨"LevelTree", "frequent", "(IIII)V"⟩ prog_1_method_24_code 7 none ∈ lw_g := List.mem_filter.mpr ⟨List.mem_append_right _ (List.mem_of_getElem? (i := 292) (by decide +kernel)), rfl⟩
theorem tw_293 : Cond.classLink "LevelTreeLaw" 52 "LevelTreeModel" ∈ lw_g := List.mem_filter.mpr ⟨List.mem_append_right _ (List.mem_of_getElem? (i := 293) (by decide +kernel)), rfl⟩
theorem tw_294 : Cond.instantiable "LevelTreeModel" 9 ∈ lw_g := List.mem_filter.mpr ⟨List.mem_append_right _ (List.mem_of_getElem? (i := 294) (by decide +kernel)), rfl⟩
theorem tw_295 : Cond.methodLink "LevelTreeLaw" 54 ⟨"LevelTreeModel", "<init>", "()V"⟩ ∈ lw_g := List.mem_filter.mpr ⟨List.mem_append_right _ (List.mem_of_getElem? (i := 295) (by decide +kernel)), rfl⟩
theorem tw_296 : Cond.instanceMethod ⟨"LevelTreeModel", "<init>", "()V"⟩ ∈ lw_g := List.mem_filter.mpr ⟨List.mem_append_right _ (List.mem_of_getElem? (i := 296) (by decide +kernel)), rfl⟩
theorem tw_297 : Cond.code ⟨"LevelTreeModel", "<init>", "()V"⟩ prog_3_method_1_code 1 none ∈ lw_g := List.mem_filter.mpr ⟨List.mem_append_right _ (List.mem_of_getElem? (i := 297) (by decide +kernel)), rfl⟩
theorem tw_298 : Cond.methodLink "LevelTreeModel" 1 ⟨"java/lang/Object", "<init>", "()V"⟩ ∈ lw_g := List.mem_filter.mpr ⟨List.mem_append_right _ (List.mem_of_getElem? (i := 298) (by decide +kernel)), rfl⟩
theorem tw_299 : Cond.fieldLink "LevelTreeModel" 7 "LevelTreeModel" "thrown" "I" ∈ lw_g := List.mem_filter.mpr ⟨List.mem_append_right _ (List.mem_of_getElem? (i := 299) (by decide +kernel)), rfl⟩
theorem tw_300 : Cond.fieldLink "LevelTreeModel" 13 "LevelTreeModel" "row" "[I" ∈ lw_g := List.mem_filter.mpr ⟨List.mem_append_right _ (List.mem_of_getElem? (i := 300) (by decide +kernel)), rfl⟩
theorem tw_301 : Cond.fieldLink "LevelTreeModel" 17 "LevelTreeModel" "tree" "[I" ∈ lw_g := List.mem_filter.mpr ⟨List.mem_append_right _ (List.mem_of_getElem? (i := 301) (by decide +kernel)), rfl⟩
theorem tw_302 : Cond.fieldLink "LevelTreeModel" 20 "LevelTreeModel" "counts" "[I" ∈ lw_g := List.mem_filter.mpr ⟨List.mem_append_right _ (List.mem_of_getElem? (i := 302) (by decide +kernel)), rfl⟩
theorem tw_303 : Cond.fieldLink "LevelTreeModel" 23 "LevelTreeModel" "told" "[I" ∈ lw_g := List.mem_filter.mpr ⟨List.mem_append_right _ (List.mem_of_getElem? (i := 303) (by decide +kernel)), rfl⟩
theorem tw_304 : Cond.fieldLink "LevelTreeModel" 26 "LevelTreeModel" "toldOften" "[I" ∈ lw_g := List.mem_filter.mpr ⟨List.mem_append_right _ (List.mem_of_getElem? (i := 304) (by decide +kernel)), rfl⟩
theorem tw_305 : Cond.fieldLink "LevelTreeModel" 29 "LevelTreeModel" "size" "I" ∈ lw_g := List.mem_filter.mpr ⟨List.mem_append_right _ (List.mem_of_getElem? (i := 305) (by decide +kernel)), rfl⟩
theorem tw_306 : Cond.fieldLink "LevelTreeModel" 32 "LevelTreeModel" "built" "I" ∈ lw_g := List.mem_filter.mpr ⟨List.mem_append_right _ (List.mem_of_getElem? (i := 306) (by decide +kernel)), rfl⟩
theorem tw_307 : Cond.fieldLink "LevelTreeModel" 35 "LevelTreeModel" "tolds" "I" ∈ lw_g := List.mem_filter.mpr ⟨List.mem_append_right _ (List.mem_of_getElem? (i := 307) (by decide +kernel)), rfl⟩
theorem tw_308 : Cond.lays "LevelTreeModel" "LevelTreeModel" "thrown" "I" ∈ lw_g := List.mem_filter.mpr ⟨List.mem_append_right _ (List.mem_of_getElem? (i := 308) (by decide +kernel)), rfl⟩
theorem tw_309 : Cond.soleField "LevelTreeModel" "thrown" ∈ lw_g := List.mem_filter.mpr ⟨List.mem_append_right _ (List.mem_of_getElem? (i := 309) (by decide +kernel)), rfl⟩
theorem tw_310 : Cond.laysFinal "LevelTreeModel" "LevelTreeModel" "row" "[I" ∈ lw_g := List.mem_filter.mpr ⟨List.mem_append_right _ (List.mem_of_getElem? (i := 310) (by decide +kernel)), rfl⟩
theorem tw_311 : Cond.soleField "LevelTreeModel" "row" ∈ lw_g := List.mem_filter.mpr ⟨List.mem_append_right _ (List.mem_of_getElem? (i := 311) (by decide +kernel)), rfl⟩
theorem tw_312 : Cond.laysFinal "LevelTreeModel" "LevelTreeModel" "tree" "[I" ∈ lw_g := List.mem_filter.mpr ⟨List.mem_append_right _ (List.mem_of_getElem? (i := 312) (by decide +kernel)), rfl⟩
theorem tw_313 : Cond.soleField "LevelTreeModel" "tree" ∈ lw_g := List.mem_filter.mpr ⟨List.mem_append_right _ (List.mem_of_getElem? (i := 313) (by decide +kernel)), rfl⟩
theorem tw_314 : Cond.laysFinal "LevelTreeModel" "LevelTreeModel" "counts" "[I" ∈ lw_g := List.mem_filter.mpr ⟨List.mem_append_right _ (List.mem_of_getElem? (i := 314) (by decide +kernel)), rfl⟩
theorem tw_315 : Cond.soleField "LevelTreeModel" "counts" ∈ lw_g := List.mem_filter.mpr ⟨List.mem_append_right _ (List.mem_of_getElem? (i := 315) (by decide +kernel)), rfl⟩
theorem tw_316 : Cond.laysFinal "LevelTreeModel" "LevelTreeModel" "told" "[I" ∈ lw_g := List.mem_filter.mpr ⟨List.mem_append_right _ (List.mem_of_getElem? (i := 316) (by decide +kernel)), rfl⟩
theorem tw_317 : Cond.soleField "LevelTreeModel" "told" ∈ lw_g := List.mem_filter.mpr ⟨List.mem_append_right _ (List.mem_of_getElem? (i := 317) (by decide +kernel)), rfl⟩
theorem tw_318 : Cond.laysFinal "LevelTreeModel" "LevelTreeModel" "toldOften" "[I" ∈ lw_g := List.mem_filter.mpr ⟨List.mem_append_right _ (List.mem_of_getElem? (i := 318) (by decide +kernel)), rfl⟩
theorem tw_319 : Cond.soleField "LevelTreeModel" "toldOften" ∈ lw_g := List.mem_filter.mpr ⟨List.mem_append_right _ (List.mem_of_getElem? (i := 319) (by decide +kernel)), rfl⟩
theorem tw_320 : Cond.lays "LevelTreeModel" "LevelTreeModel" "size" "I" ∈ lw_g := List.mem_filter.mpr ⟨List.mem_append_right _ (List.mem_of_getElem? (i := 320) (by decide +kernel)), rfl⟩
theorem tw_321 : Cond.soleField "LevelTreeModel" "size" ∈ lw_g := List.mem_filter.mpr ⟨List.mem_append_right _ (List.mem_of_getElem? (i := 321) (by decide +kernel)), rfl⟩
theorem tw_322 : Cond.lays "LevelTreeModel" "LevelTreeModel" "built" "I" ∈ lw_g := List.mem_filter.mpr ⟨List.mem_append_right _ (List.mem_of_getElem? (i := 322) (by decide +kernel)), rfl⟩
theorem tw_323 : Cond.soleField "LevelTreeModel" "built" ∈ lw_g := List.mem_filter.mpr ⟨List.mem_append_right _ (List.mem_of_getElem? (i := 323) (by decide +kernel)), rfl⟩
theorem tw_324 : Cond.lays "LevelTreeModel" "LevelTreeModel" "tolds" "I" ∈ lw_g := List.mem_filter.mpr ⟨List.mem_append_right _ (List.mem_of_getElem? (i := 324) (by decide +kernel)), rfl⟩
theorem tw_325 : Cond.soleField "LevelTreeModel" "tolds" ∈ lw_g := List.mem_filter.mpr ⟨List.mem_append_right _ (List.mem_of_getElem? (i := 325) (by decide +kernel)), rfl⟩
theorem tw_326 : Cond.superclass "LevelTreeModel" "java/lang/Object" ∈ lw_g := List.mem_filter.mpr ⟨List.mem_append_right _ (List.mem_of_getElem? (i := 326) (by decide +kernel)), rfl⟩
theorem tw_327 : Cond.methodLink "LevelTreeLaw" 61 ⟨"LevelTreeModel", "thrown", "()I"⟩ ∈ lw_g := List.mem_filter.mpr ⟨List.mem_append_right _ (List.mem_of_getElem? (i := 327) (by decide +kernel)), rfl⟩
theorem tw_328 : Cond.instanceMethod ⟨"LevelTreeModel", "thrown", "()I"⟩ ∈ lw_g := List.mem_filter.mpr ⟨List.mem_append_right _ (List.mem_of_getElem? (i := 328) (by decide +kernel)), rfl⟩
theorem tw_329 : Cond.selects "LevelTreeModel" ⟨"LevelTreeModel", "thrown", "()I"⟩ ⟨"LevelTreeModel", "thrown", "()I"⟩ ∈ lw_g := List.mem_filter.mpr ⟨List.mem_append_right _ (List.mem_of_getElem? (i := 329) (by decide +kernel)), rfl⟩
theorem tw_330 : Cond.code ⟨"LevelTreeModel", "thrown", "()I"⟩ prog_3_method_2_code 1 (some .int) ∈ lw_g := List.mem_filter.mpr ⟨List.mem_append_right _ (List.mem_of_getElem? (i := 330) (by decide +kernel)), rfl⟩
theorem tw_331 : Cond.methodLink "LevelTreeLaw" 60 ⟨"LevelTreeModel", "add", "(III)I"⟩ ∈ lw_g := List.mem_filter.mpr ⟨List.mem_append_right _ (List.mem_of_getElem? (i := 331) (by decide +kernel)), rfl⟩
theorem tw_332 : Cond.instanceMethod ⟨"LevelTreeModel", "add", "(III)I"⟩ ∈ lw_g := List.mem_filter.mpr ⟨List.mem_append_right _ (List.mem_of_getElem? (i := 332) (by decide +kernel)), rfl⟩
theorem tw_333 : Cond.selects "LevelTreeModel" ⟨"LevelTreeModel", "add", "(III)I"⟩ ⟨"LevelTreeModel", "add", "(III)I"⟩ ∈ lw_g := List.mem_filter.mpr ⟨List.mem_append_right _ (List.mem_of_getElem? (i := 333) (by decide +kernel)), rfl⟩
theorem tw_334 : Cond.code ⟨"LevelTreeModel", "add", "(III)I"⟩ prog_3_method_4_code 4 (some .int) ∈ lw_g := List.mem_filter.mpr ⟨List.mem_append_right _ (List.mem_of_getElem? (i := 334) (by decide +kernel)), rfl⟩
theorem tw_335 : Cond.methodLink "LevelTreeModel" 38 ⟨"LevelTreeModel", "refuse", "(IZ)Z"⟩ ∈ lw_g := List.mem_filter.mpr ⟨List.mem_append_right _ (List.mem_of_getElem? (i := 335) (by decide +kernel)), rfl⟩
theorem tw_336 : Cond.privateMethod ⟨"LevelTreeModel", "refuse", "(IZ)Z"⟩ ∈ lw_tbl := List.mem_append_right _ (List.mem_of_getElem? (i := 336) (by decide +kernel))
theorem tw_337 : Cond.instanceMethod ⟨"LevelTreeModel", "refuse", "(IZ)Z"⟩ ∈ lw_g := List.mem_filter.mpr ⟨List.mem_append_right _ (List.mem_of_getElem? (i := 337) (by decide +kernel)), rfl⟩
theorem tw_338 : Cond.code ⟨"LevelTreeModel", "refuse", "(IZ)Z"⟩ prog_3_method_3_code 3 (some .boolean) ∈ lw_g := List.mem_filter.mpr ⟨List.mem_append_right _ (List.mem_of_getElem? (i := 338) (by decide +kernel)), rfl⟩
theorem tw_339 : Cond.methodLink "LevelTreeLaw" 68 ⟨"LevelTreeModel", "cut", "(I)I"⟩ ∈ lw_g := List.mem_filter.mpr ⟨List.mem_append_right _ (List.mem_of_getElem? (i := 339) (by decide +kernel)), rfl⟩
theorem tw_340 : Cond.instanceMethod ⟨"LevelTreeModel", "cut", "(I)I"⟩ ∈ lw_g := List.mem_filter.mpr ⟨List.mem_append_right _ (List.mem_of_getElem? (i := 340) (by decide +kernel)), rfl⟩
theorem tw_341 : Cond.selects "LevelTreeModel" ⟨"LevelTreeModel", "cut", "(I)I"⟩ ⟨"LevelTreeModel", "cut", "(I)I"⟩ ∈ lw_g := List.mem_filter.mpr ⟨List.mem_append_right _ (List.mem_of_getElem? (i := 341) (by decide +kernel)), rfl⟩
theorem tw_342 : Cond.code ⟨"LevelTreeModel", "cut", "(I)I"⟩ prog_3_method_5_code 2 (some .int) ∈ lw_g := List.mem_filter.mpr ⟨List.mem_append_right _ (List.mem_of_getElem? (i := 342) (by decide +kernel)), rfl⟩
theorem tw_343 : Cond.methodLink "LevelTreeLaw" 72 ⟨"LevelTreeModel", "build", "()I"⟩ ∈ lw_g := List.mem_filter.mpr ⟨List.mem_append_right _ (List.mem_of_getElem? (i := 343) (by decide +kernel)), rfl⟩
theorem tw_344 : Cond.instanceMethod ⟨"LevelTreeModel", "build", "()I"⟩ ∈ lw_g := List.mem_filter.mpr ⟨List.mem_append_right _ (List.mem_of_getElem? (i := 344) (by decide +kernel)), rfl⟩
theorem tw_345 : Cond.selects "LevelTreeModel" ⟨"LevelTreeModel", "build", "()I"⟩ ⟨"LevelTreeModel", "build", "()I"⟩ ∈ lw_g := List.mem_filter.mpr ⟨List.mem_append_right _ (List.mem_of_getElem? (i := 345) (by decide +kernel)), rfl⟩
theorem tw_346 : Cond.code ⟨"LevelTreeModel", "build", "()I"⟩ prog_3_method_6_code 2 (some .int) ∈ lw_g := List.mem_filter.mpr ⟨List.mem_append_right _ (List.mem_of_getElem? (i := 346) (by decide +kernel)), rfl⟩
theorem tw_347 : Cond.methodLink "LevelTreeLaw" 75 ⟨"LevelTreeModel", "at", "(I)I"⟩ ∈ lw_g := List.mem_filter.mpr ⟨List.mem_append_right _ (List.mem_of_getElem? (i := 347) (by decide +kernel)), rfl⟩
theorem tw_348 : Cond.instanceMethod ⟨"LevelTreeModel", "at", "(I)I"⟩ ∈ lw_g := List.mem_filter.mpr ⟨List.mem_append_right _ (List.mem_of_getElem? (i := 348) (by decide +kernel)), rfl⟩
theorem tw_349 : Cond.selects "LevelTreeModel" ⟨"LevelTreeModel", "at", "(I)I"⟩ ⟨"LevelTreeModel", "at", "(I)I"⟩ ∈ lw_g := List.mem_filter.mpr ⟨List.mem_append_right _ (List.mem_of_getElem? (i := 349) (by decide +kernel)), rfl⟩
theorem tw_350 : Cond.code ⟨"LevelTreeModel", "at", "(I)I"⟩ prog_3_method_7_code 2 (some .int) ∈ lw_g := List.mem_filter.mpr ⟨List.mem_append_right _ (List.mem_of_getElem? (i := 350) (by decide +kernel)), rfl⟩
theorem tw_351 : Cond.methodLink "LevelTreeLaw" 78 ⟨"LevelTreeModel", "often", "(III)I"⟩ ∈ lw_g := List.mem_filter.mpr ⟨List.mem_append_right _ (List.mem_of_getElem? (i := 351) (by decide +kernel)), rfl⟩
theorem tw_352 : Cond.instanceMethod ⟨"LevelTreeModel", "often", "(III)I"⟩ ∈ lw_g := List.mem_filter.mpr ⟨List.mem_append_right _ (List.mem_of_getElem? (i := 352) (by decide +kernel)), rfl⟩
theorem tw_353 : Cond.selects "LevelTreeModel" ⟨"LevelTreeModel", "often", "(III)I"⟩ ⟨"LevelTreeModel", "often", "(III)I"⟩ ∈ lw_g := List.mem_filter.mpr ⟨List.mem_append_right _ (List.mem_of_getElem? (i := 353) (by decide +kernel)), rfl⟩
theorem tw_354 : Cond.code ⟨"LevelTreeModel", "often", "(III)I"⟩ prog_3_method_9_code 6 (some .int) ∈ lw_g := List.mem_filter.mpr ⟨List.mem_append_right _ (List.mem_of_getElem? (i := 354) (by decide +kernel)), rfl⟩
theorem tw_355 : Cond.methodLink "LevelTreeModel" 42 ⟨"LevelTreeModel", "noPart", "(IIZ)Z"⟩ ∈ lw_g := List.mem_filter.mpr ⟨List.mem_append_right _ (List.mem_of_getElem? (i := 355) (by decide +kernel)), rfl⟩
theorem tw_356 : Cond.privateMethod ⟨"LevelTreeModel", "noPart", "(IIZ)Z"⟩ ∈ lw_tbl := List.mem_append_right _ (List.mem_of_getElem? (i := 356) (by decide +kernel))
theorem tw_357 : Cond.instanceMethod ⟨"LevelTreeModel", "noPart", "(IIZ)Z"⟩ ∈ lw_g := List.mem_filter.mpr ⟨List.mem_append_right _ (List.mem_of_getElem? (i := 357) (by decide +kernel)), rfl⟩
theorem tw_358 : Cond.code ⟨"LevelTreeModel", "noPart", "(IIZ)Z"⟩ prog_3_method_8_code 4 (some .boolean) ∈ lw_g := List.mem_filter.mpr ⟨List.mem_append_right _ (List.mem_of_getElem? (i := 358) (by decide +kernel)), rfl⟩
theorem tw_359 : Cond.methodLink "LevelTreeLaw" 82 ⟨"LevelTreeModel", "place", "(II)I"⟩ ∈ lw_g := List.mem_filter.mpr ⟨List.mem_append_right _ (List.mem_of_getElem? (i := 359) (by decide +kernel)), rfl⟩
theorem tw_360 : Cond.instanceMethod ⟨"LevelTreeModel", "place", "(II)I"⟩ ∈ lw_g := List.mem_filter.mpr ⟨List.mem_append_right _ (List.mem_of_getElem? (i := 360) (by decide +kernel)), rfl⟩
theorem tw_361 : Cond.selects "LevelTreeModel" ⟨"LevelTreeModel", "place", "(II)I"⟩ ⟨"LevelTreeModel", "place", "(II)I"⟩ ∈ lw_g := List.mem_filter.mpr ⟨List.mem_append_right _ (List.mem_of_getElem? (i := 361) (by decide +kernel)), rfl⟩
theorem tw_362 : Cond.code ⟨"LevelTreeModel", "place", "(II)I"⟩ prog_3_method_10_code 5 (some .int) ∈ lw_g := List.mem_filter.mpr ⟨List.mem_append_right _ (List.mem_of_getElem? (i := 362) (by decide +kernel)), rfl⟩
theorem tw_363 : Cond.methodLink "LevelTreeLaw" 85 ⟨"LevelTreeModel", "least", "(III)I"⟩ ∈ lw_g := List.mem_filter.mpr ⟨List.mem_append_right _ (List.mem_of_getElem? (i := 363) (by decide +kernel)), rfl⟩
theorem tw_364 : Cond.instanceMethod ⟨"LevelTreeModel", "least", "(III)I"⟩ ∈ lw_g := List.mem_filter.mpr ⟨List.mem_append_right _ (List.mem_of_getElem? (i := 364) (by decide +kernel)), rfl⟩
theorem tw_365 : Cond.selects "LevelTreeModel" ⟨"LevelTreeModel", "least", "(III)I"⟩ ⟨"LevelTreeModel", "least", "(III)I"⟩ ∈ lw_g := List.mem_filter.mpr ⟨List.mem_append_right _ (List.mem_of_getElem? (i := 365) (by decide +kernel)), rfl⟩
theorem tw_366 : Cond.code ⟨"LevelTreeModel", "least", "(III)I"⟩ prog_3_method_12_code 6 (some .int) ∈ lw_g := List.mem_filter.mpr ⟨List.mem_append_right _ (List.mem_of_getElem? (i := 366) (by decide +kernel)), rfl⟩
theorem tw_367 : Cond.methodLink "LevelTreeModel" 46 ⟨"LevelTreeModel", "counted", "(II)V"⟩ ∈ lw_g := List.mem_filter.mpr ⟨List.mem_append_right _ (List.mem_of_getElem? (i := 367) (by decide +kernel)), rfl⟩
theorem tw_368 : Cond.privateMethod ⟨"LevelTreeModel", "counted", "(II)V"⟩ ∈ lw_tbl := List.mem_append_right _ (List.mem_of_getElem? (i := 368) (by decide +kernel))
theorem tw_369 : Cond.instanceMethod ⟨"LevelTreeModel", "counted", "(II)V"⟩ ∈ lw_g := List.mem_filter.mpr ⟨List.mem_append_right _ (List.mem_of_getElem? (i := 369) (by decide +kernel)), rfl⟩
theorem tw_370 : Cond.code ⟨"LevelTreeModel", "counted", "(II)V"⟩ prog_3_method_11_code 4 none ∈ lw_g := List.mem_filter.mpr ⟨List.mem_append_right _ (List.mem_of_getElem? (i := 370) (by decide +kernel)), rfl⟩
theorem tw_371 : Cond.methodLink "LevelTreeLaw" 88 ⟨"LevelTreeModel", "below", "(III)I"⟩ ∈ lw_g := List.mem_filter.mpr ⟨List.mem_append_right _ (List.mem_of_getElem? (i := 371) (by decide +kernel)), rfl⟩
theorem tw_372 : Cond.instanceMethod ⟨"LevelTreeModel", "below", "(III)I"⟩ ∈ lw_g := List.mem_filter.mpr ⟨List.mem_append_right _ (List.mem_of_getElem? (i := 372) (by decide +kernel)), rfl⟩
theorem tw_373 : Cond.selects "LevelTreeModel" ⟨"LevelTreeModel", "below", "(III)I"⟩ ⟨"LevelTreeModel", "below", "(III)I"⟩ ∈ lw_g := List.mem_filter.mpr ⟨List.mem_append_right _ (List.mem_of_getElem? (i := 373) (by decide +kernel)), rfl⟩
theorem tw_374 : Cond.code ⟨"LevelTreeModel", "below", "(III)I"⟩ prog_3_method_13_code 6 (some .int) ∈ lw_g := List.mem_filter.mpr ⟨List.mem_append_right _ (List.mem_of_getElem? (i := 374) (by decide +kernel)), rfl⟩
theorem tw_375 : Cond.methodLink "LevelTreeLaw" 91 ⟨"LevelTreeModel", "different", "(II)I"⟩ ∈ lw_g := List.mem_filter.mpr ⟨List.mem_append_right _ (List.mem_of_getElem? (i := 375) (by decide +kernel)), rfl⟩
theorem tw_376 : Cond.instanceMethod ⟨"LevelTreeModel", "different", "(II)I"⟩ ∈ lw_g := List.mem_filter.mpr ⟨List.mem_append_right _ (List.mem_of_getElem? (i := 376) (by decide +kernel)), rfl⟩
theorem tw_377 : Cond.selects "LevelTreeModel" ⟨"LevelTreeModel", "different", "(II)I"⟩ ⟨"LevelTreeModel", "different", "(II)I"⟩ ∈ lw_g := List.mem_filter.mpr ⟨List.mem_append_right _ (List.mem_of_getElem? (i := 377) (by decide +kernel)), rfl⟩
theorem tw_378 : Cond.code ⟨"LevelTreeModel", "different", "(II)I"⟩ prog_3_method_14_code 4 (some .int) ∈ lw_g := List.mem_filter.mpr ⟨List.mem_append_right _ (List.mem_of_getElem? (i := 378) (by decide +kernel)), rfl⟩
theorem tw_379 : Cond.methodLink "LevelTreeLaw" 94 ⟨"LevelTreeModel", "number", "(I)I"⟩ ∈ lw_g := List.mem_filter.mpr ⟨List.mem_append_right _ (List.mem_of_getElem? (i := 379) (by decide +kernel)), rfl⟩
theorem tw_380 : Cond.instanceMethod ⟨"LevelTreeModel", "number", "(I)I"⟩ ∈ lw_g := List.mem_filter.mpr ⟨List.mem_append_right _ (List.mem_of_getElem? (i := 380) (by decide +kernel)), rfl⟩
theorem tw_381 : Cond.selects "LevelTreeModel" ⟨"LevelTreeModel", "number", "(I)I"⟩ ⟨"LevelTreeModel", "number", "(I)I"⟩ ∈ lw_g := List.mem_filter.mpr ⟨List.mem_append_right _ (List.mem_of_getElem? (i := 381) (by decide +kernel)), rfl⟩
theorem tw_382 : Cond.code ⟨"LevelTreeModel", "number", "(I)I"⟩ prog_3_method_15_code 2 (some .int) ∈ lw_g := List.mem_filter.mpr ⟨List.mem_append_right _ (List.mem_of_getElem? (i := 382) (by decide +kernel)), rfl⟩
theorem tw_383 : Cond.methodLink "LevelTreeLaw" 97 ⟨"LevelTreeModel", "before", "(III)I"⟩ ∈ lw_g := List.mem_filter.mpr ⟨List.mem_append_right _ (List.mem_of_getElem? (i := 383) (by decide +kernel)), rfl⟩
theorem tw_384 : Cond.instanceMethod ⟨"LevelTreeModel", "before", "(III)I"⟩ ∈ lw_g := List.mem_filter.mpr ⟨List.mem_append_right _ (List.mem_of_getElem? (i := 384) (by decide +kernel)), rfl⟩
theorem tw_385 : Cond.selects "LevelTreeModel" ⟨"LevelTreeModel", "before", "(III)I"⟩ ⟨"LevelTreeModel", "before", "(III)I"⟩ ∈ lw_g := List.mem_filter.mpr ⟨List.mem_append_right _ (List.mem_of_getElem? (i := 385) (by decide +kernel)), rfl⟩
theorem tw_386 : Cond.code ⟨"LevelTreeModel", "before", "(III)I"⟩ prog_3_method_16_code 6 (some .int) ∈ lw_g := List.mem_filter.mpr ⟨List.mem_append_right _ (List.mem_of_getElem? (i := 386) (by decide +kernel)), rfl⟩
theorem tw_387 : Cond.methodLink "LevelTreeLaw" 100 ⟨"LevelTreeModel", "most", "(II)I"⟩ ∈ lw_g := List.mem_filter.mpr ⟨List.mem_append_right _ (List.mem_of_getElem? (i := 387) (by decide +kernel)), rfl⟩
theorem tw_388 : Cond.instanceMethod ⟨"LevelTreeModel", "most", "(II)I"⟩ ∈ lw_g := List.mem_filter.mpr ⟨List.mem_append_right _ (List.mem_of_getElem? (i := 388) (by decide +kernel)), rfl⟩
theorem tw_389 : Cond.selects "LevelTreeModel" ⟨"LevelTreeModel", "most", "(II)I"⟩ ⟨"LevelTreeModel", "most", "(II)I"⟩ ∈ lw_g := List.mem_filter.mpr ⟨List.mem_append_right _ (List.mem_of_getElem? (i := 389) (by decide +kernel)), rfl⟩
theorem tw_390 : Cond.code ⟨"LevelTreeModel", "most", "(II)I"⟩ prog_3_method_17_code 5 (some .int) ∈ lw_g := List.mem_filter.mpr ⟨List.mem_append_right _ (List.mem_of_getElem? (i := 390) (by decide +kernel)), rfl⟩
theorem tw_391 : Cond.methodLink "LevelTreeLaw" 104 ⟨"LevelTreeModel", "count", "(I)I"⟩ ∈ lw_g := List.mem_filter.mpr ⟨List.mem_append_right _ (List.mem_of_getElem? (i := 391) (by decide +kernel)), rfl⟩
theorem tw_392 : Cond.instanceMethod ⟨"LevelTreeModel", "count", "(I)I"⟩ ∈ lw_g := List.mem_filter.mpr ⟨List.mem_append_right _ (List.mem_of_getElem? (i := 392) (by decide +kernel)), rfl⟩
theorem tw_393 : Cond.selects "LevelTreeModel" ⟨"LevelTreeModel", "count", "(I)I"⟩ ⟨"LevelTreeModel", "count", "(I)I"⟩ ∈ lw_g := List.mem_filter.mpr ⟨List.mem_append_right _ (List.mem_of_getElem? (i := 393) (by decide +kernel)), rfl⟩
theorem tw_394 : Cond.code ⟨"LevelTreeModel", "count", "(I)I"⟩ prog_3_method_18_code 2 (some .int) ∈ lw_g := List.mem_filter.mpr ⟨List.mem_append_right _ (List.mem_of_getElem? (i := 394) (by decide +kernel)), rfl⟩
theorem tw_395 : Cond.arrayClass .long ∈ lw_g := List.mem_filter.mpr ⟨List.mem_append_right _ (List.mem_of_getElem? (i := 395) (by decide +kernel)), rfl⟩
theorem tw_396 : Cond.sameMethod "java/lang/Throwable" "java/lang/Throwable" "fillInStackTrace" "(I)Ljava/lang/Throwable;" ∈ lw_g := List.mem_filter.mpr ⟨List.mem_append_right _ (List.mem_of_getElem? (i := 396) (by decide +kernel)), rfl⟩
theorem tp_0 : Cond.selects "LevelTree" ⟨"LevelTree", "level", "(II)V"⟩ ⟨"LevelTree", "level", "(II)V"⟩ ∈ lw_g := List.mem_filter.mpr ⟨List.mem_append_left _ (List.mem_of_getElem? (i := 0) (by decide +kernel)), rfl⟩
theorem tp_1 : Cond.selects "java/lang/Throwable" ⟨"java/lang/Throwable", "fillInStackTrace", "(I)Ljava/lang/Throwable;"⟩ ⟨"java/lang/Throwable", "fillInStackTrace", "(I)Ljava/lang/Throwable;"⟩ ∈ lw_g := List.mem_filter.mpr ⟨List.mem_append_left _ (List.mem_of_getElem? (i := 1) (by decide +kernel)), rfl⟩
theorem tp_2 : Cond.selects "LevelTree" ⟨"LevelTree", "is", "(II)Z"⟩ ⟨"LevelTree", "is", "(II)Z"⟩ ∈ lw_g := List.mem_filter.mpr ⟨List.mem_append_left _ (List.mem_of_getElem? (i := 2) (by decide +kernel)), rfl⟩
theorem tp_3 : Cond.selects "LevelTree" ⟨"LevelTree", "ones", "(II)I"⟩ ⟨"LevelTree", "ones", "(II)I"⟩ ∈ lw_g := List.mem_filter.mpr ⟨List.mem_append_left _ (List.mem_of_getElem? (i := 3) (by decide +kernel)), rfl⟩
theorem tp_4 : Cond.selects "LevelTree" ⟨"LevelTree", "part", "(II)V"⟩ ⟨"LevelTree", "part", "(II)V"⟩ ∈ lw_g := List.mem_filter.mpr ⟨List.mem_append_left _ (List.mem_of_getElem? (i := 4) (by decide +kernel)), rfl⟩
theorem tp_5 : Cond.selects "LevelTree" ⟨"LevelTree", "down", "(IZ)V"⟩ ⟨"LevelTree", "down", "(IZ)V"⟩ ∈ lw_g := List.mem_filter.mpr ⟨List.mem_append_left _ (List.mem_of_getElem? (i := 5) (by decide +kernel)), rfl⟩
theorem tp_6 : Cond.selects "LevelTree" ⟨"LevelTree", "select", "(IZI)I"⟩ ⟨"LevelTree", "select", "(IZI)I"⟩ ∈ lw_g := List.mem_filter.mpr ⟨List.mem_append_left _ (List.mem_of_getElem? (i := 6) (by decide +kernel)), rfl⟩
theorem tp_7 : Cond.selects "LevelTree" ⟨"LevelTree", "quantile", "(III)I"⟩ ⟨"LevelTree", "quantile", "(III)I"⟩ ∈ lw_g := List.mem_filter.mpr ⟨List.mem_append_left _ (List.mem_of_getElem? (i := 7) (by decide +kernel)), rfl⟩
theorem tp_8 : Cond.selects "LevelTree" ⟨"LevelTree", "list", "(IIII)V"⟩ ⟨"LevelTree", "list", "(IIII)V"⟩ ∈ lw_g := List.mem_filter.mpr ⟨List.mem_append_left _ (List.mem_of_getElem? (i := 8) (by decide +kernel)), rfl⟩
theorem tp_9 : Cond.selects "LevelTree" ⟨"LevelTree", "frequent", "(IIII)V"⟩ ⟨"LevelTree", "frequent", "(IIII)V"⟩ ∈ lw_g := List.mem_filter.mpr ⟨List.mem_append_left _ (List.mem_of_getElem? (i := 9) (by decide +kernel)), rfl⟩
theorem tp_10 : Cond.selects "LevelTreeModel" ⟨"LevelTreeModel", "refuse", "(IZ)Z"⟩ ⟨"LevelTreeModel", "refuse", "(IZ)Z"⟩ ∈ lw_g := List.mem_filter.mpr ⟨List.mem_append_left _ (List.mem_of_getElem? (i := 10) (by decide +kernel)), rfl⟩
theorem tp_11 : Cond.selects "LevelTreeModel" ⟨"LevelTreeModel", "noPart", "(IIZ)Z"⟩ ⟨"LevelTreeModel", "noPart", "(IIZ)Z"⟩ ∈ lw_g := List.mem_filter.mpr ⟨List.mem_append_left _ (List.mem_of_getElem? (i := 11) (by decide +kernel)), rfl⟩
theorem tp_12 : Cond.selects "LevelTreeModel" ⟨"LevelTreeModel", "counted", "(II)V"⟩ ⟨"LevelTreeModel", "counted", "(II)V"⟩ ∈ lw_g := List.mem_filter.mpr ⟨List.mem_append_left _ (List.mem_of_getElem? (i := 12) (by decide +kernel)), rfl⟩
theorem gd_tbl : ∀ w ∈ lw_g, ((w.onTables && w.keeps) = true ∨ ∃ ty, w = .arrayClass ty) := fun w h => good_of_word (List.mem_filter.mp h).2
theorem in_T : ∀ w ∈ u_ws R_T F_T 15, w ∈ lw_g := by
  intro w h
  obtain ⟨k, hk, rfl⟩ := List.mem_map.mp h
  have hk := List.mem_range.mp hk
  rcases (show k = 0 ∨ k = 1 ∨ k = 2 ∨ k = 3 ∨ k = 4 ∨ k = 5 ∨ k = 6 ∨ k = 7 ∨ k = 8 ∨ k = 9 ∨ k = 10 ∨ k = 11 ∨ k = 12 ∨ k = 13 ∨ k = 14 by omega) with rfl | rfl | rfl | rfl | rfl | rfl | rfl | rfl | rfl | rfl | rfl | rfl | rfl | rfl | rfl
  · exact tw_32
  · exact tw_34
  · exact tw_36
  · exact tw_38
  · exact tw_40
  · exact tw_42
  · exact tw_44
  · exact tw_46
  · exact tw_48
  · exact tw_50
  · exact tw_52
  · exact tw_54
  · exact tw_56
  · exact tw_58
  · exact tw_60
theorem in_M : ∀ w ∈ u_ws R_M F_M 9, w ∈ lw_g := by
  intro w h
  obtain ⟨k, hk, rfl⟩ := List.mem_map.mp h
  have hk := List.mem_range.mp hk
  rcases (show k = 0 ∨ k = 1 ∨ k = 2 ∨ k = 3 ∨ k = 4 ∨ k = 5 ∨ k = 6 ∨ k = 7 ∨ k = 8 by omega) with rfl | rfl | rfl | rfl | rfl | rfl | rfl | rfl | rfl
  · exact tw_308
  · exact tw_310
  · exact tw_312
  · exact tw_314
  · exact tw_316
  · exact tw_318
  · exact tw_320
  · exact tw_322
  · exact tw_324
theorem gd_V {own C : String} {idx : Nat} {y : MethodName} {w0 : Cond} (h1 : Cond.methodLink own idx y ∈ lw_g) (h2 : Cond.instanceMethod y ∈ lw_g) (h3 : Cond.selects C y y ∈ lw_g) (h4 : Cond.initialized C ∈ lw_g) (h5 : w0 ∈ lw_g) : GoodIn lw_g (wsV own idx C y (w0 :: lw_g)) := by
  intro v hv
  have hm : v ∈ lw_g := by
    simp only [wsV, List.mem_append, List.mem_cons, List.not_mem_nil, or_false] at hv
    rcases hv with (rfl | rfl | rfl | rfl) | (rfl | h) <;> assumption
  exact ⟨hm, gd_tbl v hm⟩
theorem gd_S {own : String} {idx : Nat} {y : MethodName} {w0 : Cond} (h1 : Cond.methodLink own idx y ∈ lw_g) (h2 : Cond.static y ∈ lw_g) (h4 : Cond.initialized own ∈ lw_g) (h5 : w0 ∈ lw_g) : GoodIn lw_g (wsS own idx y (w0 :: lw_g)) := by
  intro v hv
  have hm : v ∈ lw_g := by
    simp only [wsS, List.mem_append, List.mem_cons, List.not_mem_nil, or_false] at hv
    rcases hv with (rfl | rfl | rfl) | (rfl | h) <;> assumption
  exact ⟨hm, gd_tbl v hm⟩
theorem gd_C {w0 : Cond} (h5 : w0 ∈ lw_g) : GoodIn lw_g (w0 :: lw_g) := by
  intro v hv
  have hm : v ∈ lw_g := by
    rcases List.mem_cons.mp hv with rfl | h <;> assumption
  exact ⟨hm, gd_tbl v hm⟩
theorem cv_T_T_level {R : Room} {s : State} {args : Array Value} {rm : Room} {mc ms : Nat} (ht : ∀ w ∈ lw_g, w.before args s = true) (hrc : rm.cells = mc) (hrs : rm.slots = ms) (hR : rm.frames + 1 ≤ R.frames ∧ 8 + (8 + 11) + rm.locals ≤ R.locals) : CallW R s args R_T R_T 47 y_T_level b_T_level 8 none (.code y_T_level b_T_level 8 none :: lw_g) rm mc ms 2 := cwV 2 ht (gd_V tw_68 tw_70 tp_0 tw_1 tw_71) rfl hrc hrs (by decide +kernel) hR
theorem cv_T_T_bits {R : Room} {s : State} {args : Array Value} {rm : Room} {mc ms : Nat} (ht : ∀ w ∈ lw_g, w.before args s = true) (hrc : rm.cells = mc) (hrs : rm.slots = ms) (hR : rm.frames + 1 ≤ R.frames ∧ 8 + (2 + 11) + rm.locals ≤ R.locals) : CallB R s args R_T 51 y_T_bits b_T_bits 2 (some .int) (.code y_T_bits b_T_bits 2 (some .int) :: lw_g) rm mc ms 1 ∧ (Cond.static y_T_bits).before args s = true := cwS 1 ht (gd_S tw_72 tw_73 tw_1 tw_74) rfl hrc hrs (by decide +kernel) hR
theorem cv_T_T_ones {R : Room} {s : State} {args : Array Value} {rm : Room} {mc ms : Nat} (ht : ∀ w ∈ lw_g, w.before args s = true) (hrc : rm.cells = mc) (hrs : rm.slots = ms) (hR : rm.frames + 1 ≤ R.frames ∧ 8 + (3 + 11) + rm.locals ≤ R.locals) : CallW R s args R_T R_T 59 y_T_ones b_T_ones 3 (some .int) (.code y_T_ones b_T_ones 3 (some .int) :: lw_g) rm mc ms 2 := cwV 2 ht (gd_V tw_204 tw_206 tp_3 tw_1 tw_207) rfl hrc hrs (by decide +kernel) hR
theorem cv_T_T_is {R : Room} {s : State} {args : Array Value} {rm : Room} {mc ms : Nat} (ht : ∀ w ∈ lw_g, w.before args s = true) (hrc : rm.cells = mc) (hrs : rm.slots = ms) (hR : rm.frames + 1 ≤ R.frames ∧ 8 + (3 + 11) + rm.locals ≤ R.locals) : CallW R s args R_T R_T 65 y_T_is b_T_is 3 (some .boolean) (.code y_T_is b_T_is 3 (some .boolean) :: lw_g) rm mc ms 2 := cwV 2 ht (gd_V tw_200 tw_202 tp_2 tw_1 tw_203) rfl hrc hrs (by decide +kernel) hR
theorem cv_T_T_numchk {R : Room} {s : State} {args : Array Value} {rm : Room} {mc ms : Nat} (ht : ∀ w ∈ lw_g, w.before args s = true) (hrc : rm.cells = mc) (hrs : rm.slots = ms) (hR : rm.frames + 1 ≤ R.frames ∧ 8 + (2 + 11) + rm.locals ≤ R.locals) : CallB R s args R_T 75 y_T_numchk b_T_numchk 2 none (.code y_T_numchk b_T_numchk 2 none :: lw_g) rm mc ms 2 ∧ (Cond.static y_T_numchk).before args s = true := cwS 2 ht (gd_S tw_215 tw_216 tw_1 tw_217) rfl hrc hrs (by decide +kernel) hR
theorem cv_T_T_part {R : Room} {s : State} {args : Array Value} {rm : Room} {mc ms : Nat} (ht : ∀ w ∈ lw_g, w.before args s = true) (hrc : rm.cells = mc) (hrs : rm.slots = ms) (hR : rm.frames + 1 ≤ R.frames ∧ 8 + (3 + 11) + rm.locals ≤ R.locals) : CallW R s args R_T R_T 78 y_T_part b_T_part 3 none (.code y_T_part b_T_part 3 none :: lw_g) rm mc ms 2 := cwV 2 ht (gd_V tw_218 tw_220 tp_4 tw_1 tw_221) rfl hrc hrs (by decide +kernel) hR
theorem cv_T_T_down {R : Room} {s : State} {args : Array Value} {rm : Room} {mc ms : Nat} (ht : ∀ w ∈ lw_g, w.before args s = true) (hrc : rm.cells = mc) (hrs : rm.slots = ms) (hR : rm.frames + 1 ≤ R.frames ∧ 8 + (5 + 11) + rm.locals ≤ R.locals) : CallW R s args R_T R_T 81 y_T_down b_T_down 5 none (.code y_T_down b_T_down 5 none :: lw_g) rm mc ms 2 := cwV 2 ht (gd_V tw_222 tw_224 tp_5 tw_1 tw_225) rfl hrc hrs (by decide +kernel) hR
theorem cv_T_T_often {R : Room} {s : State} {args : Array Value} {rm : Room} {mc ms : Nat} (ht : ∀ w ∈ lw_g, w.before args s = true) (hrc : rm.cells = mc) (hrs : rm.slots = ms) (hR : rm.frames + 1 ≤ R.frames ∧ 8 + (5 + 11) + rm.locals ≤ R.locals) : CallW R s args R_T R_T 85 y_T_often b_T_often 5 (some .int) (.code y_T_often b_T_often 5 (some .int) :: lw_g) rm mc ms 3 := cwV 3 ht (gd_V tw_233 tw_212 tw_213 tw_1 tw_214) rfl hrc hrs (by decide +kernel) hR
theorem cv_T_T_select {R : Room} {s : State} {args : Array Value} {rm : Room} {mc ms : Nat} (ht : ∀ w ∈ lw_g, w.before args s = true) (hrc : rm.cells = mc) (hrs : rm.slots = ms) (hR : rm.frames + 1 ≤ R.frames ∧ 8 + (8 + 11) + rm.locals ≤ R.locals) : CallW R s args R_T R_T 89 y_T_select b_T_select 8 (some .int) (.code y_T_select b_T_select 8 (some .int) :: lw_g) rm mc ms 3 := cwV 3 ht (gd_V tw_234 tw_236 tp_6 tw_1 tw_237) rfl hrc hrs (by decide +kernel) hR
theorem cv_T_T_quantile {R : Room} {s : State} {args : Array Value} {rm : Room} {mc ms : Nat} (ht : ∀ w ∈ lw_g, w.before args s = true) (hrc : rm.cells = mc) (hrs : rm.slots = ms) (hR : rm.frames + 1 ≤ R.frames ∧ 8 + (9 + 11) + rm.locals ≤ R.locals) : CallW R s args R_T R_T 93 y_T_quantile b_T_quantile 9 (some .int) (.code y_T_quantile b_T_quantile 9 (some .int) :: lw_g) rm mc ms 3 := cwV 3 ht (gd_V tw_245 tw_247 tp_7 tw_1 tw_248) rfl hrc hrs (by decide +kernel) hR
theorem cv_T_T_list {R : Room} {s : State} {args : Array Value} {rm : Room} {mc ms : Nat} (ht : ∀ w ∈ lw_g, w.before args s = true) (hrc : rm.cells = mc) (hrs : rm.slots = ms) (hR : rm.frames + 1 ≤ R.frames ∧ 8 + (7 + 11) + rm.locals ≤ R.locals) : CallW R s args R_T R_T 99 y_T_list b_T_list 7 none (.code y_T_list b_T_list 7 none :: lw_g) rm mc ms 4 := cwV 4 ht (gd_V tw_263 tw_265 tp_8 tw_1 tw_266) rfl hrc hrs (by decide +kernel) hR
theorem cv_T_T_below {R : Room} {s : State} {args : Array Value} {rm : Room} {mc ms : Nat} (ht : ∀ w ∈ lw_g, w.before args s = true) (hrc : rm.cells = mc) (hrs : rm.slots = ms) (hR : rm.frames + 1 ≤ R.frames ∧ 8 + (7 + 11) + rm.locals ≤ R.locals) : CallW R s args R_T R_T 103 y_T_below b_T_below 7 (some .int) (.code y_T_below b_T_below 7 (some .int) :: lw_g) rm mc ms 3 := cwV 3 ht (gd_V tw_281 tw_253 tw_254 tw_1 tw_255) rfl hrc hrs (by decide +kernel) hR
theorem cv_T_T_frequent {R : Room} {s : State} {args : Array Value} {rm : Room} {mc ms : Nat} (ht : ∀ w ∈ lw_g, w.before args s = true) (hrc : rm.cells = mc) (hrs : rm.slots = ms) (hR : rm.frames + 1 ≤ R.frames ∧ 8 + (7 + 11) + rm.locals ≤ R.locals) : CallW R s args R_T R_T 112 y_T_frequent b_T_frequent 7 none (.code y_T_frequent b_T_frequent 7 none :: lw_g) rm mc ms 4 := cwV 4 ht (gd_V tw_289 tw_291 tp_9 tw_1 tw_292) rfl hrc hrs (by decide +kernel) hR
theorem cv_M_M_refuse {R : Room} {s : State} {args : Array Value} {rm : Room} {mc ms : Nat} (ht : ∀ w ∈ lw_g, w.before args s = true) (hrc : rm.cells = mc) (hrs : rm.slots = ms) (hR : rm.frames + 1 ≤ R.frames ∧ 8 + (3 + 11) + rm.locals ≤ R.locals) : CallW R s args R_M R_M 38 y_M_refuse b_M_refuse 3 (some .boolean) (.code y_M_refuse b_M_refuse 3 (some .boolean) :: lw_g) rm mc ms 2 := cwV 2 ht (gd_V tw_335 tw_337 tp_10 tw_2 tw_338) rfl hrc hrs (by decide +kernel) hR
theorem cv_M_M_noPart {R : Room} {s : State} {args : Array Value} {rm : Room} {mc ms : Nat} (ht : ∀ w ∈ lw_g, w.before args s = true) (hrc : rm.cells = mc) (hrs : rm.slots = ms) (hR : rm.frames + 1 ≤ R.frames ∧ 8 + (4 + 11) + rm.locals ≤ R.locals) : CallW R s args R_M R_M 42 y_M_noPart b_M_noPart 4 (some .boolean) (.code y_M_noPart b_M_noPart 4 (some .boolean) :: lw_g) rm mc ms 3 := cwV 3 ht (gd_V tw_355 tw_357 tp_11 tw_2 tw_358) rfl hrc hrs (by decide +kernel) hR
theorem cv_M_M_counted {R : Room} {s : State} {args : Array Value} {rm : Room} {mc ms : Nat} (ht : ∀ w ∈ lw_g, w.before args s = true) (hrc : rm.cells = mc) (hrs : rm.slots = ms) (hR : rm.frames + 1 ≤ R.frames ∧ 8 + (4 + 11) + rm.locals ≤ R.locals) : CallW R s args R_M R_M 46 y_M_counted b_M_counted 4 none (.code y_M_counted b_M_counted 4 none :: lw_g) rm mc ms 2 := cwV 2 ht (gd_V tw_367 tw_369 tp_12 tw_2 tw_370) rfl hrc hrs (by decide +kernel) hR
theorem cv_L_T_add {R : Room} {s : State} {args : Array Value} {rm : Room} {mc ms : Nat} (ht : ∀ w ∈ lw_g, w.before args s = true) (hrc : rm.cells = mc) (hrs : rm.slots = ms) (hR : rm.frames + 1 ≤ R.frames ∧ 8 + (4 + 11) + rm.locals ≤ R.locals) : CallW R s args R_L R_T 7 y_T_add b_T_add 4 (some .int) (.code y_T_add b_T_add 4 (some .int) :: lw_g) rm mc ms 3 := cwV 3 ht (gd_V tw_87 tw_88 tw_89 tw_1 tw_90) rfl hrc hrs (by decide +kernel) hR
theorem cv_L_T_cut {R : Room} {s : State} {args : Array Value} {rm : Room} {mc ms : Nat} (ht : ∀ w ∈ lw_g, w.before args s = true) (hrc : rm.cells = mc) (hrs : rm.slots = ms) (hR : rm.frames + 1 ≤ R.frames ∧ 8 + (2 + 11) + rm.locals ≤ R.locals) : CallW R s args R_L R_T 15 y_T_cut b_T_cut 2 (some .int) (.code y_T_cut b_T_cut 2 (some .int) :: lw_g) rm mc ms 1 := cwV 1 ht (gd_V tw_158 tw_159 tw_160 tw_1 tw_161) rfl hrc hrs (by decide +kernel) hR
theorem cv_L_T_at {R : Room} {s : State} {args : Array Value} {rm : Room} {mc ms : Nat} (ht : ∀ w ∈ lw_g, w.before args s = true) (hrc : rm.cells = mc) (hrs : rm.slots = ms) (hR : rm.frames + 1 ≤ R.frames ∧ 8 + (6 + 11) + rm.locals ≤ R.locals) : CallW R s args R_L R_T 21 y_T_at b_T_at 6 (some .int) (.code y_T_at b_T_at 6 (some .int) :: lw_g) rm mc ms 1 := cwV 1 ht (gd_V tw_181 tw_182 tw_183 tw_1 tw_184) rfl hrc hrs (by decide +kernel) hR
theorem cv_L_T_often {R : Room} {s : State} {args : Array Value} {rm : Room} {mc ms : Nat} (ht : ∀ w ∈ lw_g, w.before args s = true) (hrc : rm.cells = mc) (hrs : rm.slots = ms) (hR : rm.frames + 1 ≤ R.frames ∧ 8 + (5 + 11) + rm.locals ≤ R.locals) : CallW R s args R_L R_T 26 y_T_often b_T_often 5 (some .int) (.code y_T_often b_T_often 5 (some .int) :: lw_g) rm mc ms 3 := cwV 3 ht (gd_V tw_211 tw_212 tw_213 tw_1 tw_214) rfl hrc hrs (by decide +kernel) hR
theorem cv_L_T_place {R : Room} {s : State} {args : Array Value} {rm : Room} {mc ms : Nat} (ht : ∀ w ∈ lw_g, w.before args s = true) (hrc : rm.cells = mc) (hrs : rm.slots = ms) (hR : rm.frames + 1 ≤ R.frames ∧ 8 + (6 + 11) + rm.locals ≤ R.locals) : CallW R s args R_L R_T 29 y_T_place b_T_place 6 (some .int) (.code y_T_place b_T_place 6 (some .int) :: lw_g) rm mc ms 2 := cwV 2 ht (gd_V tw_229 tw_230 tw_231 tw_1 tw_232) rfl hrc hrs (by decide +kernel) hR
theorem cv_L_T_least {R : Room} {s : State} {args : Array Value} {rm : Room} {mc ms : Nat} (ht : ∀ w ∈ lw_g, w.before args s = true) (hrc : rm.cells = mc) (hrs : rm.slots = ms) (hR : rm.frames + 1 ≤ R.frames ∧ 8 + (4 + 11) + rm.locals ≤ R.locals) : CallW R s args R_L R_T 33 y_T_least b_T_least 4 (some .int) (.code y_T_least b_T_least 4 (some .int) :: lw_g) rm mc ms 3 := cwV 3 ht (gd_V tw_241 tw_242 tw_243 tw_1 tw_244) rfl hrc hrs (by decide +kernel) hR
theorem cv_L_T_below {R : Room} {s : State} {args : Array Value} {rm : Room} {mc ms : Nat} (ht : ∀ w ∈ lw_g, w.before args s = true) (hrc : rm.cells = mc) (hrs : rm.slots = ms) (hR : rm.frames + 1 ≤ R.frames ∧ 8 + (7 + 11) + rm.locals ≤ R.locals) : CallW R s args R_L R_T 36 y_T_below b_T_below 7 (some .int) (.code y_T_below b_T_below 7 (some .int) :: lw_g) rm mc ms 3 := cwV 3 ht (gd_V tw_252 tw_253 tw_254 tw_1 tw_255) rfl hrc hrs (by decide +kernel) hR
theorem cv_L_T_different {R : Room} {s : State} {args : Array Value} {rm : Room} {mc ms : Nat} (ht : ∀ w ∈ lw_g, w.before args s = true) (hrc : rm.cells = mc) (hrs : rm.slots = ms) (hR : rm.frames + 1 ≤ R.frames ∧ 8 + (3 + 11) + rm.locals ≤ R.locals) : CallW R s args R_L R_T 39 y_T_different b_T_different 3 (some .int) (.code y_T_different b_T_different 3 (some .int) :: lw_g) rm mc ms 2 := cwV 2 ht (gd_V tw_259 tw_260 tw_261 tw_1 tw_262) rfl hrc hrs (by decide +kernel) hR
theorem cv_L_T_number {R : Room} {s : State} {args : Array Value} {rm : Room} {mc ms : Nat} (ht : ∀ w ∈ lw_g, w.before args s = true) (hrc : rm.cells = mc) (hrs : rm.slots = ms) (hR : rm.frames + 1 ≤ R.frames ∧ 8 + (2 + 11) + rm.locals ≤ R.locals) : CallW R s args R_L R_T 42 y_T_number b_T_number 2 (some .int) (.code y_T_number b_T_number 2 (some .int) :: lw_g) rm mc ms 1 := cwV 1 ht (gd_V tw_270 tw_271 tw_272 tw_1 tw_273) rfl hrc hrs (by decide +kernel) hR
theorem cv_L_T_before {R : Room} {s : State} {args : Array Value} {rm : Room} {mc ms : Nat} (ht : ∀ w ∈ lw_g, w.before args s = true) (hrc : rm.cells = mc) (hrs : rm.slots = ms) (hR : rm.frames + 1 ≤ R.frames ∧ 8 + (5 + 11) + rm.locals ≤ R.locals) : CallW R s args R_L R_T 45 y_T_before b_T_before 5 (some .int) (.code y_T_before b_T_before 5 (some .int) :: lw_g) rm mc ms 3 := cwV 3 ht (gd_V tw_277 tw_278 tw_279 tw_1 tw_280) rfl hrc hrs (by decide +kernel) hR
theorem cv_L_T_most {R : Room} {s : State} {args : Array Value} {rm : Room} {mc ms : Nat} (ht : ∀ w ∈ lw_g, w.before args s = true) (hrc : rm.cells = mc) (hrs : rm.slots = ms) (hR : rm.frames + 1 ≤ R.frames ∧ 8 + (3 + 11) + rm.locals ≤ R.locals) : CallW R s args R_L R_T 48 y_T_most b_T_most 3 (some .int) (.code y_T_most b_T_most 3 (some .int) :: lw_g) rm mc ms 2 := cwV 2 ht (gd_V tw_285 tw_286 tw_287 tw_1 tw_288) rfl hrc hrs (by decide +kernel) hR
theorem cv_L_M_add {R : Room} {s : State} {args : Array Value} {rm : Room} {mc ms : Nat} (ht : ∀ w ∈ lw_g, w.before args s = true) (hrc : rm.cells = mc) (hrs : rm.slots = ms) (hR : rm.frames + 1 ≤ R.frames ∧ 8 + (4 + 11) + rm.locals ≤ R.locals) : CallW R s args R_L R_M 60 y_M_add b_M_add 4 (some .int) (.code y_M_add b_M_add 4 (some .int) :: lw_g) rm mc ms 3 := cwV 3 ht (gd_V tw_331 tw_332 tw_333 tw_2 tw_334) rfl hrc hrs (by decide +kernel) hR
theorem cv_L_M_thrown {R : Room} {s : State} {args : Array Value} {rm : Room} {mc ms : Nat} (ht : ∀ w ∈ lw_g, w.before args s = true) (hrc : rm.cells = mc) (hrs : rm.slots = ms) (hR : rm.frames + 1 ≤ R.frames ∧ 8 + (1 + 11) + rm.locals ≤ R.locals) : CallW R s args R_L R_M 61 y_M_thrown b_M_thrown 1 (some .int) (.code y_M_thrown b_M_thrown 1 (some .int) :: lw_g) rm mc ms 0 := cwV 0 ht (gd_V tw_327 tw_328 tw_329 tw_2 tw_330) rfl hrc hrs (by decide +kernel) hR
theorem cv_L_M_cut {R : Room} {s : State} {args : Array Value} {rm : Room} {mc ms : Nat} (ht : ∀ w ∈ lw_g, w.before args s = true) (hrc : rm.cells = mc) (hrs : rm.slots = ms) (hR : rm.frames + 1 ≤ R.frames ∧ 8 + (2 + 11) + rm.locals ≤ R.locals) : CallW R s args R_L R_M 68 y_M_cut b_M_cut 2 (some .int) (.code y_M_cut b_M_cut 2 (some .int) :: lw_g) rm mc ms 1 := cwV 1 ht (gd_V tw_339 tw_340 tw_341 tw_2 tw_342) rfl hrc hrs (by decide +kernel) hR
theorem cv_L_T_build {R : Room} {s : State} {args : Array Value} {rm : Room} {mc ms : Nat} (ht : ∀ w ∈ lw_g, w.before args s = true) (hrc : rm.cells = mc) (hrs : rm.slots = ms) (hR : rm.frames + 1 ≤ R.frames ∧ 8 + (2 + 11) + rm.locals ≤ R.locals) : CallW R s args R_L R_T 69 y_T_build b_T_build 2 (some .int) (.code y_T_build b_T_build 2 (some .int) :: lw_g) rm mc ms 0 := cwV 0 ht (gd_V tw_64 tw_65 tw_66 tw_1 tw_67) rfl hrc hrs (by decide +kernel) hR
theorem cv_L_M_build {R : Room} {s : State} {args : Array Value} {rm : Room} {mc ms : Nat} (ht : ∀ w ∈ lw_g, w.before args s = true) (hrc : rm.cells = mc) (hrs : rm.slots = ms) (hR : rm.frames + 1 ≤ R.frames ∧ 8 + (2 + 11) + rm.locals ≤ R.locals) : CallW R s args R_L R_M 72 y_M_build b_M_build 2 (some .int) (.code y_M_build b_M_build 2 (some .int) :: lw_g) rm mc ms 0 := cwV 0 ht (gd_V tw_343 tw_344 tw_345 tw_2 tw_346) rfl hrc hrs (by decide +kernel) hR
theorem cv_L_M_at {R : Room} {s : State} {args : Array Value} {rm : Room} {mc ms : Nat} (ht : ∀ w ∈ lw_g, w.before args s = true) (hrc : rm.cells = mc) (hrs : rm.slots = ms) (hR : rm.frames + 1 ≤ R.frames ∧ 8 + (2 + 11) + rm.locals ≤ R.locals) : CallW R s args R_L R_M 75 y_M_at b_M_at 2 (some .int) (.code y_M_at b_M_at 2 (some .int) :: lw_g) rm mc ms 1 := cwV 1 ht (gd_V tw_347 tw_348 tw_349 tw_2 tw_350) rfl hrc hrs (by decide +kernel) hR
theorem cv_L_M_often {R : Room} {s : State} {args : Array Value} {rm : Room} {mc ms : Nat} (ht : ∀ w ∈ lw_g, w.before args s = true) (hrc : rm.cells = mc) (hrs : rm.slots = ms) (hR : rm.frames + 1 ≤ R.frames ∧ 8 + (6 + 11) + rm.locals ≤ R.locals) : CallW R s args R_L R_M 78 y_M_often b_M_often 6 (some .int) (.code y_M_often b_M_often 6 (some .int) :: lw_g) rm mc ms 3 := cwV 3 ht (gd_V tw_351 tw_352 tw_353 tw_2 tw_354) rfl hrc hrs (by decide +kernel) hR
theorem cv_L_M_place {R : Room} {s : State} {args : Array Value} {rm : Room} {mc ms : Nat} (ht : ∀ w ∈ lw_g, w.before args s = true) (hrc : rm.cells = mc) (hrs : rm.slots = ms) (hR : rm.frames + 1 ≤ R.frames ∧ 8 + (5 + 11) + rm.locals ≤ R.locals) : CallW R s args R_L R_M 82 y_M_place b_M_place 5 (some .int) (.code y_M_place b_M_place 5 (some .int) :: lw_g) rm mc ms 2 := cwV 2 ht (gd_V tw_359 tw_360 tw_361 tw_2 tw_362) rfl hrc hrs (by decide +kernel) hR
theorem cv_L_M_least {R : Room} {s : State} {args : Array Value} {rm : Room} {mc ms : Nat} (ht : ∀ w ∈ lw_g, w.before args s = true) (hrc : rm.cells = mc) (hrs : rm.slots = ms) (hR : rm.frames + 1 ≤ R.frames ∧ 8 + (6 + 11) + rm.locals ≤ R.locals) : CallW R s args R_L R_M 85 y_M_least b_M_least 6 (some .int) (.code y_M_least b_M_least 6 (some .int) :: lw_g) rm mc ms 3 := cwV 3 ht (gd_V tw_363 tw_364 tw_365 tw_2 tw_366) rfl hrc hrs (by decide +kernel) hR
theorem cv_L_M_below {R : Room} {s : State} {args : Array Value} {rm : Room} {mc ms : Nat} (ht : ∀ w ∈ lw_g, w.before args s = true) (hrc : rm.cells = mc) (hrs : rm.slots = ms) (hR : rm.frames + 1 ≤ R.frames ∧ 8 + (6 + 11) + rm.locals ≤ R.locals) : CallW R s args R_L R_M 88 y_M_below b_M_below 6 (some .int) (.code y_M_below b_M_below 6 (some .int) :: lw_g) rm mc ms 3 := cwV 3 ht (gd_V tw_371 tw_372 tw_373 tw_2 tw_374) rfl hrc hrs (by decide +kernel) hR
theorem cv_L_M_different {R : Room} {s : State} {args : Array Value} {rm : Room} {mc ms : Nat} (ht : ∀ w ∈ lw_g, w.before args s = true) (hrc : rm.cells = mc) (hrs : rm.slots = ms) (hR : rm.frames + 1 ≤ R.frames ∧ 8 + (4 + 11) + rm.locals ≤ R.locals) : CallW R s args R_L R_M 91 y_M_different b_M_different 4 (some .int) (.code y_M_different b_M_different 4 (some .int) :: lw_g) rm mc ms 2 := cwV 2 ht (gd_V tw_375 tw_376 tw_377 tw_2 tw_378) rfl hrc hrs (by decide +kernel) hR
theorem cv_L_M_number {R : Room} {s : State} {args : Array Value} {rm : Room} {mc ms : Nat} (ht : ∀ w ∈ lw_g, w.before args s = true) (hrc : rm.cells = mc) (hrs : rm.slots = ms) (hR : rm.frames + 1 ≤ R.frames ∧ 8 + (2 + 11) + rm.locals ≤ R.locals) : CallW R s args R_L R_M 94 y_M_number b_M_number 2 (some .int) (.code y_M_number b_M_number 2 (some .int) :: lw_g) rm mc ms 1 := cwV 1 ht (gd_V tw_379 tw_380 tw_381 tw_2 tw_382) rfl hrc hrs (by decide +kernel) hR
theorem cv_L_M_before {R : Room} {s : State} {args : Array Value} {rm : Room} {mc ms : Nat} (ht : ∀ w ∈ lw_g, w.before args s = true) (hrc : rm.cells = mc) (hrs : rm.slots = ms) (hR : rm.frames + 1 ≤ R.frames ∧ 8 + (6 + 11) + rm.locals ≤ R.locals) : CallW R s args R_L R_M 97 y_M_before b_M_before 6 (some .int) (.code y_M_before b_M_before 6 (some .int) :: lw_g) rm mc ms 3 := cwV 3 ht (gd_V tw_383 tw_384 tw_385 tw_2 tw_386) rfl hrc hrs (by decide +kernel) hR
theorem cv_L_M_most {R : Room} {s : State} {args : Array Value} {rm : Room} {mc ms : Nat} (ht : ∀ w ∈ lw_g, w.before args s = true) (hrc : rm.cells = mc) (hrs : rm.slots = ms) (hR : rm.frames + 1 ≤ R.frames ∧ 8 + (5 + 11) + rm.locals ≤ R.locals) : CallW R s args R_L R_M 100 y_M_most b_M_most 5 (some .int) (.code y_M_most b_M_most 5 (some .int) :: lw_g) rm mc ms 2 := cwV 2 ht (gd_V tw_387 tw_388 tw_389 tw_2 tw_390) rfl hrc hrs (by decide +kernel) hR
theorem cv_L_T_count {R : Room} {s : State} {args : Array Value} {rm : Room} {mc ms : Nat} (ht : ∀ w ∈ lw_g, w.before args s = true) (hrc : rm.cells = mc) (hrs : rm.slots = ms) (hR : rm.frames + 1 ≤ R.frames ∧ 8 + (2 + 11) + rm.locals ≤ R.locals) : CallW R s args R_L R_T 101 y_T_count b_T_count 2 (some .int) (.code y_T_count b_T_count 2 (some .int) :: lw_g) rm mc ms 1 := cwV 1 ht (gd_V tw_79 tw_80 tw_81 tw_1 tw_82) rfl hrc hrs (by decide +kernel) hR
theorem cv_L_M_count {R : Room} {s : State} {args : Array Value} {rm : Room} {mc ms : Nat} (ht : ∀ w ∈ lw_g, w.before args s = true) (hrc : rm.cells = mc) (hrs : rm.slots = ms) (hR : rm.frames + 1 ≤ R.frames ∧ 8 + (2 + 11) + rm.locals ≤ R.locals) : CallW R s args R_L R_M 104 y_M_count b_M_count 2 (some .int) (.code y_M_count b_M_count 2 (some .int) :: lw_g) rm mc ms 1 := cwV 1 ht (gd_V tw_391 tw_392 tw_393 tw_2 tw_394) rfl hrc hrs (by decide +kernel) hR
theorem l_T_row : Cond.fieldLink "LevelTree" 9 "LevelTree" "row" "[I" ∈ lw_g := tw_17
theorem l_T_now : Cond.fieldLink "LevelTree" 13 "LevelTree" "now" "[I" ∈ lw_g := tw_18
theorem l_T_then : Cond.fieldLink "LevelTree" 16 "LevelTree" "then" "[I" ∈ lw_g := tw_19
theorem l_T_word : Cond.fieldLink "LevelTree" 19 "LevelTree" "word" "[I" ∈ lw_g := tw_20
theorem l_T_ones : Cond.fieldLink "LevelTree" 22 "LevelTree" "ones" "[I" ∈ lw_g := tw_21
theorem l_T_zeros : Cond.fieldLink "LevelTree" 25 "LevelTree" "zeros" "[I" ∈ lw_g := tw_22
theorem l_T_found : Cond.fieldLink "LevelTree" 28 "LevelTree" "found" "[I" ∈ lw_g := tw_23
theorem l_T_times : Cond.fieldLink "LevelTree" 31 "LevelTree" "times" "[I" ∈ lw_g := tw_24
theorem l_T_length : Cond.fieldLink "LevelTree" 34 "LevelTree" "length" "I" ∈ lw_g := tw_25
theorem l_T_size : Cond.fieldLink "LevelTree" 44 "LevelTree" "size" "I" ∈ lw_g := tw_26
theorem l_T_founds : Cond.fieldLink "LevelTree" 96 "LevelTree" "founds" "I" ∈ lw_g := tw_27
theorem l_T_best : Cond.fieldLink "LevelTree" 106 "LevelTree" "best" "I" ∈ lw_g := tw_28
theorem l_T_bestTimes : Cond.fieldLink "LevelTree" 109 "LevelTree" "bestTimes" "I" ∈ lw_g := tw_29
theorem l_T_low : Cond.fieldLink "LevelTree" 69 "LevelTree" "low" "I" ∈ lw_g := tw_30
theorem l_T_high : Cond.fieldLink "LevelTree" 72 "LevelTree" "high" "I" ∈ lw_g := tw_31
theorem l_M_thrown : Cond.fieldLink "LevelTreeModel" 7 "LevelTreeModel" "thrown" "I" ∈ lw_g := tw_299
theorem l_M_row : Cond.fieldLink "LevelTreeModel" 13 "LevelTreeModel" "row" "[I" ∈ lw_g := tw_300
theorem l_M_tree : Cond.fieldLink "LevelTreeModel" 17 "LevelTreeModel" "tree" "[I" ∈ lw_g := tw_301
theorem l_M_counts : Cond.fieldLink "LevelTreeModel" 20 "LevelTreeModel" "counts" "[I" ∈ lw_g := tw_302
theorem l_M_told : Cond.fieldLink "LevelTreeModel" 23 "LevelTreeModel" "told" "[I" ∈ lw_g := tw_303
theorem l_M_toldOften : Cond.fieldLink "LevelTreeModel" 26 "LevelTreeModel" "toldOften" "[I" ∈ lw_g := tw_304
theorem l_M_size : Cond.fieldLink "LevelTreeModel" 29 "LevelTreeModel" "size" "I" ∈ lw_g := tw_305
theorem l_M_built : Cond.fieldLink "LevelTreeModel" 32 "LevelTreeModel" "built" "I" ∈ lw_g := tw_306
theorem l_M_tolds : Cond.fieldLink "LevelTreeModel" 35 "LevelTreeModel" "tolds" "I" ∈ lw_g := tw_307
end
section
theorem d_T_init_0 : decode b_T_init 0 = .ok (.aload_n 0, 1) := by decide +kernel
theorem d_T_init_1 : decode b_T_init 1 = .ok (.invokespecial 3, 3) := by decide +kernel
theorem d_T_init_4 : decode b_T_init 4 = .ok (.aload_n 0, 1) := by decide +kernel
theorem d_T_init_5 : decode b_T_init 5 = .ok (.sipush 4000, 3) := by decide +kernel
theorem d_T_init_8 : decode b_T_init 8 = .ok (.newarray .int, 2) := by decide +kernel
theorem d_T_init_10 : decode b_T_init 10 = .ok (.putfield 9, 3) := by decide +kernel
theorem d_T_init_13 : decode b_T_init 13 = .ok (.aload_n 0, 1) := by decide +kernel
theorem d_T_init_14 : decode b_T_init 14 = .ok (.sipush 4000, 3) := by decide +kernel
theorem d_T_init_17 : decode b_T_init 17 = .ok (.newarray .int, 2) := by decide +kernel
theorem d_T_init_19 : decode b_T_init 19 = .ok (.putfield 13, 3) := by decide +kernel
theorem d_T_init_22 : decode b_T_init 22 = .ok (.aload_n 0, 1) := by decide +kernel
theorem d_T_init_23 : decode b_T_init 23 = .ok (.sipush 4000, 3) := by decide +kernel
theorem d_T_init_26 : decode b_T_init 26 = .ok (.newarray .int, 2) := by decide +kernel
theorem d_T_init_28 : decode b_T_init 28 = .ok (.putfield 16, 3) := by decide +kernel
theorem d_T_init_31 : decode b_T_init 31 = .ok (.aload_n 0, 1) := by decide +kernel
theorem d_T_init_32 : decode b_T_init 32 = .ok (.sipush 1143, 3) := by decide +kernel
theorem d_T_init_35 : decode b_T_init 35 = .ok (.newarray .int, 2) := by decide +kernel
theorem d_T_init_37 : decode b_T_init 37 = .ok (.putfield 19, 3) := by decide +kernel
theorem d_T_init_40 : decode b_T_init 40 = .ok (.aload_n 0, 1) := by decide +kernel
theorem d_T_init_41 : decode b_T_init 41 = .ok (.sipush 1143, 3) := by decide +kernel
theorem d_T_init_44 : decode b_T_init 44 = .ok (.newarray .int, 2) := by decide +kernel
theorem d_T_init_46 : decode b_T_init 46 = .ok (.putfield 22, 3) := by decide +kernel
theorem d_T_init_49 : decode b_T_init 49 = .ok (.aload_n 0, 1) := by decide +kernel
theorem d_T_init_50 : decode b_T_init 50 = .ok (.bipush 9, 2) := by decide +kernel
theorem d_T_init_52 : decode b_T_init 52 = .ok (.newarray .int, 2) := by decide +kernel
theorem d_T_init_54 : decode b_T_init 54 = .ok (.putfield 25, 3) := by decide +kernel
theorem d_T_init_57 : decode b_T_init 57 = .ok (.aload_n 0, 1) := by decide +kernel
theorem d_T_init_58 : decode b_T_init 58 = .ok (.sipush 512, 3) := by decide +kernel
theorem d_T_init_61 : decode b_T_init 61 = .ok (.newarray .int, 2) := by decide +kernel
theorem d_T_init_63 : decode b_T_init 63 = .ok (.putfield 28, 3) := by decide +kernel
theorem d_T_init_66 : decode b_T_init 66 = .ok (.aload_n 0, 1) := by decide +kernel
theorem d_T_init_67 : decode b_T_init 67 = .ok (.sipush 512, 3) := by decide +kernel
theorem d_T_init_70 : decode b_T_init 70 = .ok (.newarray .int, 2) := by decide +kernel
theorem d_T_init_72 : decode b_T_init 72 = .ok (.putfield 31, 3) := by decide +kernel
theorem d_T_init_75 : decode b_T_init 75 = .ok (.return_, 1) := by decide +kernel
theorem d_T_add_0 : decode b_T_add 0 = .ok (.aload_n 0, 1) := by decide +kernel
theorem d_T_add_1 : decode b_T_add 1 = .ok (.getfield 34, 3) := by decide +kernel
theorem d_T_add_4 : decode b_T_add 4 = .ok (.iconst 3, 1) := by decide +kernel
theorem d_T_add_5 : decode b_T_add 5 = .ok (.iadd, 1) := by decide +kernel
theorem d_T_add_6 : decode b_T_add 6 = .ok (.sipush 4000, 3) := by decide +kernel
theorem d_T_add_9 : decode b_T_add 9 = .ok (.if_icmp .le 11, 3) := by decide +kernel
theorem d_T_add_12 : decode b_T_add 12 = .ok (.new 38, 3) := by decide +kernel
theorem d_T_add_15 : decode b_T_add 15 = .ok (.dup, 1) := by decide +kernel
theorem d_T_add_16 : decode b_T_add 16 = .ok (.invokespecial 40, 3) := by decide +kernel
theorem d_T_add_19 : decode b_T_add 19 = .ok (.athrow, 1) := by decide +kernel
theorem d_T_add_20 : decode b_T_add 20 = .ok (.aload_n 0, 1) := by decide +kernel
theorem d_T_add_21 : decode b_T_add 21 = .ok (.getfield 9, 3) := by decide +kernel
theorem d_T_add_24 : decode b_T_add 24 = .ok (.aload_n 0, 1) := by decide +kernel
theorem d_T_add_25 : decode b_T_add 25 = .ok (.getfield 34, 3) := by decide +kernel
theorem d_T_add_28 : decode b_T_add 28 = .ok (.iload_n 1, 1) := by decide +kernel
theorem d_T_add_29 : decode b_T_add 29 = .ok (.sipush 511, 3) := by decide +kernel
theorem d_T_add_32 : decode b_T_add 32 = .ok (.iand, 1) := by decide +kernel
theorem d_T_add_33 : decode b_T_add 33 = .ok (.iastore, 1) := by decide +kernel
theorem d_T_add_34 : decode b_T_add 34 = .ok (.aload_n 0, 1) := by decide +kernel
theorem d_T_add_35 : decode b_T_add 35 = .ok (.getfield 9, 3) := by decide +kernel
theorem d_T_add_38 : decode b_T_add 38 = .ok (.aload_n 0, 1) := by decide +kernel
theorem d_T_add_39 : decode b_T_add 39 = .ok (.getfield 34, 3) := by decide +kernel
theorem d_T_add_42 : decode b_T_add 42 = .ok (.iconst 1, 1) := by decide +kernel
theorem d_T_add_43 : decode b_T_add 43 = .ok (.iadd, 1) := by decide +kernel
theorem d_T_add_44 : decode b_T_add 44 = .ok (.iload_n 2, 1) := by decide +kernel
theorem d_T_add_45 : decode b_T_add 45 = .ok (.sipush 511, 3) := by decide +kernel
theorem d_T_add_48 : decode b_T_add 48 = .ok (.iand, 1) := by decide +kernel
theorem d_T_add_49 : decode b_T_add 49 = .ok (.iastore, 1) := by decide +kernel
theorem d_T_add_50 : decode b_T_add 50 = .ok (.aload_n 0, 1) := by decide +kernel
theorem d_T_add_51 : decode b_T_add 51 = .ok (.getfield 9, 3) := by decide +kernel
theorem d_T_add_54 : decode b_T_add 54 = .ok (.aload_n 0, 1) := by decide +kernel
theorem d_T_add_55 : decode b_T_add 55 = .ok (.getfield 34, 3) := by decide +kernel
theorem d_T_add_58 : decode b_T_add 58 = .ok (.iconst 2, 1) := by decide +kernel
theorem d_T_add_59 : decode b_T_add 59 = .ok (.iadd, 1) := by decide +kernel
theorem d_T_add_60 : decode b_T_add 60 = .ok (.iload_n 3, 1) := by decide +kernel
theorem d_T_add_61 : decode b_T_add 61 = .ok (.sipush 511, 3) := by decide +kernel
theorem d_T_add_64 : decode b_T_add 64 = .ok (.iand, 1) := by decide +kernel
theorem d_T_add_65 : decode b_T_add 65 = .ok (.iastore, 1) := by decide +kernel
theorem d_T_add_66 : decode b_T_add 66 = .ok (.aload_n 0, 1) := by decide +kernel
theorem d_T_add_67 : decode b_T_add 67 = .ok (.dup, 1) := by decide +kernel
theorem d_T_add_68 : decode b_T_add 68 = .ok (.getfield 34, 3) := by decide +kernel
theorem d_T_add_71 : decode b_T_add 71 = .ok (.iconst 3, 1) := by decide +kernel
theorem d_T_add_72 : decode b_T_add 72 = .ok (.iadd, 1) := by decide +kernel
theorem d_T_add_73 : decode b_T_add 73 = .ok (.putfield 34, 3) := by decide +kernel
theorem d_T_add_76 : decode b_T_add 76 = .ok (.aload_n 0, 1) := by decide +kernel
theorem d_T_add_77 : decode b_T_add 77 = .ok (.getfield 34, 3) := by decide +kernel
theorem d_T_add_80 : decode b_T_add 80 = .ok (.ireturn, 1) := by decide +kernel
theorem d_T_cut_0 : decode b_T_cut 0 = .ok (.iload_n 1, 1) := by decide +kernel
theorem d_T_cut_1 : decode b_T_cut 1 = .ok (.ifCond .lt 11, 3) := by decide +kernel
theorem d_T_cut_4 : decode b_T_cut 4 = .ok (.iload_n 1, 1) := by decide +kernel
theorem d_T_cut_5 : decode b_T_cut 5 = .ok (.aload_n 0, 1) := by decide +kernel
theorem d_T_cut_6 : decode b_T_cut 6 = .ok (.getfield 34, 3) := by decide +kernel
theorem d_T_cut_9 : decode b_T_cut 9 = .ok (.if_icmp .le 11, 3) := by decide +kernel
theorem d_T_cut_12 : decode b_T_cut 12 = .ok (.new 41, 3) := by decide +kernel
theorem d_T_cut_15 : decode b_T_cut 15 = .ok (.dup, 1) := by decide +kernel
theorem d_T_cut_16 : decode b_T_cut 16 = .ok (.invokespecial 43, 3) := by decide +kernel
theorem d_T_cut_19 : decode b_T_cut 19 = .ok (.athrow, 1) := by decide +kernel
theorem d_T_cut_20 : decode b_T_cut 20 = .ok (.aload_n 0, 1) := by decide +kernel
theorem d_T_cut_21 : decode b_T_cut 21 = .ok (.iload_n 1, 1) := by decide +kernel
theorem d_T_cut_22 : decode b_T_cut 22 = .ok (.putfield 34, 3) := by decide +kernel
theorem d_T_cut_25 : decode b_T_cut 25 = .ok (.iload_n 1, 1) := by decide +kernel
theorem d_T_cut_26 : decode b_T_cut 26 = .ok (.ireturn, 1) := by decide +kernel
theorem d_T_build_0 : decode b_T_build 0 = .ok (.aload_n 0, 1) := by decide +kernel
theorem d_T_build_1 : decode b_T_build 1 = .ok (.aload_n 0, 1) := by decide +kernel
theorem d_T_build_2 : decode b_T_build 2 = .ok (.getfield 34, 3) := by decide +kernel
theorem d_T_build_5 : decode b_T_build 5 = .ok (.putfield 44, 3) := by decide +kernel
theorem d_T_build_8 : decode b_T_build 8 = .ok (.iconst 0, 1) := by decide +kernel
theorem d_T_build_9 : decode b_T_build 9 = .ok (.istore_n 1, 1) := by decide +kernel
theorem d_T_build_10 : decode b_T_build 10 = .ok (.iload_n 1, 1) := by decide +kernel
theorem d_T_build_11 : decode b_T_build 11 = .ok (.aload_n 0, 1) := by decide +kernel
theorem d_T_build_12 : decode b_T_build 12 = .ok (.getfield 44, 3) := by decide +kernel
theorem d_T_build_15 : decode b_T_build 15 = .ok (.if_icmp .ge 21, 3) := by decide +kernel
theorem d_T_build_18 : decode b_T_build 18 = .ok (.aload_n 0, 1) := by decide +kernel
theorem d_T_build_19 : decode b_T_build 19 = .ok (.getfield 13, 3) := by decide +kernel
theorem d_T_build_22 : decode b_T_build 22 = .ok (.iload_n 1, 1) := by decide +kernel
theorem d_T_build_23 : decode b_T_build 23 = .ok (.aload_n 0, 1) := by decide +kernel
theorem d_T_build_24 : decode b_T_build 24 = .ok (.getfield 9, 3) := by decide +kernel
theorem d_T_build_27 : decode b_T_build 27 = .ok (.iload_n 1, 1) := by decide +kernel
theorem d_T_build_28 : decode b_T_build 28 = .ok (.iaload, 1) := by decide +kernel
theorem d_T_build_29 : decode b_T_build 29 = .ok (.iastore, 1) := by decide +kernel
theorem d_T_build_30 : decode b_T_build 30 = .ok (.iinc 1 1, 3) := by decide +kernel
theorem d_T_build_33 : decode b_T_build 33 = .ok (.goto (-23), 3) := by decide +kernel
theorem d_T_build_36 : decode b_T_build 36 = .ok (.iconst 0, 1) := by decide +kernel
theorem d_T_build_37 : decode b_T_build 37 = .ok (.istore_n 1, 1) := by decide +kernel
theorem d_T_build_38 : decode b_T_build 38 = .ok (.iload_n 1, 1) := by decide +kernel
theorem d_T_build_39 : decode b_T_build 39 = .ok (.sipush 1143, 3) := by decide +kernel
theorem d_T_build_42 : decode b_T_build 42 = .ok (.if_icmp .ge 16, 3) := by decide +kernel
theorem d_T_build_45 : decode b_T_build 45 = .ok (.aload_n 0, 1) := by decide +kernel
theorem d_T_build_46 : decode b_T_build 46 = .ok (.getfield 19, 3) := by decide +kernel
theorem d_T_build_49 : decode b_T_build 49 = .ok (.iload_n 1, 1) := by decide +kernel
theorem d_T_build_50 : decode b_T_build 50 = .ok (.iconst 0, 1) := by decide +kernel
theorem d_T_build_51 : decode b_T_build 51 = .ok (.iastore, 1) := by decide +kernel
theorem d_T_build_52 : decode b_T_build 52 = .ok (.iinc 1 1, 3) := by decide +kernel
theorem d_T_build_55 : decode b_T_build 55 = .ok (.goto (-17), 3) := by decide +kernel
theorem d_T_build_58 : decode b_T_build 58 = .ok (.iconst 0, 1) := by decide +kernel
theorem d_T_build_59 : decode b_T_build 59 = .ok (.istore_n 1, 1) := by decide +kernel
theorem d_T_build_60 : decode b_T_build 60 = .ok (.iload_n 1, 1) := by decide +kernel
theorem d_T_build_61 : decode b_T_build 61 = .ok (.bipush 9, 2) := by decide +kernel
theorem d_T_build_63 : decode b_T_build 63 = .ok (.if_icmp .ge 18, 3) := by decide +kernel
theorem d_T_build_66 : decode b_T_build 66 = .ok (.aload_n 0, 1) := by decide +kernel
theorem d_T_build_67 : decode b_T_build 67 = .ok (.iload_n 1, 1) := by decide +kernel
theorem d_T_build_68 : decode b_T_build 68 = .ok (.bipush 8, 2) := by decide +kernel
theorem d_T_build_70 : decode b_T_build 70 = .ok (.iload_n 1, 1) := by decide +kernel
theorem d_T_build_71 : decode b_T_build 71 = .ok (.isub, 1) := by decide +kernel
theorem d_T_build_72 : decode b_T_build 72 = .ok (.invokevirtual 47, 3) := by decide +kernel
theorem d_T_build_75 : decode b_T_build 75 = .ok (.iinc 1 1, 3) := by decide +kernel
theorem d_T_build_78 : decode b_T_build 78 = .ok (.goto (-18), 3) := by decide +kernel
theorem d_T_build_81 : decode b_T_build 81 = .ok (.aload_n 0, 1) := by decide +kernel
theorem d_T_build_82 : decode b_T_build 82 = .ok (.getfield 44, 3) := by decide +kernel
theorem d_T_build_85 : decode b_T_build 85 = .ok (.ireturn, 1) := by decide +kernel
theorem d_T_level_0 : decode b_T_level 0 = .ok (.iconst 0, 1) := by decide +kernel
theorem d_T_level_1 : decode b_T_level 1 = .ok (.istore_n 3, 1) := by decide +kernel
theorem d_T_level_2 : decode b_T_level 2 = .ok (.iconst 0, 1) := by decide +kernel
theorem d_T_level_3 : decode b_T_level 3 = .ok (.istore 4, 2) := by decide +kernel
theorem d_T_level_5 : decode b_T_level 5 = .ok (.iload 4, 2) := by decide +kernel
theorem d_T_level_7 : decode b_T_level 7 = .ok (.aload_n 0, 1) := by decide +kernel
theorem d_T_level_8 : decode b_T_level 8 = .ok (.getfield 44, 3) := by decide +kernel
theorem d_T_level_11 : decode b_T_level 11 = .ok (.if_icmp .ge 26, 3) := by decide +kernel
theorem d_T_level_14 : decode b_T_level 14 = .ok (.aload_n 0, 1) := by decide +kernel
theorem d_T_level_15 : decode b_T_level 15 = .ok (.getfield 13, 3) := by decide +kernel
theorem d_T_level_18 : decode b_T_level 18 = .ok (.iload 4, 2) := by decide +kernel
theorem d_T_level_20 : decode b_T_level 20 = .ok (.iaload, 1) := by decide +kernel
theorem d_T_level_21 : decode b_T_level 21 = .ok (.iload_n 2, 1) := by decide +kernel
theorem d_T_level_22 : decode b_T_level 22 = .ok (.ishr, 1) := by decide +kernel
theorem d_T_level_23 : decode b_T_level 23 = .ok (.iconst 1, 1) := by decide +kernel
theorem d_T_level_24 : decode b_T_level 24 = .ok (.iand, 1) := by decide +kernel
theorem d_T_level_25 : decode b_T_level 25 = .ok (.ifCond .ne 6, 3) := by decide +kernel
theorem d_T_level_28 : decode b_T_level 28 = .ok (.iinc 3 1, 3) := by decide +kernel
theorem d_T_level_31 : decode b_T_level 31 = .ok (.iinc 4 1, 3) := by decide +kernel
theorem d_T_level_34 : decode b_T_level 34 = .ok (.goto (-29), 3) := by decide +kernel
theorem d_T_level_37 : decode b_T_level 37 = .ok (.aload_n 0, 1) := by decide +kernel
theorem d_T_level_38 : decode b_T_level 38 = .ok (.getfield 25, 3) := by decide +kernel
theorem d_T_level_41 : decode b_T_level 41 = .ok (.iload_n 1, 1) := by decide +kernel
theorem d_T_level_42 : decode b_T_level 42 = .ok (.iload_n 3, 1) := by decide +kernel
theorem d_T_level_43 : decode b_T_level 43 = .ok (.iastore, 1) := by decide +kernel
theorem d_T_level_44 : decode b_T_level 44 = .ok (.iconst 0, 1) := by decide +kernel
theorem d_T_level_45 : decode b_T_level 45 = .ok (.istore 4, 2) := by decide +kernel
theorem d_T_level_47 : decode b_T_level 47 = .ok (.iload_n 3, 1) := by decide +kernel
theorem d_T_level_48 : decode b_T_level 48 = .ok (.istore 5, 2) := by decide +kernel
theorem d_T_level_50 : decode b_T_level 50 = .ok (.iconst 0, 1) := by decide +kernel
theorem d_T_level_51 : decode b_T_level 51 = .ok (.istore 6, 2) := by decide +kernel
theorem d_T_level_53 : decode b_T_level 53 = .ok (.iload 6, 2) := by decide +kernel
theorem d_T_level_55 : decode b_T_level 55 = .ok (.aload_n 0, 1) := by decide +kernel
theorem d_T_level_56 : decode b_T_level 56 = .ok (.getfield 44, 3) := by decide +kernel
theorem d_T_level_59 : decode b_T_level 59 = .ok (.if_icmp .ge 81, 3) := by decide +kernel
theorem d_T_level_62 : decode b_T_level 62 = .ok (.aload_n 0, 1) := by decide +kernel
theorem d_T_level_63 : decode b_T_level 63 = .ok (.getfield 13, 3) := by decide +kernel
theorem d_T_level_66 : decode b_T_level 66 = .ok (.iload 6, 2) := by decide +kernel
theorem d_T_level_68 : decode b_T_level 68 = .ok (.iaload, 1) := by decide +kernel
theorem d_T_level_69 : decode b_T_level 69 = .ok (.iload_n 2, 1) := by decide +kernel
theorem d_T_level_70 : decode b_T_level 70 = .ok (.ishr, 1) := by decide +kernel
theorem d_T_level_71 : decode b_T_level 71 = .ok (.iconst 1, 1) := by decide +kernel
theorem d_T_level_72 : decode b_T_level 72 = .ok (.iand, 1) := by decide +kernel
theorem d_T_level_73 : decode b_T_level 73 = .ok (.ifCond .ne 23, 3) := by decide +kernel
theorem d_T_level_76 : decode b_T_level 76 = .ok (.aload_n 0, 1) := by decide +kernel
theorem d_T_level_77 : decode b_T_level 77 = .ok (.getfield 16, 3) := by decide +kernel
theorem d_T_level_80 : decode b_T_level 80 = .ok (.iload 4, 2) := by decide +kernel
theorem d_T_level_82 : decode b_T_level 82 = .ok (.aload_n 0, 1) := by decide +kernel
theorem d_T_level_83 : decode b_T_level 83 = .ok (.getfield 13, 3) := by decide +kernel
theorem d_T_level_86 : decode b_T_level 86 = .ok (.iload 6, 2) := by decide +kernel
theorem d_T_level_88 : decode b_T_level 88 = .ok (.iaload, 1) := by decide +kernel
theorem d_T_level_89 : decode b_T_level 89 = .ok (.iastore, 1) := by decide +kernel
theorem d_T_level_90 : decode b_T_level 90 = .ok (.iinc 4 1, 3) := by decide +kernel
theorem d_T_level_93 : decode b_T_level 93 = .ok (.goto 41, 3) := by decide +kernel
theorem d_T_level_96 : decode b_T_level 96 = .ok (.aload_n 0, 1) := by decide +kernel
theorem d_T_level_97 : decode b_T_level 97 = .ok (.getfield 19, 3) := by decide +kernel
theorem d_T_level_100 : decode b_T_level 100 = .ok (.iload_n 1, 1) := by decide +kernel
theorem d_T_level_101 : decode b_T_level 101 = .ok (.bipush 127, 2) := by decide +kernel
theorem d_T_level_103 : decode b_T_level 103 = .ok (.imul, 1) := by decide +kernel
theorem d_T_level_104 : decode b_T_level 104 = .ok (.iload 6, 2) := by decide +kernel
theorem d_T_level_106 : decode b_T_level 106 = .ok (.iconst 5, 1) := by decide +kernel
theorem d_T_level_107 : decode b_T_level 107 = .ok (.ishr, 1) := by decide +kernel
theorem d_T_level_108 : decode b_T_level 108 = .ok (.iadd, 1) := by decide +kernel
theorem d_T_level_109 : decode b_T_level 109 = .ok (.dup2, 1) := by decide +kernel
theorem d_T_level_110 : decode b_T_level 110 = .ok (.iaload, 1) := by decide +kernel
theorem d_T_level_111 : decode b_T_level 111 = .ok (.iconst 1, 1) := by decide +kernel
theorem d_T_level_112 : decode b_T_level 112 = .ok (.iload 6, 2) := by decide +kernel
theorem d_T_level_114 : decode b_T_level 114 = .ok (.ishl, 1) := by decide +kernel
theorem d_T_level_115 : decode b_T_level 115 = .ok (.ior, 1) := by decide +kernel
theorem d_T_level_116 : decode b_T_level 116 = .ok (.iastore, 1) := by decide +kernel
theorem d_T_level_117 : decode b_T_level 117 = .ok (.aload_n 0, 1) := by decide +kernel
theorem d_T_level_118 : decode b_T_level 118 = .ok (.getfield 16, 3) := by decide +kernel
theorem d_T_level_121 : decode b_T_level 121 = .ok (.iload 5, 2) := by decide +kernel
theorem d_T_level_123 : decode b_T_level 123 = .ok (.aload_n 0, 1) := by decide +kernel
theorem d_T_level_124 : decode b_T_level 124 = .ok (.getfield 13, 3) := by decide +kernel
theorem d_T_level_127 : decode b_T_level 127 = .ok (.iload 6, 2) := by decide +kernel
theorem d_T_level_129 : decode b_T_level 129 = .ok (.iaload, 1) := by decide +kernel
theorem d_T_level_130 : decode b_T_level 130 = .ok (.iastore, 1) := by decide +kernel
theorem d_T_level_131 : decode b_T_level 131 = .ok (.iinc 5 1, 3) := by decide +kernel
theorem d_T_level_134 : decode b_T_level 134 = .ok (.iinc 6 1, 3) := by decide +kernel
theorem d_T_level_137 : decode b_T_level 137 = .ok (.goto (-84), 3) := by decide +kernel
theorem d_T_level_140 : decode b_T_level 140 = .ok (.iconst 0, 1) := by decide +kernel
theorem d_T_level_141 : decode b_T_level 141 = .ok (.istore 6, 2) := by decide +kernel
theorem d_T_level_143 : decode b_T_level 143 = .ok (.iconst 0, 1) := by decide +kernel
theorem d_T_level_144 : decode b_T_level 144 = .ok (.istore 7, 2) := by decide +kernel
theorem d_T_level_146 : decode b_T_level 146 = .ok (.iload 7, 2) := by decide +kernel
theorem d_T_level_148 : decode b_T_level 148 = .ok (.bipush 127, 2) := by decide +kernel
theorem d_T_level_150 : decode b_T_level 150 = .ok (.if_icmp .ge 43, 3) := by decide +kernel
theorem d_T_level_153 : decode b_T_level 153 = .ok (.aload_n 0, 1) := by decide +kernel
theorem d_T_level_154 : decode b_T_level 154 = .ok (.getfield 22, 3) := by decide +kernel
theorem d_T_level_157 : decode b_T_level 157 = .ok (.iload_n 1, 1) := by decide +kernel
theorem d_T_level_158 : decode b_T_level 158 = .ok (.bipush 127, 2) := by decide +kernel
theorem d_T_level_160 : decode b_T_level 160 = .ok (.imul, 1) := by decide +kernel
theorem d_T_level_161 : decode b_T_level 161 = .ok (.iload 7, 2) := by decide +kernel
theorem d_T_level_163 : decode b_T_level 163 = .ok (.iadd, 1) := by decide +kernel
theorem d_T_level_164 : decode b_T_level 164 = .ok (.iload 6, 2) := by decide +kernel
theorem d_T_level_166 : decode b_T_level 166 = .ok (.iastore, 1) := by decide +kernel
theorem d_T_level_167 : decode b_T_level 167 = .ok (.iload 6, 2) := by decide +kernel
theorem d_T_level_169 : decode b_T_level 169 = .ok (.aload_n 0, 1) := by decide +kernel
theorem d_T_level_170 : decode b_T_level 170 = .ok (.getfield 19, 3) := by decide +kernel
theorem d_T_level_173 : decode b_T_level 173 = .ok (.iload_n 1, 1) := by decide +kernel
theorem d_T_level_174 : decode b_T_level 174 = .ok (.bipush 127, 2) := by decide +kernel
theorem d_T_level_176 : decode b_T_level 176 = .ok (.imul, 1) := by decide +kernel
theorem d_T_level_177 : decode b_T_level 177 = .ok (.iload 7, 2) := by decide +kernel
theorem d_T_level_179 : decode b_T_level 179 = .ok (.iadd, 1) := by decide +kernel
theorem d_T_level_180 : decode b_T_level 180 = .ok (.iaload, 1) := by decide +kernel
theorem d_T_level_181 : decode b_T_level 181 = .ok (.invokestatic 51, 3) := by decide +kernel
theorem d_T_level_184 : decode b_T_level 184 = .ok (.iadd, 1) := by decide +kernel
theorem d_T_level_185 : decode b_T_level 185 = .ok (.istore 6, 2) := by decide +kernel
theorem d_T_level_187 : decode b_T_level 187 = .ok (.iinc 7 1, 3) := by decide +kernel
theorem d_T_level_190 : decode b_T_level 190 = .ok (.goto (-44), 3) := by decide +kernel
theorem d_T_level_193 : decode b_T_level 193 = .ok (.iconst 0, 1) := by decide +kernel
theorem d_T_level_194 : decode b_T_level 194 = .ok (.istore 7, 2) := by decide +kernel
theorem d_T_level_196 : decode b_T_level 196 = .ok (.iload 7, 2) := by decide +kernel
theorem d_T_level_198 : decode b_T_level 198 = .ok (.aload_n 0, 1) := by decide +kernel
theorem d_T_level_199 : decode b_T_level 199 = .ok (.getfield 44, 3) := by decide +kernel
theorem d_T_level_202 : decode b_T_level 202 = .ok (.if_icmp .ge 23, 3) := by decide +kernel
theorem d_T_level_205 : decode b_T_level 205 = .ok (.aload_n 0, 1) := by decide +kernel
theorem d_T_level_206 : decode b_T_level 206 = .ok (.getfield 13, 3) := by decide +kernel
theorem d_T_level_209 : decode b_T_level 209 = .ok (.iload 7, 2) := by decide +kernel
theorem d_T_level_211 : decode b_T_level 211 = .ok (.aload_n 0, 1) := by decide +kernel
theorem d_T_level_212 : decode b_T_level 212 = .ok (.getfield 16, 3) := by decide +kernel
theorem d_T_level_215 : decode b_T_level 215 = .ok (.iload 7, 2) := by decide +kernel
theorem d_T_level_217 : decode b_T_level 217 = .ok (.iaload, 1) := by decide +kernel
theorem d_T_level_218 : decode b_T_level 218 = .ok (.iastore, 1) := by decide +kernel
theorem d_T_level_219 : decode b_T_level 219 = .ok (.iinc 7 1, 3) := by decide +kernel
theorem d_T_level_222 : decode b_T_level 222 = .ok (.goto (-26), 3) := by decide +kernel
theorem d_T_level_225 : decode b_T_level 225 = .ok (.return_, 1) := by decide +kernel
theorem d_T_bits_0 : decode b_T_bits 0 = .ok (.iload_n 0, 1) := by decide +kernel
theorem d_T_bits_1 : decode b_T_bits 1 = .ok (.iload_n 0, 1) := by decide +kernel
theorem d_T_bits_2 : decode b_T_bits 2 = .ok (.iconst 1, 1) := by decide +kernel
theorem d_T_bits_3 : decode b_T_bits 3 = .ok (.iushr, 1) := by decide +kernel
theorem d_T_bits_4 : decode b_T_bits 4 = .ok (.ldc 55, 2) := by decide +kernel
theorem d_T_bits_6 : decode b_T_bits 6 = .ok (.iand, 1) := by decide +kernel
theorem d_T_bits_7 : decode b_T_bits 7 = .ok (.isub, 1) := by decide +kernel
theorem d_T_bits_8 : decode b_T_bits 8 = .ok (.istore_n 1, 1) := by decide +kernel
theorem d_T_bits_9 : decode b_T_bits 9 = .ok (.iload_n 1, 1) := by decide +kernel
theorem d_T_bits_10 : decode b_T_bits 10 = .ok (.ldc 56, 2) := by decide +kernel
theorem d_T_bits_12 : decode b_T_bits 12 = .ok (.iand, 1) := by decide +kernel
theorem d_T_bits_13 : decode b_T_bits 13 = .ok (.iload_n 1, 1) := by decide +kernel
theorem d_T_bits_14 : decode b_T_bits 14 = .ok (.iconst 2, 1) := by decide +kernel
theorem d_T_bits_15 : decode b_T_bits 15 = .ok (.iushr, 1) := by decide +kernel
theorem d_T_bits_16 : decode b_T_bits 16 = .ok (.ldc 56, 2) := by decide +kernel
theorem d_T_bits_18 : decode b_T_bits 18 = .ok (.iand, 1) := by decide +kernel
theorem d_T_bits_19 : decode b_T_bits 19 = .ok (.iadd, 1) := by decide +kernel
theorem d_T_bits_20 : decode b_T_bits 20 = .ok (.istore_n 1, 1) := by decide +kernel
theorem d_T_bits_21 : decode b_T_bits 21 = .ok (.iload_n 1, 1) := by decide +kernel
theorem d_T_bits_22 : decode b_T_bits 22 = .ok (.iload_n 1, 1) := by decide +kernel
theorem d_T_bits_23 : decode b_T_bits 23 = .ok (.iconst 4, 1) := by decide +kernel
theorem d_T_bits_24 : decode b_T_bits 24 = .ok (.iushr, 1) := by decide +kernel
theorem d_T_bits_25 : decode b_T_bits 25 = .ok (.iadd, 1) := by decide +kernel
theorem d_T_bits_26 : decode b_T_bits 26 = .ok (.ldc 57, 2) := by decide +kernel
theorem d_T_bits_28 : decode b_T_bits 28 = .ok (.iand, 1) := by decide +kernel
theorem d_T_bits_29 : decode b_T_bits 29 = .ok (.istore_n 1, 1) := by decide +kernel
theorem d_T_bits_30 : decode b_T_bits 30 = .ok (.iload_n 1, 1) := by decide +kernel
theorem d_T_bits_31 : decode b_T_bits 31 = .ok (.ldc 58, 2) := by decide +kernel
theorem d_T_bits_33 : decode b_T_bits 33 = .ok (.imul, 1) := by decide +kernel
theorem d_T_bits_34 : decode b_T_bits 34 = .ok (.bipush 24, 2) := by decide +kernel
theorem d_T_bits_36 : decode b_T_bits 36 = .ok (.iushr, 1) := by decide +kernel
theorem d_T_bits_37 : decode b_T_bits 37 = .ok (.ireturn, 1) := by decide +kernel
theorem d_T_ones_0 : decode b_T_ones 0 = .ok (.aload_n 0, 1) := by decide +kernel
theorem d_T_ones_1 : decode b_T_ones 1 = .ok (.getfield 22, 3) := by decide +kernel
theorem d_T_ones_4 : decode b_T_ones 4 = .ok (.iload_n 1, 1) := by decide +kernel
theorem d_T_ones_5 : decode b_T_ones 5 = .ok (.bipush 127, 2) := by decide +kernel
theorem d_T_ones_7 : decode b_T_ones 7 = .ok (.imul, 1) := by decide +kernel
theorem d_T_ones_8 : decode b_T_ones 8 = .ok (.iload_n 2, 1) := by decide +kernel
theorem d_T_ones_9 : decode b_T_ones 9 = .ok (.iconst 5, 1) := by decide +kernel
theorem d_T_ones_10 : decode b_T_ones 10 = .ok (.ishr, 1) := by decide +kernel
theorem d_T_ones_11 : decode b_T_ones 11 = .ok (.iadd, 1) := by decide +kernel
theorem d_T_ones_12 : decode b_T_ones 12 = .ok (.iaload, 1) := by decide +kernel
theorem d_T_ones_13 : decode b_T_ones 13 = .ok (.iload_n 2, 1) := by decide +kernel
theorem d_T_ones_14 : decode b_T_ones 14 = .ok (.bipush 31, 2) := by decide +kernel
theorem d_T_ones_16 : decode b_T_ones 16 = .ok (.iand, 1) := by decide +kernel
theorem d_T_ones_17 : decode b_T_ones 17 = .ok (.ifCond .ne 7, 3) := by decide +kernel
theorem d_T_ones_20 : decode b_T_ones 20 = .ok (.iconst 0, 1) := by decide +kernel
theorem d_T_ones_21 : decode b_T_ones 21 = .ok (.goto 27, 3) := by decide +kernel
theorem d_T_ones_24 : decode b_T_ones 24 = .ok (.aload_n 0, 1) := by decide +kernel
theorem d_T_ones_25 : decode b_T_ones 25 = .ok (.getfield 19, 3) := by decide +kernel
theorem d_T_ones_28 : decode b_T_ones 28 = .ok (.iload_n 1, 1) := by decide +kernel
theorem d_T_ones_29 : decode b_T_ones 29 = .ok (.bipush 127, 2) := by decide +kernel
theorem d_T_ones_31 : decode b_T_ones 31 = .ok (.imul, 1) := by decide +kernel
theorem d_T_ones_32 : decode b_T_ones 32 = .ok (.iload_n 2, 1) := by decide +kernel
theorem d_T_ones_33 : decode b_T_ones 33 = .ok (.iconst 5, 1) := by decide +kernel
theorem d_T_ones_34 : decode b_T_ones 34 = .ok (.ishr, 1) := by decide +kernel
theorem d_T_ones_35 : decode b_T_ones 35 = .ok (.iadd, 1) := by decide +kernel
theorem d_T_ones_36 : decode b_T_ones 36 = .ok (.iaload, 1) := by decide +kernel
theorem d_T_ones_37 : decode b_T_ones 37 = .ok (.bipush 32, 2) := by decide +kernel
theorem d_T_ones_39 : decode b_T_ones 39 = .ok (.iload_n 2, 1) := by decide +kernel
theorem d_T_ones_40 : decode b_T_ones 40 = .ok (.bipush 31, 2) := by decide +kernel
theorem d_T_ones_42 : decode b_T_ones 42 = .ok (.iand, 1) := by decide +kernel
theorem d_T_ones_43 : decode b_T_ones 43 = .ok (.isub, 1) := by decide +kernel
theorem d_T_ones_44 : decode b_T_ones 44 = .ok (.ishl, 1) := by decide +kernel
theorem d_T_ones_45 : decode b_T_ones 45 = .ok (.invokestatic 51, 3) := by decide +kernel
theorem d_T_ones_48 : decode b_T_ones 48 = .ok (.iadd, 1) := by decide +kernel
theorem d_T_ones_49 : decode b_T_ones 49 = .ok (.ireturn, 1) := by decide +kernel
theorem d_T_is_0 : decode b_T_is 0 = .ok (.aload_n 0, 1) := by decide +kernel
theorem d_T_is_1 : decode b_T_is 1 = .ok (.getfield 19, 3) := by decide +kernel
theorem d_T_is_4 : decode b_T_is 4 = .ok (.iload_n 1, 1) := by decide +kernel
theorem d_T_is_5 : decode b_T_is 5 = .ok (.bipush 127, 2) := by decide +kernel
theorem d_T_is_7 : decode b_T_is 7 = .ok (.imul, 1) := by decide +kernel
theorem d_T_is_8 : decode b_T_is 8 = .ok (.iload_n 2, 1) := by decide +kernel
theorem d_T_is_9 : decode b_T_is 9 = .ok (.iconst 5, 1) := by decide +kernel
theorem d_T_is_10 : decode b_T_is 10 = .ok (.ishr, 1) := by decide +kernel
theorem d_T_is_11 : decode b_T_is 11 = .ok (.iadd, 1) := by decide +kernel
theorem d_T_is_12 : decode b_T_is 12 = .ok (.iaload, 1) := by decide +kernel
theorem d_T_is_13 : decode b_T_is 13 = .ok (.iload_n 2, 1) := by decide +kernel
theorem d_T_is_14 : decode b_T_is 14 = .ok (.iushr, 1) := by decide +kernel
theorem d_T_is_15 : decode b_T_is 15 = .ok (.iconst 1, 1) := by decide +kernel
theorem d_T_is_16 : decode b_T_is 16 = .ok (.iand, 1) := by decide +kernel
theorem d_T_is_17 : decode b_T_is 17 = .ok (.iconst 1, 1) := by decide +kernel
theorem d_T_is_18 : decode b_T_is 18 = .ok (.if_icmp .ne 7, 3) := by decide +kernel
theorem d_T_is_21 : decode b_T_is 21 = .ok (.iconst 1, 1) := by decide +kernel
theorem d_T_is_22 : decode b_T_is 22 = .ok (.goto 4, 3) := by decide +kernel
theorem d_T_is_25 : decode b_T_is 25 = .ok (.iconst 0, 1) := by decide +kernel
theorem d_T_is_26 : decode b_T_is 26 = .ok (.ireturn, 1) := by decide +kernel
theorem d_T_select_0 : decode b_T_select 0 = .ok (.iconst 0, 1) := by decide +kernel
theorem d_T_select_1 : decode b_T_select 1 = .ok (.istore 4, 2) := by decide +kernel
theorem d_T_select_3 : decode b_T_select 3 = .ok (.aload_n 0, 1) := by decide +kernel
theorem d_T_select_4 : decode b_T_select 4 = .ok (.getfield 44, 3) := by decide +kernel
theorem d_T_select_7 : decode b_T_select 7 = .ok (.istore 5, 2) := by decide +kernel
theorem d_T_select_9 : decode b_T_select 9 = .ok (.iload 4, 2) := by decide +kernel
theorem d_T_select_11 : decode b_T_select 11 = .ok (.iload 5, 2) := by decide +kernel
theorem d_T_select_13 : decode b_T_select 13 = .ok (.if_icmp .ge 62, 3) := by decide +kernel
theorem d_T_select_16 : decode b_T_select 16 = .ok (.iload 4, 2) := by decide +kernel
theorem d_T_select_18 : decode b_T_select 18 = .ok (.iload 5, 2) := by decide +kernel
theorem d_T_select_20 : decode b_T_select 20 = .ok (.iadd, 1) := by decide +kernel
theorem d_T_select_21 : decode b_T_select 21 = .ok (.iconst 1, 1) := by decide +kernel
theorem d_T_select_22 : decode b_T_select 22 = .ok (.iadd, 1) := by decide +kernel
theorem d_T_select_23 : decode b_T_select 23 = .ok (.iconst 1, 1) := by decide +kernel
theorem d_T_select_24 : decode b_T_select 24 = .ok (.iushr, 1) := by decide +kernel
theorem d_T_select_25 : decode b_T_select 25 = .ok (.istore 6, 2) := by decide +kernel
theorem d_T_select_27 : decode b_T_select 27 = .ok (.iload_n 2, 1) := by decide +kernel
theorem d_T_select_28 : decode b_T_select 28 = .ok (.ifCond .eq 13, 3) := by decide +kernel
theorem d_T_select_31 : decode b_T_select 31 = .ok (.aload_n 0, 1) := by decide +kernel
theorem d_T_select_32 : decode b_T_select 32 = .ok (.iload_n 1, 1) := by decide +kernel
theorem d_T_select_33 : decode b_T_select 33 = .ok (.iload 6, 2) := by decide +kernel
theorem d_T_select_35 : decode b_T_select 35 = .ok (.invokevirtual 59, 3) := by decide +kernel
theorem d_T_select_38 : decode b_T_select 38 = .ok (.goto 13, 3) := by decide +kernel
theorem d_T_select_41 : decode b_T_select 41 = .ok (.iload 6, 2) := by decide +kernel
theorem d_T_select_43 : decode b_T_select 43 = .ok (.aload_n 0, 1) := by decide +kernel
theorem d_T_select_44 : decode b_T_select 44 = .ok (.iload_n 1, 1) := by decide +kernel
theorem d_T_select_45 : decode b_T_select 45 = .ok (.iload 6, 2) := by decide +kernel
theorem d_T_select_47 : decode b_T_select 47 = .ok (.invokevirtual 59, 3) := by decide +kernel
theorem d_T_select_50 : decode b_T_select 50 = .ok (.isub, 1) := by decide +kernel
theorem d_T_select_51 : decode b_T_select 51 = .ok (.istore 7, 2) := by decide +kernel
theorem d_T_select_53 : decode b_T_select 53 = .ok (.iload 7, 2) := by decide +kernel
theorem d_T_select_55 : decode b_T_select 55 = .ok (.iload_n 3, 1) := by decide +kernel
theorem d_T_select_56 : decode b_T_select 56 = .ok (.if_icmp .gt 10, 3) := by decide +kernel
theorem d_T_select_59 : decode b_T_select 59 = .ok (.iload 6, 2) := by decide +kernel
theorem d_T_select_61 : decode b_T_select 61 = .ok (.istore 4, 2) := by decide +kernel
theorem d_T_select_63 : decode b_T_select 63 = .ok (.goto 9, 3) := by decide +kernel
theorem d_T_select_66 : decode b_T_select 66 = .ok (.iload 6, 2) := by decide +kernel
theorem d_T_select_68 : decode b_T_select 68 = .ok (.iconst 1, 1) := by decide +kernel
theorem d_T_select_69 : decode b_T_select 69 = .ok (.isub, 1) := by decide +kernel
theorem d_T_select_70 : decode b_T_select 70 = .ok (.istore 5, 2) := by decide +kernel
theorem d_T_select_72 : decode b_T_select 72 = .ok (.goto (-63), 3) := by decide +kernel
theorem d_T_select_75 : decode b_T_select 75 = .ok (.iload 4, 2) := by decide +kernel
theorem d_T_select_77 : decode b_T_select 77 = .ok (.ireturn, 1) := by decide +kernel
theorem d_T_at_0 : decode b_T_at 0 = .ok (.iload_n 1, 1) := by decide +kernel
theorem d_T_at_1 : decode b_T_at 1 = .ok (.ifCond .lt 11, 3) := by decide +kernel
theorem d_T_at_4 : decode b_T_at 4 = .ok (.iload_n 1, 1) := by decide +kernel
theorem d_T_at_5 : decode b_T_at 5 = .ok (.aload_n 0, 1) := by decide +kernel
theorem d_T_at_6 : decode b_T_at 6 = .ok (.getfield 44, 3) := by decide +kernel
theorem d_T_at_9 : decode b_T_at 9 = .ok (.if_icmp .lt 11, 3) := by decide +kernel
theorem d_T_at_12 : decode b_T_at 12 = .ok (.new 62, 3) := by decide +kernel
theorem d_T_at_15 : decode b_T_at 15 = .ok (.dup, 1) := by decide +kernel
theorem d_T_at_16 : decode b_T_at 16 = .ok (.invokespecial 64, 3) := by decide +kernel
theorem d_T_at_19 : decode b_T_at 19 = .ok (.athrow, 1) := by decide +kernel
theorem d_T_at_20 : decode b_T_at 20 = .ok (.iload_n 1, 1) := by decide +kernel
theorem d_T_at_21 : decode b_T_at 21 = .ok (.istore_n 2, 1) := by decide +kernel
theorem d_T_at_22 : decode b_T_at 22 = .ok (.iconst 0, 1) := by decide +kernel
theorem d_T_at_23 : decode b_T_at 23 = .ok (.istore_n 3, 1) := by decide +kernel
theorem d_T_at_24 : decode b_T_at 24 = .ok (.iconst 0, 1) := by decide +kernel
theorem d_T_at_25 : decode b_T_at 25 = .ok (.istore 4, 2) := by decide +kernel
theorem d_T_at_27 : decode b_T_at 27 = .ok (.iload 4, 2) := by decide +kernel
theorem d_T_at_29 : decode b_T_at 29 = .ok (.bipush 9, 2) := by decide +kernel
theorem d_T_at_31 : decode b_T_at 31 = .ok (.if_icmp .ge 66, 3) := by decide +kernel
theorem d_T_at_34 : decode b_T_at 34 = .ok (.aload_n 0, 1) := by decide +kernel
theorem d_T_at_35 : decode b_T_at 35 = .ok (.iload 4, 2) := by decide +kernel
theorem d_T_at_37 : decode b_T_at 37 = .ok (.iload_n 2, 1) := by decide +kernel
theorem d_T_at_38 : decode b_T_at 38 = .ok (.invokevirtual 65, 3) := by decide +kernel
theorem d_T_at_41 : decode b_T_at 41 = .ok (.istore 5, 2) := by decide +kernel
theorem d_T_at_43 : decode b_T_at 43 = .ok (.iload_n 3, 1) := by decide +kernel
theorem d_T_at_44 : decode b_T_at 44 = .ok (.iconst 1, 1) := by decide +kernel
theorem d_T_at_45 : decode b_T_at 45 = .ok (.ishl, 1) := by decide +kernel
theorem d_T_at_46 : decode b_T_at 46 = .ok (.iload 5, 2) := by decide +kernel
theorem d_T_at_48 : decode b_T_at 48 = .ok (.ifCond .eq 7, 3) := by decide +kernel
theorem d_T_at_51 : decode b_T_at 51 = .ok (.iconst 1, 1) := by decide +kernel
theorem d_T_at_52 : decode b_T_at 52 = .ok (.goto 4, 3) := by decide +kernel
theorem d_T_at_55 : decode b_T_at 55 = .ok (.iconst 0, 1) := by decide +kernel
theorem d_T_at_56 : decode b_T_at 56 = .ok (.ior, 1) := by decide +kernel
theorem d_T_at_57 : decode b_T_at 57 = .ok (.istore_n 3, 1) := by decide +kernel
theorem d_T_at_58 : decode b_T_at 58 = .ok (.iload 5, 2) := by decide +kernel
theorem d_T_at_60 : decode b_T_at 60 = .ok (.ifCond .eq 21, 3) := by decide +kernel
theorem d_T_at_63 : decode b_T_at 63 = .ok (.aload_n 0, 1) := by decide +kernel
theorem d_T_at_64 : decode b_T_at 64 = .ok (.getfield 25, 3) := by decide +kernel
theorem d_T_at_67 : decode b_T_at 67 = .ok (.iload 4, 2) := by decide +kernel
theorem d_T_at_69 : decode b_T_at 69 = .ok (.iaload, 1) := by decide +kernel
theorem d_T_at_70 : decode b_T_at 70 = .ok (.aload_n 0, 1) := by decide +kernel
theorem d_T_at_71 : decode b_T_at 71 = .ok (.iload 4, 2) := by decide +kernel
theorem d_T_at_73 : decode b_T_at 73 = .ok (.iload_n 2, 1) := by decide +kernel
theorem d_T_at_74 : decode b_T_at 74 = .ok (.invokevirtual 59, 3) := by decide +kernel
theorem d_T_at_77 : decode b_T_at 77 = .ok (.iadd, 1) := by decide +kernel
theorem d_T_at_78 : decode b_T_at 78 = .ok (.goto 12, 3) := by decide +kernel
theorem d_T_at_81 : decode b_T_at 81 = .ok (.iload_n 2, 1) := by decide +kernel
theorem d_T_at_82 : decode b_T_at 82 = .ok (.aload_n 0, 1) := by decide +kernel
theorem d_T_at_83 : decode b_T_at 83 = .ok (.iload 4, 2) := by decide +kernel
theorem d_T_at_85 : decode b_T_at 85 = .ok (.iload_n 2, 1) := by decide +kernel
theorem d_T_at_86 : decode b_T_at 86 = .ok (.invokevirtual 59, 3) := by decide +kernel
theorem d_T_at_89 : decode b_T_at 89 = .ok (.isub, 1) := by decide +kernel
theorem d_T_at_90 : decode b_T_at 90 = .ok (.istore_n 2, 1) := by decide +kernel
theorem d_T_at_91 : decode b_T_at 91 = .ok (.iinc 4 1, 3) := by decide +kernel
theorem d_T_at_94 : decode b_T_at 94 = .ok (.goto (-67), 3) := by decide +kernel
theorem d_T_at_97 : decode b_T_at 97 = .ok (.iload_n 3, 1) := by decide +kernel
theorem d_T_at_98 : decode b_T_at 98 = .ok (.ireturn, 1) := by decide +kernel
theorem d_T_part_0 : decode b_T_part 0 = .ok (.iload_n 1, 1) := by decide +kernel
theorem d_T_part_1 : decode b_T_part 1 = .ok (.ifCond .lt 16, 3) := by decide +kernel
theorem d_T_part_4 : decode b_T_part 4 = .ok (.iload_n 2, 1) := by decide +kernel
theorem d_T_part_5 : decode b_T_part 5 = .ok (.iload_n 1, 1) := by decide +kernel
theorem d_T_part_6 : decode b_T_part 6 = .ok (.if_icmp .lt 11, 3) := by decide +kernel
theorem d_T_part_9 : decode b_T_part 9 = .ok (.iload_n 2, 1) := by decide +kernel
theorem d_T_part_10 : decode b_T_part 10 = .ok (.aload_n 0, 1) := by decide +kernel
theorem d_T_part_11 : decode b_T_part 11 = .ok (.getfield 44, 3) := by decide +kernel
theorem d_T_part_14 : decode b_T_part 14 = .ok (.if_icmp .le 11, 3) := by decide +kernel
theorem d_T_part_17 : decode b_T_part 17 = .ok (.new 41, 3) := by decide +kernel
theorem d_T_part_20 : decode b_T_part 20 = .ok (.dup, 1) := by decide +kernel
theorem d_T_part_21 : decode b_T_part 21 = .ok (.invokespecial 43, 3) := by decide +kernel
theorem d_T_part_24 : decode b_T_part 24 = .ok (.athrow, 1) := by decide +kernel
theorem d_T_part_25 : decode b_T_part 25 = .ok (.return_, 1) := by decide +kernel
theorem d_T_numchk_0 : decode b_T_numchk 0 = .ok (.iload_n 0, 1) := by decide +kernel
theorem d_T_numchk_1 : decode b_T_numchk 1 = .ok (.ifCond .lt 8, 3) := by decide +kernel
theorem d_T_numchk_4 : decode b_T_numchk 4 = .ok (.iload_n 0, 1) := by decide +kernel
theorem d_T_numchk_5 : decode b_T_numchk 5 = .ok (.iload_n 1, 1) := by decide +kernel
theorem d_T_numchk_6 : decode b_T_numchk 6 = .ok (.if_icmp .le 11, 3) := by decide +kernel
theorem d_T_numchk_9 : decode b_T_numchk 9 = .ok (.new 41, 3) := by decide +kernel
theorem d_T_numchk_12 : decode b_T_numchk 12 = .ok (.dup, 1) := by decide +kernel
theorem d_T_numchk_13 : decode b_T_numchk 13 = .ok (.invokespecial 43, 3) := by decide +kernel
theorem d_T_numchk_16 : decode b_T_numchk 16 = .ok (.athrow, 1) := by decide +kernel
theorem d_T_numchk_17 : decode b_T_numchk 17 = .ok (.return_, 1) := by decide +kernel
theorem d_T_down_0 : decode b_T_down 0 = .ok (.aload_n 0, 1) := by decide +kernel
theorem d_T_down_1 : decode b_T_down 1 = .ok (.iload_n 1, 1) := by decide +kernel
theorem d_T_down_2 : decode b_T_down 2 = .ok (.aload_n 0, 1) := by decide +kernel
theorem d_T_down_3 : decode b_T_down 3 = .ok (.getfield 69, 3) := by decide +kernel
theorem d_T_down_6 : decode b_T_down 6 = .ok (.invokevirtual 59, 3) := by decide +kernel
theorem d_T_down_9 : decode b_T_down 9 = .ok (.istore_n 3, 1) := by decide +kernel
theorem d_T_down_10 : decode b_T_down 10 = .ok (.aload_n 0, 1) := by decide +kernel
theorem d_T_down_11 : decode b_T_down 11 = .ok (.iload_n 1, 1) := by decide +kernel
theorem d_T_down_12 : decode b_T_down 12 = .ok (.aload_n 0, 1) := by decide +kernel
theorem d_T_down_13 : decode b_T_down 13 = .ok (.getfield 72, 3) := by decide +kernel
theorem d_T_down_16 : decode b_T_down 16 = .ok (.invokevirtual 59, 3) := by decide +kernel
theorem d_T_down_19 : decode b_T_down 19 = .ok (.istore 4, 2) := by decide +kernel
theorem d_T_down_21 : decode b_T_down 21 = .ok (.aload_n 0, 1) := by decide +kernel
theorem d_T_down_22 : decode b_T_down 22 = .ok (.iload_n 2, 1) := by decide +kernel
theorem d_T_down_23 : decode b_T_down 23 = .ok (.ifCond .eq 14, 3) := by decide +kernel
theorem d_T_down_26 : decode b_T_down 26 = .ok (.aload_n 0, 1) := by decide +kernel
theorem d_T_down_27 : decode b_T_down 27 = .ok (.getfield 25, 3) := by decide +kernel
theorem d_T_down_30 : decode b_T_down 30 = .ok (.iload_n 1, 1) := by decide +kernel
theorem d_T_down_31 : decode b_T_down 31 = .ok (.iaload, 1) := by decide +kernel
theorem d_T_down_32 : decode b_T_down 32 = .ok (.iload_n 3, 1) := by decide +kernel
theorem d_T_down_33 : decode b_T_down 33 = .ok (.iadd, 1) := by decide +kernel
theorem d_T_down_34 : decode b_T_down 34 = .ok (.goto 9, 3) := by decide +kernel
theorem d_T_down_37 : decode b_T_down 37 = .ok (.aload_n 0, 1) := by decide +kernel
theorem d_T_down_38 : decode b_T_down 38 = .ok (.getfield 69, 3) := by decide +kernel
theorem d_T_down_41 : decode b_T_down 41 = .ok (.iload_n 3, 1) := by decide +kernel
theorem d_T_down_42 : decode b_T_down 42 = .ok (.isub, 1) := by decide +kernel
theorem d_T_down_43 : decode b_T_down 43 = .ok (.putfield 69, 3) := by decide +kernel
theorem d_T_down_46 : decode b_T_down 46 = .ok (.aload_n 0, 1) := by decide +kernel
theorem d_T_down_47 : decode b_T_down 47 = .ok (.iload_n 2, 1) := by decide +kernel
theorem d_T_down_48 : decode b_T_down 48 = .ok (.ifCond .eq 15, 3) := by decide +kernel
theorem d_T_down_51 : decode b_T_down 51 = .ok (.aload_n 0, 1) := by decide +kernel
theorem d_T_down_52 : decode b_T_down 52 = .ok (.getfield 25, 3) := by decide +kernel
theorem d_T_down_55 : decode b_T_down 55 = .ok (.iload_n 1, 1) := by decide +kernel
theorem d_T_down_56 : decode b_T_down 56 = .ok (.iaload, 1) := by decide +kernel
theorem d_T_down_57 : decode b_T_down 57 = .ok (.iload 4, 2) := by decide +kernel
theorem d_T_down_59 : decode b_T_down 59 = .ok (.iadd, 1) := by decide +kernel
theorem d_T_down_60 : decode b_T_down 60 = .ok (.goto 10, 3) := by decide +kernel
theorem d_T_down_63 : decode b_T_down 63 = .ok (.aload_n 0, 1) := by decide +kernel
theorem d_T_down_64 : decode b_T_down 64 = .ok (.getfield 72, 3) := by decide +kernel
theorem d_T_down_67 : decode b_T_down 67 = .ok (.iload 4, 2) := by decide +kernel
theorem d_T_down_69 : decode b_T_down 69 = .ok (.isub, 1) := by decide +kernel
theorem d_T_down_70 : decode b_T_down 70 = .ok (.putfield 72, 3) := by decide +kernel
theorem d_T_down_73 : decode b_T_down 73 = .ok (.return_, 1) := by decide +kernel
theorem d_T_often_0 : decode b_T_often 0 = .ok (.iload_n 1, 1) := by decide +kernel
theorem d_T_often_1 : decode b_T_often 1 = .ok (.sipush 511, 3) := by decide +kernel
theorem d_T_often_4 : decode b_T_often 4 = .ok (.invokestatic 75, 3) := by decide +kernel
theorem d_T_often_7 : decode b_T_often 7 = .ok (.aload_n 0, 1) := by decide +kernel
theorem d_T_often_8 : decode b_T_often 8 = .ok (.iload_n 2, 1) := by decide +kernel
theorem d_T_often_9 : decode b_T_often 9 = .ok (.iload_n 3, 1) := by decide +kernel
theorem d_T_often_10 : decode b_T_often 10 = .ok (.invokevirtual 78, 3) := by decide +kernel
theorem d_T_often_13 : decode b_T_often 13 = .ok (.aload_n 0, 1) := by decide +kernel
theorem d_T_often_14 : decode b_T_often 14 = .ok (.iload_n 2, 1) := by decide +kernel
theorem d_T_often_15 : decode b_T_often 15 = .ok (.putfield 69, 3) := by decide +kernel
theorem d_T_often_18 : decode b_T_often 18 = .ok (.aload_n 0, 1) := by decide +kernel
theorem d_T_often_19 : decode b_T_often 19 = .ok (.iload_n 3, 1) := by decide +kernel
theorem d_T_often_20 : decode b_T_often 20 = .ok (.putfield 72, 3) := by decide +kernel
theorem d_T_often_23 : decode b_T_often 23 = .ok (.iconst 0, 1) := by decide +kernel
theorem d_T_often_24 : decode b_T_often 24 = .ok (.istore 4, 2) := by decide +kernel
theorem d_T_often_26 : decode b_T_often 26 = .ok (.iload 4, 2) := by decide +kernel
theorem d_T_often_28 : decode b_T_often 28 = .ok (.bipush 9, 2) := by decide +kernel
theorem d_T_often_30 : decode b_T_often 30 = .ok (.if_icmp .ge 33, 3) := by decide +kernel
theorem d_T_often_33 : decode b_T_often 33 = .ok (.aload_n 0, 1) := by decide +kernel
theorem d_T_often_34 : decode b_T_often 34 = .ok (.iload 4, 2) := by decide +kernel
theorem d_T_often_36 : decode b_T_often 36 = .ok (.iload_n 1, 1) := by decide +kernel
theorem d_T_often_37 : decode b_T_often 37 = .ok (.bipush 8, 2) := by decide +kernel
theorem d_T_often_39 : decode b_T_often 39 = .ok (.iload 4, 2) := by decide +kernel
theorem d_T_often_41 : decode b_T_often 41 = .ok (.isub, 1) := by decide +kernel
theorem d_T_often_42 : decode b_T_often 42 = .ok (.ishr, 1) := by decide +kernel
theorem d_T_often_43 : decode b_T_often 43 = .ok (.iconst 1, 1) := by decide +kernel
theorem d_T_often_44 : decode b_T_often 44 = .ok (.iand, 1) := by decide +kernel
theorem d_T_often_45 : decode b_T_often 45 = .ok (.iconst 1, 1) := by decide +kernel
theorem d_T_often_46 : decode b_T_often 46 = .ok (.if_icmp .ne 7, 3) := by decide +kernel
theorem d_T_often_49 : decode b_T_often 49 = .ok (.iconst 1, 1) := by decide +kernel
theorem d_T_often_50 : decode b_T_often 50 = .ok (.goto 4, 3) := by decide +kernel
theorem d_T_often_53 : decode b_T_often 53 = .ok (.iconst 0, 1) := by decide +kernel
theorem d_T_often_54 : decode b_T_often 54 = .ok (.invokevirtual 81, 3) := by decide +kernel
theorem d_T_often_57 : decode b_T_often 57 = .ok (.iinc 4 1, 3) := by decide +kernel
theorem d_T_often_60 : decode b_T_often 60 = .ok (.goto (-34), 3) := by decide +kernel
theorem d_T_often_63 : decode b_T_often 63 = .ok (.aload_n 0, 1) := by decide +kernel
theorem d_T_often_64 : decode b_T_often 64 = .ok (.getfield 72, 3) := by decide +kernel
theorem d_T_often_67 : decode b_T_often 67 = .ok (.aload_n 0, 1) := by decide +kernel
theorem d_T_often_68 : decode b_T_often 68 = .ok (.getfield 69, 3) := by decide +kernel
theorem d_T_often_71 : decode b_T_often 71 = .ok (.isub, 1) := by decide +kernel
theorem d_T_often_72 : decode b_T_often 72 = .ok (.ireturn, 1) := by decide +kernel
theorem d_T_place_0 : decode b_T_place 0 = .ok (.iload_n 1, 1) := by decide +kernel
theorem d_T_place_1 : decode b_T_place 1 = .ok (.sipush 511, 3) := by decide +kernel
theorem d_T_place_4 : decode b_T_place 4 = .ok (.invokestatic 75, 3) := by decide +kernel
theorem d_T_place_7 : decode b_T_place 7 = .ok (.iload_n 2, 1) := by decide +kernel
theorem d_T_place_8 : decode b_T_place 8 = .ok (.ifCond .lt 17, 3) := by decide +kernel
theorem d_T_place_11 : decode b_T_place 11 = .ok (.iload_n 2, 1) := by decide +kernel
theorem d_T_place_12 : decode b_T_place 12 = .ok (.aload_n 0, 1) := by decide +kernel
theorem d_T_place_13 : decode b_T_place 13 = .ok (.iload_n 1, 1) := by decide +kernel
theorem d_T_place_14 : decode b_T_place 14 = .ok (.iconst 0, 1) := by decide +kernel
theorem d_T_place_15 : decode b_T_place 15 = .ok (.aload_n 0, 1) := by decide +kernel
theorem d_T_place_16 : decode b_T_place 16 = .ok (.getfield 44, 3) := by decide +kernel
theorem d_T_place_19 : decode b_T_place 19 = .ok (.invokevirtual 85, 3) := by decide +kernel
theorem d_T_place_22 : decode b_T_place 22 = .ok (.if_icmp .lt 11, 3) := by decide +kernel
theorem d_T_place_25 : decode b_T_place 25 = .ok (.new 62, 3) := by decide +kernel
theorem d_T_place_28 : decode b_T_place 28 = .ok (.dup, 1) := by decide +kernel
theorem d_T_place_29 : decode b_T_place 29 = .ok (.invokespecial 64, 3) := by decide +kernel
theorem d_T_place_32 : decode b_T_place 32 = .ok (.athrow, 1) := by decide +kernel
theorem d_T_place_33 : decode b_T_place 33 = .ok (.aload_n 0, 1) := by decide +kernel
theorem d_T_place_34 : decode b_T_place 34 = .ok (.getfield 69, 3) := by decide +kernel
theorem d_T_place_37 : decode b_T_place 37 = .ok (.iload_n 2, 1) := by decide +kernel
theorem d_T_place_38 : decode b_T_place 38 = .ok (.iadd, 1) := by decide +kernel
theorem d_T_place_39 : decode b_T_place 39 = .ok (.istore_n 3, 1) := by decide +kernel
theorem d_T_place_40 : decode b_T_place 40 = .ok (.bipush 8, 2) := by decide +kernel
theorem d_T_place_42 : decode b_T_place 42 = .ok (.istore 4, 2) := by decide +kernel
theorem d_T_place_44 : decode b_T_place 44 = .ok (.iload 4, 2) := by decide +kernel
theorem d_T_place_46 : decode b_T_place 46 = .ok (.ifCond .lt 56, 3) := by decide +kernel
theorem d_T_place_49 : decode b_T_place 49 = .ok (.iload_n 1, 1) := by decide +kernel
theorem d_T_place_50 : decode b_T_place 50 = .ok (.bipush 8, 2) := by decide +kernel
theorem d_T_place_52 : decode b_T_place 52 = .ok (.iload 4, 2) := by decide +kernel
theorem d_T_place_54 : decode b_T_place 54 = .ok (.isub, 1) := by decide +kernel
theorem d_T_place_55 : decode b_T_place 55 = .ok (.ishr, 1) := by decide +kernel
theorem d_T_place_56 : decode b_T_place 56 = .ok (.iconst 1, 1) := by decide +kernel
theorem d_T_place_57 : decode b_T_place 57 = .ok (.iand, 1) := by decide +kernel
theorem d_T_place_58 : decode b_T_place 58 = .ok (.iconst 1, 1) := by decide +kernel
theorem d_T_place_59 : decode b_T_place 59 = .ok (.if_icmp .ne 7, 3) := by decide +kernel
theorem d_T_place_62 : decode b_T_place 62 = .ok (.iconst 1, 1) := by decide +kernel
theorem d_T_place_63 : decode b_T_place 63 = .ok (.goto 4, 3) := by decide +kernel
theorem d_T_place_66 : decode b_T_place 66 = .ok (.iconst 0, 1) := by decide +kernel
theorem d_T_place_67 : decode b_T_place 67 = .ok (.istore 5, 2) := by decide +kernel
theorem d_T_place_69 : decode b_T_place 69 = .ok (.aload_n 0, 1) := by decide +kernel
theorem d_T_place_70 : decode b_T_place 70 = .ok (.iload 4, 2) := by decide +kernel
theorem d_T_place_72 : decode b_T_place 72 = .ok (.iload 5, 2) := by decide +kernel
theorem d_T_place_74 : decode b_T_place 74 = .ok (.iload 5, 2) := by decide +kernel
theorem d_T_place_76 : decode b_T_place 76 = .ok (.ifCond .eq 15, 3) := by decide +kernel
theorem d_T_place_79 : decode b_T_place 79 = .ok (.iload_n 3, 1) := by decide +kernel
theorem d_T_place_80 : decode b_T_place 80 = .ok (.aload_n 0, 1) := by decide +kernel
theorem d_T_place_81 : decode b_T_place 81 = .ok (.getfield 25, 3) := by decide +kernel
theorem d_T_place_84 : decode b_T_place 84 = .ok (.iload 4, 2) := by decide +kernel
theorem d_T_place_86 : decode b_T_place 86 = .ok (.iaload, 1) := by decide +kernel
theorem d_T_place_87 : decode b_T_place 87 = .ok (.isub, 1) := by decide +kernel
theorem d_T_place_88 : decode b_T_place 88 = .ok (.goto 4, 3) := by decide +kernel
theorem d_T_place_91 : decode b_T_place 91 = .ok (.iload_n 3, 1) := by decide +kernel
theorem d_T_place_92 : decode b_T_place 92 = .ok (.invokevirtual 89, 3) := by decide +kernel
theorem d_T_place_95 : decode b_T_place 95 = .ok (.istore_n 3, 1) := by decide +kernel
theorem d_T_place_96 : decode b_T_place 96 = .ok (.iinc 4 (-1), 3) := by decide +kernel
theorem d_T_place_99 : decode b_T_place 99 = .ok (.goto (-55), 3) := by decide +kernel
theorem d_T_place_102 : decode b_T_place 102 = .ok (.iload_n 3, 1) := by decide +kernel
theorem d_T_place_103 : decode b_T_place 103 = .ok (.ireturn, 1) := by decide +kernel
theorem d_T_least_0 : decode b_T_least 0 = .ok (.aload_n 0, 1) := by decide +kernel
theorem d_T_least_1 : decode b_T_least 1 = .ok (.iload_n 1, 1) := by decide +kernel
theorem d_T_least_2 : decode b_T_least 2 = .ok (.iload_n 2, 1) := by decide +kernel
theorem d_T_least_3 : decode b_T_least 3 = .ok (.invokevirtual 78, 3) := by decide +kernel
theorem d_T_least_6 : decode b_T_least 6 = .ok (.iload_n 3, 1) := by decide +kernel
theorem d_T_least_7 : decode b_T_least 7 = .ok (.ifCond .lt 10, 3) := by decide +kernel
theorem d_T_least_10 : decode b_T_least 10 = .ok (.iload_n 3, 1) := by decide +kernel
theorem d_T_least_11 : decode b_T_least 11 = .ok (.iload_n 2, 1) := by decide +kernel
theorem d_T_least_12 : decode b_T_least 12 = .ok (.iload_n 1, 1) := by decide +kernel
theorem d_T_least_13 : decode b_T_least 13 = .ok (.isub, 1) := by decide +kernel
theorem d_T_least_14 : decode b_T_least 14 = .ok (.if_icmp .lt 11, 3) := by decide +kernel
theorem d_T_least_17 : decode b_T_least 17 = .ok (.new 62, 3) := by decide +kernel
theorem d_T_least_20 : decode b_T_least 20 = .ok (.dup, 1) := by decide +kernel
theorem d_T_least_21 : decode b_T_least 21 = .ok (.invokespecial 64, 3) := by decide +kernel
theorem d_T_least_24 : decode b_T_least 24 = .ok (.athrow, 1) := by decide +kernel
theorem d_T_least_25 : decode b_T_least 25 = .ok (.aload_n 0, 1) := by decide +kernel
theorem d_T_least_26 : decode b_T_least 26 = .ok (.iload_n 1, 1) := by decide +kernel
theorem d_T_least_27 : decode b_T_least 27 = .ok (.iload_n 2, 1) := by decide +kernel
theorem d_T_least_28 : decode b_T_least 28 = .ok (.iload_n 3, 1) := by decide +kernel
theorem d_T_least_29 : decode b_T_least 29 = .ok (.invokevirtual 93, 3) := by decide +kernel
theorem d_T_least_32 : decode b_T_least 32 = .ok (.ireturn, 1) := by decide +kernel
theorem d_T_quantile_0 : decode b_T_quantile 0 = .ok (.aload_n 0, 1) := by decide +kernel
theorem d_T_quantile_1 : decode b_T_quantile 1 = .ok (.iload_n 1, 1) := by decide +kernel
theorem d_T_quantile_2 : decode b_T_quantile 2 = .ok (.putfield 69, 3) := by decide +kernel
theorem d_T_quantile_5 : decode b_T_quantile 5 = .ok (.aload_n 0, 1) := by decide +kernel
theorem d_T_quantile_6 : decode b_T_quantile 6 = .ok (.iload_n 2, 1) := by decide +kernel
theorem d_T_quantile_7 : decode b_T_quantile 7 = .ok (.putfield 72, 3) := by decide +kernel
theorem d_T_quantile_10 : decode b_T_quantile 10 = .ok (.iload_n 3, 1) := by decide +kernel
theorem d_T_quantile_11 : decode b_T_quantile 11 = .ok (.istore 4, 2) := by decide +kernel
theorem d_T_quantile_13 : decode b_T_quantile 13 = .ok (.iconst 0, 1) := by decide +kernel
theorem d_T_quantile_14 : decode b_T_quantile 14 = .ok (.istore 5, 2) := by decide +kernel
theorem d_T_quantile_16 : decode b_T_quantile 16 = .ok (.iconst 0, 1) := by decide +kernel
theorem d_T_quantile_17 : decode b_T_quantile 17 = .ok (.istore 6, 2) := by decide +kernel
theorem d_T_quantile_19 : decode b_T_quantile 19 = .ok (.iload 6, 2) := by decide +kernel
theorem d_T_quantile_21 : decode b_T_quantile 21 = .ok (.bipush 9, 2) := by decide +kernel
theorem d_T_quantile_23 : decode b_T_quantile 23 = .ok (.if_icmp .ge 93, 3) := by decide +kernel
theorem d_T_quantile_26 : decode b_T_quantile 26 = .ok (.aload_n 0, 1) := by decide +kernel
theorem d_T_quantile_27 : decode b_T_quantile 27 = .ok (.getfield 72, 3) := by decide +kernel
theorem d_T_quantile_30 : decode b_T_quantile 30 = .ok (.aload_n 0, 1) := by decide +kernel
theorem d_T_quantile_31 : decode b_T_quantile 31 = .ok (.getfield 69, 3) := by decide +kernel
theorem d_T_quantile_34 : decode b_T_quantile 34 = .ok (.isub, 1) := by decide +kernel
theorem d_T_quantile_35 : decode b_T_quantile 35 = .ok (.aload_n 0, 1) := by decide +kernel
theorem d_T_quantile_36 : decode b_T_quantile 36 = .ok (.iload 6, 2) := by decide +kernel
theorem d_T_quantile_38 : decode b_T_quantile 38 = .ok (.aload_n 0, 1) := by decide +kernel
theorem d_T_quantile_39 : decode b_T_quantile 39 = .ok (.getfield 72, 3) := by decide +kernel
theorem d_T_quantile_42 : decode b_T_quantile 42 = .ok (.invokevirtual 59, 3) := by decide +kernel
theorem d_T_quantile_45 : decode b_T_quantile 45 = .ok (.aload_n 0, 1) := by decide +kernel
theorem d_T_quantile_46 : decode b_T_quantile 46 = .ok (.iload 6, 2) := by decide +kernel
theorem d_T_quantile_48 : decode b_T_quantile 48 = .ok (.aload_n 0, 1) := by decide +kernel
theorem d_T_quantile_49 : decode b_T_quantile 49 = .ok (.getfield 69, 3) := by decide +kernel
theorem d_T_quantile_52 : decode b_T_quantile 52 = .ok (.invokevirtual 59, 3) := by decide +kernel
theorem d_T_quantile_55 : decode b_T_quantile 55 = .ok (.isub, 1) := by decide +kernel
theorem d_T_quantile_56 : decode b_T_quantile 56 = .ok (.isub, 1) := by decide +kernel
theorem d_T_quantile_57 : decode b_T_quantile 57 = .ok (.istore 7, 2) := by decide +kernel
theorem d_T_quantile_59 : decode b_T_quantile 59 = .ok (.iload 4, 2) := by decide +kernel
theorem d_T_quantile_61 : decode b_T_quantile 61 = .ok (.iload 7, 2) := by decide +kernel
theorem d_T_quantile_63 : decode b_T_quantile 63 = .ok (.if_icmp .lt 7, 3) := by decide +kernel
theorem d_T_quantile_66 : decode b_T_quantile 66 = .ok (.iconst 1, 1) := by decide +kernel
theorem d_T_quantile_67 : decode b_T_quantile 67 = .ok (.goto 4, 3) := by decide +kernel
theorem d_T_quantile_70 : decode b_T_quantile 70 = .ok (.iconst 0, 1) := by decide +kernel
theorem d_T_quantile_71 : decode b_T_quantile 71 = .ok (.istore 8, 2) := by decide +kernel
theorem d_T_quantile_73 : decode b_T_quantile 73 = .ok (.iload 8, 2) := by decide +kernel
theorem d_T_quantile_75 : decode b_T_quantile 75 = .ok (.ifCond .eq 10, 3) := by decide +kernel
theorem d_T_quantile_78 : decode b_T_quantile 78 = .ok (.iload 4, 2) := by decide +kernel
theorem d_T_quantile_80 : decode b_T_quantile 80 = .ok (.iload 7, 2) := by decide +kernel
theorem d_T_quantile_82 : decode b_T_quantile 82 = .ok (.isub, 1) := by decide +kernel
theorem d_T_quantile_83 : decode b_T_quantile 83 = .ok (.istore 4, 2) := by decide +kernel
theorem d_T_quantile_85 : decode b_T_quantile 85 = .ok (.aload_n 0, 1) := by decide +kernel
theorem d_T_quantile_86 : decode b_T_quantile 86 = .ok (.iload 6, 2) := by decide +kernel
theorem d_T_quantile_88 : decode b_T_quantile 88 = .ok (.iload 8, 2) := by decide +kernel
theorem d_T_quantile_90 : decode b_T_quantile 90 = .ok (.invokevirtual 81, 3) := by decide +kernel
theorem d_T_quantile_93 : decode b_T_quantile 93 = .ok (.iload 5, 2) := by decide +kernel
theorem d_T_quantile_95 : decode b_T_quantile 95 = .ok (.iconst 1, 1) := by decide +kernel
theorem d_T_quantile_96 : decode b_T_quantile 96 = .ok (.ishl, 1) := by decide +kernel
theorem d_T_quantile_97 : decode b_T_quantile 97 = .ok (.iload 8, 2) := by decide +kernel
theorem d_T_quantile_99 : decode b_T_quantile 99 = .ok (.ifCond .eq 7, 3) := by decide +kernel
theorem d_T_quantile_102 : decode b_T_quantile 102 = .ok (.iconst 1, 1) := by decide +kernel
theorem d_T_quantile_103 : decode b_T_quantile 103 = .ok (.goto 4, 3) := by decide +kernel
theorem d_T_quantile_106 : decode b_T_quantile 106 = .ok (.iconst 0, 1) := by decide +kernel
theorem d_T_quantile_107 : decode b_T_quantile 107 = .ok (.ior, 1) := by decide +kernel
theorem d_T_quantile_108 : decode b_T_quantile 108 = .ok (.istore 5, 2) := by decide +kernel
theorem d_T_quantile_110 : decode b_T_quantile 110 = .ok (.iinc 6 1, 3) := by decide +kernel
theorem d_T_quantile_113 : decode b_T_quantile 113 = .ok (.goto (-94), 3) := by decide +kernel
theorem d_T_quantile_116 : decode b_T_quantile 116 = .ok (.iload 5, 2) := by decide +kernel
theorem d_T_quantile_118 : decode b_T_quantile 118 = .ok (.ireturn, 1) := by decide +kernel
theorem d_T_below_0 : decode b_T_below 0 = .ok (.iload_n 1, 1) := by decide +kernel
theorem d_T_below_1 : decode b_T_below 1 = .ok (.sipush 512, 3) := by decide +kernel
theorem d_T_below_4 : decode b_T_below 4 = .ok (.invokestatic 75, 3) := by decide +kernel
theorem d_T_below_7 : decode b_T_below 7 = .ok (.aload_n 0, 1) := by decide +kernel
theorem d_T_below_8 : decode b_T_below 8 = .ok (.iload_n 2, 1) := by decide +kernel
theorem d_T_below_9 : decode b_T_below 9 = .ok (.iload_n 3, 1) := by decide +kernel
theorem d_T_below_10 : decode b_T_below 10 = .ok (.invokevirtual 78, 3) := by decide +kernel
theorem d_T_below_13 : decode b_T_below 13 = .ok (.iload_n 1, 1) := by decide +kernel
theorem d_T_below_14 : decode b_T_below 14 = .ok (.sipush 512, 3) := by decide +kernel
theorem d_T_below_17 : decode b_T_below 17 = .ok (.if_icmp .ne 7, 3) := by decide +kernel
theorem d_T_below_20 : decode b_T_below 20 = .ok (.iload_n 3, 1) := by decide +kernel
theorem d_T_below_21 : decode b_T_below 21 = .ok (.iload_n 2, 1) := by decide +kernel
theorem d_T_below_22 : decode b_T_below 22 = .ok (.isub, 1) := by decide +kernel
theorem d_T_below_23 : decode b_T_below 23 = .ok (.ireturn, 1) := by decide +kernel
theorem d_T_below_24 : decode b_T_below 24 = .ok (.aload_n 0, 1) := by decide +kernel
theorem d_T_below_25 : decode b_T_below 25 = .ok (.iload_n 2, 1) := by decide +kernel
theorem d_T_below_26 : decode b_T_below 26 = .ok (.putfield 69, 3) := by decide +kernel
theorem d_T_below_29 : decode b_T_below 29 = .ok (.aload_n 0, 1) := by decide +kernel
theorem d_T_below_30 : decode b_T_below 30 = .ok (.iload_n 3, 1) := by decide +kernel
theorem d_T_below_31 : decode b_T_below 31 = .ok (.putfield 72, 3) := by decide +kernel
theorem d_T_below_34 : decode b_T_below 34 = .ok (.iconst 0, 1) := by decide +kernel
theorem d_T_below_35 : decode b_T_below 35 = .ok (.istore 4, 2) := by decide +kernel
theorem d_T_below_37 : decode b_T_below 37 = .ok (.iconst 0, 1) := by decide +kernel
theorem d_T_below_38 : decode b_T_below 38 = .ok (.istore 5, 2) := by decide +kernel
theorem d_T_below_40 : decode b_T_below 40 = .ok (.iload 5, 2) := by decide +kernel
theorem d_T_below_42 : decode b_T_below 42 = .ok (.bipush 9, 2) := by decide +kernel
theorem d_T_below_44 : decode b_T_below 44 = .ok (.if_icmp .ge 78, 3) := by decide +kernel
theorem d_T_below_47 : decode b_T_below 47 = .ok (.iload_n 1, 1) := by decide +kernel
theorem d_T_below_48 : decode b_T_below 48 = .ok (.bipush 8, 2) := by decide +kernel
theorem d_T_below_50 : decode b_T_below 50 = .ok (.iload 5, 2) := by decide +kernel
theorem d_T_below_52 : decode b_T_below 52 = .ok (.isub, 1) := by decide +kernel
theorem d_T_below_53 : decode b_T_below 53 = .ok (.ishr, 1) := by decide +kernel
theorem d_T_below_54 : decode b_T_below 54 = .ok (.iconst 1, 1) := by decide +kernel
theorem d_T_below_55 : decode b_T_below 55 = .ok (.iand, 1) := by decide +kernel
theorem d_T_below_56 : decode b_T_below 56 = .ok (.iconst 1, 1) := by decide +kernel
theorem d_T_below_57 : decode b_T_below 57 = .ok (.if_icmp .ne 7, 3) := by decide +kernel
theorem d_T_below_60 : decode b_T_below 60 = .ok (.iconst 1, 1) := by decide +kernel
theorem d_T_below_61 : decode b_T_below 61 = .ok (.goto 4, 3) := by decide +kernel
theorem d_T_below_64 : decode b_T_below 64 = .ok (.iconst 0, 1) := by decide +kernel
theorem d_T_below_65 : decode b_T_below 65 = .ok (.istore 6, 2) := by decide +kernel
theorem d_T_below_67 : decode b_T_below 67 = .ok (.iload 6, 2) := by decide +kernel
theorem d_T_below_69 : decode b_T_below 69 = .ok (.ifCond .eq 39, 3) := by decide +kernel
theorem d_T_below_72 : decode b_T_below 72 = .ok (.iload 4, 2) := by decide +kernel
theorem d_T_below_74 : decode b_T_below 74 = .ok (.aload_n 0, 1) := by decide +kernel
theorem d_T_below_75 : decode b_T_below 75 = .ok (.getfield 72, 3) := by decide +kernel
theorem d_T_below_78 : decode b_T_below 78 = .ok (.aload_n 0, 1) := by decide +kernel
theorem d_T_below_79 : decode b_T_below 79 = .ok (.getfield 69, 3) := by decide +kernel
theorem d_T_below_82 : decode b_T_below 82 = .ok (.isub, 1) := by decide +kernel
theorem d_T_below_83 : decode b_T_below 83 = .ok (.aload_n 0, 1) := by decide +kernel
theorem d_T_below_84 : decode b_T_below 84 = .ok (.iload 5, 2) := by decide +kernel
theorem d_T_below_86 : decode b_T_below 86 = .ok (.aload_n 0, 1) := by decide +kernel
theorem d_T_below_87 : decode b_T_below 87 = .ok (.getfield 72, 3) := by decide +kernel
theorem d_T_below_90 : decode b_T_below 90 = .ok (.invokevirtual 59, 3) := by decide +kernel
theorem d_T_below_93 : decode b_T_below 93 = .ok (.aload_n 0, 1) := by decide +kernel
theorem d_T_below_94 : decode b_T_below 94 = .ok (.iload 5, 2) := by decide +kernel
theorem d_T_below_96 : decode b_T_below 96 = .ok (.aload_n 0, 1) := by decide +kernel
theorem d_T_below_97 : decode b_T_below 97 = .ok (.getfield 69, 3) := by decide +kernel
theorem d_T_below_100 : decode b_T_below 100 = .ok (.invokevirtual 59, 3) := by decide +kernel
theorem d_T_below_103 : decode b_T_below 103 = .ok (.isub, 1) := by decide +kernel
theorem d_T_below_104 : decode b_T_below 104 = .ok (.isub, 1) := by decide +kernel
theorem d_T_below_105 : decode b_T_below 105 = .ok (.iadd, 1) := by decide +kernel
theorem d_T_below_106 : decode b_T_below 106 = .ok (.istore 4, 2) := by decide +kernel
theorem d_T_below_108 : decode b_T_below 108 = .ok (.aload_n 0, 1) := by decide +kernel
theorem d_T_below_109 : decode b_T_below 109 = .ok (.iload 5, 2) := by decide +kernel
theorem d_T_below_111 : decode b_T_below 111 = .ok (.iload 6, 2) := by decide +kernel
theorem d_T_below_113 : decode b_T_below 113 = .ok (.invokevirtual 81, 3) := by decide +kernel
theorem d_T_below_116 : decode b_T_below 116 = .ok (.iinc 5 1, 3) := by decide +kernel
theorem d_T_below_119 : decode b_T_below 119 = .ok (.goto (-79), 3) := by decide +kernel
theorem d_T_below_122 : decode b_T_below 122 = .ok (.iload 4, 2) := by decide +kernel
theorem d_T_below_124 : decode b_T_below 124 = .ok (.ireturn, 1) := by decide +kernel
theorem d_T_different_0 : decode b_T_different 0 = .ok (.aload_n 0, 1) := by decide +kernel
theorem d_T_different_1 : decode b_T_different 1 = .ok (.iload_n 1, 1) := by decide +kernel
theorem d_T_different_2 : decode b_T_different 2 = .ok (.iload_n 2, 1) := by decide +kernel
theorem d_T_different_3 : decode b_T_different 3 = .ok (.invokevirtual 78, 3) := by decide +kernel
theorem d_T_different_6 : decode b_T_different 6 = .ok (.aload_n 0, 1) := by decide +kernel
theorem d_T_different_7 : decode b_T_different 7 = .ok (.iconst 0, 1) := by decide +kernel
theorem d_T_different_8 : decode b_T_different 8 = .ok (.putfield 96, 3) := by decide +kernel
theorem d_T_different_11 : decode b_T_different 11 = .ok (.aload_n 0, 1) := by decide +kernel
theorem d_T_different_12 : decode b_T_different 12 = .ok (.iconst 0, 1) := by decide +kernel
theorem d_T_different_13 : decode b_T_different 13 = .ok (.iconst 0, 1) := by decide +kernel
theorem d_T_different_14 : decode b_T_different 14 = .ok (.iload_n 1, 1) := by decide +kernel
theorem d_T_different_15 : decode b_T_different 15 = .ok (.iload_n 2, 1) := by decide +kernel
theorem d_T_different_16 : decode b_T_different 16 = .ok (.invokevirtual 99, 3) := by decide +kernel
theorem d_T_different_19 : decode b_T_different 19 = .ok (.aload_n 0, 1) := by decide +kernel
theorem d_T_different_20 : decode b_T_different 20 = .ok (.getfield 96, 3) := by decide +kernel
theorem d_T_different_23 : decode b_T_different 23 = .ok (.ireturn, 1) := by decide +kernel
theorem d_T_list_0 : decode b_T_list 0 = .ok (.iload_n 3, 1) := by decide +kernel
theorem d_T_list_1 : decode b_T_list 1 = .ok (.iload 4, 2) := by decide +kernel
theorem d_T_list_3 : decode b_T_list 3 = .ok (.if_icmp .ne 4, 3) := by decide +kernel
theorem d_T_list_6 : decode b_T_list 6 = .ok (.return_, 1) := by decide +kernel
theorem d_T_list_7 : decode b_T_list 7 = .ok (.iload_n 1, 1) := by decide +kernel
theorem d_T_list_8 : decode b_T_list 8 = .ok (.bipush 9, 2) := by decide +kernel
theorem d_T_list_10 : decode b_T_list 10 = .ok (.if_icmp .ne 37, 3) := by decide +kernel
theorem d_T_list_13 : decode b_T_list 13 = .ok (.aload_n 0, 1) := by decide +kernel
theorem d_T_list_14 : decode b_T_list 14 = .ok (.getfield 28, 3) := by decide +kernel
theorem d_T_list_17 : decode b_T_list 17 = .ok (.aload_n 0, 1) := by decide +kernel
theorem d_T_list_18 : decode b_T_list 18 = .ok (.getfield 96, 3) := by decide +kernel
theorem d_T_list_21 : decode b_T_list 21 = .ok (.iload_n 2, 1) := by decide +kernel
theorem d_T_list_22 : decode b_T_list 22 = .ok (.iastore, 1) := by decide +kernel
theorem d_T_list_23 : decode b_T_list 23 = .ok (.aload_n 0, 1) := by decide +kernel
theorem d_T_list_24 : decode b_T_list 24 = .ok (.getfield 31, 3) := by decide +kernel
theorem d_T_list_27 : decode b_T_list 27 = .ok (.aload_n 0, 1) := by decide +kernel
theorem d_T_list_28 : decode b_T_list 28 = .ok (.getfield 96, 3) := by decide +kernel
theorem d_T_list_31 : decode b_T_list 31 = .ok (.iload 4, 2) := by decide +kernel
theorem d_T_list_33 : decode b_T_list 33 = .ok (.iload_n 3, 1) := by decide +kernel
theorem d_T_list_34 : decode b_T_list 34 = .ok (.isub, 1) := by decide +kernel
theorem d_T_list_35 : decode b_T_list 35 = .ok (.iastore, 1) := by decide +kernel
theorem d_T_list_36 : decode b_T_list 36 = .ok (.aload_n 0, 1) := by decide +kernel
theorem d_T_list_37 : decode b_T_list 37 = .ok (.dup, 1) := by decide +kernel
theorem d_T_list_38 : decode b_T_list 38 = .ok (.getfield 96, 3) := by decide +kernel
theorem d_T_list_41 : decode b_T_list 41 = .ok (.iconst 1, 1) := by decide +kernel
theorem d_T_list_42 : decode b_T_list 42 = .ok (.iadd, 1) := by decide +kernel
theorem d_T_list_43 : decode b_T_list 43 = .ok (.putfield 96, 3) := by decide +kernel
theorem d_T_list_46 : decode b_T_list 46 = .ok (.return_, 1) := by decide +kernel
theorem d_T_list_47 : decode b_T_list 47 = .ok (.aload_n 0, 1) := by decide +kernel
theorem d_T_list_48 : decode b_T_list 48 = .ok (.iload_n 1, 1) := by decide +kernel
theorem d_T_list_49 : decode b_T_list 49 = .ok (.iload_n 3, 1) := by decide +kernel
theorem d_T_list_50 : decode b_T_list 50 = .ok (.invokevirtual 59, 3) := by decide +kernel
theorem d_T_list_53 : decode b_T_list 53 = .ok (.istore 5, 2) := by decide +kernel
theorem d_T_list_55 : decode b_T_list 55 = .ok (.aload_n 0, 1) := by decide +kernel
theorem d_T_list_56 : decode b_T_list 56 = .ok (.iload_n 1, 1) := by decide +kernel
theorem d_T_list_57 : decode b_T_list 57 = .ok (.iload 4, 2) := by decide +kernel
theorem d_T_list_59 : decode b_T_list 59 = .ok (.invokevirtual 59, 3) := by decide +kernel
theorem d_T_list_62 : decode b_T_list 62 = .ok (.istore 6, 2) := by decide +kernel
theorem d_T_list_64 : decode b_T_list 64 = .ok (.aload_n 0, 1) := by decide +kernel
theorem d_T_list_65 : decode b_T_list 65 = .ok (.iload_n 1, 1) := by decide +kernel
theorem d_T_list_66 : decode b_T_list 66 = .ok (.iconst 1, 1) := by decide +kernel
theorem d_T_list_67 : decode b_T_list 67 = .ok (.iadd, 1) := by decide +kernel
theorem d_T_list_68 : decode b_T_list 68 = .ok (.iconst 2, 1) := by decide +kernel
theorem d_T_list_69 : decode b_T_list 69 = .ok (.iload_n 2, 1) := by decide +kernel
theorem d_T_list_70 : decode b_T_list 70 = .ok (.imul, 1) := by decide +kernel
theorem d_T_list_71 : decode b_T_list 71 = .ok (.iload_n 3, 1) := by decide +kernel
theorem d_T_list_72 : decode b_T_list 72 = .ok (.iload 5, 2) := by decide +kernel
theorem d_T_list_74 : decode b_T_list 74 = .ok (.isub, 1) := by decide +kernel
theorem d_T_list_75 : decode b_T_list 75 = .ok (.iload 4, 2) := by decide +kernel
theorem d_T_list_77 : decode b_T_list 77 = .ok (.iload 6, 2) := by decide +kernel
theorem d_T_list_79 : decode b_T_list 79 = .ok (.isub, 1) := by decide +kernel
theorem d_T_list_80 : decode b_T_list 80 = .ok (.invokevirtual 99, 3) := by decide +kernel
theorem d_T_list_83 : decode b_T_list 83 = .ok (.aload_n 0, 1) := by decide +kernel
theorem d_T_list_84 : decode b_T_list 84 = .ok (.iload_n 1, 1) := by decide +kernel
theorem d_T_list_85 : decode b_T_list 85 = .ok (.iconst 1, 1) := by decide +kernel
theorem d_T_list_86 : decode b_T_list 86 = .ok (.iadd, 1) := by decide +kernel
theorem d_T_list_87 : decode b_T_list 87 = .ok (.iconst 2, 1) := by decide +kernel
theorem d_T_list_88 : decode b_T_list 88 = .ok (.iload_n 2, 1) := by decide +kernel
theorem d_T_list_89 : decode b_T_list 89 = .ok (.imul, 1) := by decide +kernel
theorem d_T_list_90 : decode b_T_list 90 = .ok (.iconst 1, 1) := by decide +kernel
theorem d_T_list_91 : decode b_T_list 91 = .ok (.iadd, 1) := by decide +kernel
theorem d_T_list_92 : decode b_T_list 92 = .ok (.aload_n 0, 1) := by decide +kernel
theorem d_T_list_93 : decode b_T_list 93 = .ok (.getfield 25, 3) := by decide +kernel
theorem d_T_list_96 : decode b_T_list 96 = .ok (.iload_n 1, 1) := by decide +kernel
theorem d_T_list_97 : decode b_T_list 97 = .ok (.iaload, 1) := by decide +kernel
theorem d_T_list_98 : decode b_T_list 98 = .ok (.iload 5, 2) := by decide +kernel
theorem d_T_list_100 : decode b_T_list 100 = .ok (.iadd, 1) := by decide +kernel
theorem d_T_list_101 : decode b_T_list 101 = .ok (.aload_n 0, 1) := by decide +kernel
theorem d_T_list_102 : decode b_T_list 102 = .ok (.getfield 25, 3) := by decide +kernel
theorem d_T_list_105 : decode b_T_list 105 = .ok (.iload_n 1, 1) := by decide +kernel
theorem d_T_list_106 : decode b_T_list 106 = .ok (.iaload, 1) := by decide +kernel
theorem d_T_list_107 : decode b_T_list 107 = .ok (.iload 6, 2) := by decide +kernel
theorem d_T_list_109 : decode b_T_list 109 = .ok (.iadd, 1) := by decide +kernel
theorem d_T_list_110 : decode b_T_list 110 = .ok (.invokevirtual 99, 3) := by decide +kernel
theorem d_T_list_113 : decode b_T_list 113 = .ok (.return_, 1) := by decide +kernel
theorem d_T_number_0 : decode b_T_number 0 = .ok (.iload_n 1, 1) := by decide +kernel
theorem d_T_number_1 : decode b_T_number 1 = .ok (.ifCond .lt 11, 3) := by decide +kernel
theorem d_T_number_4 : decode b_T_number 4 = .ok (.iload_n 1, 1) := by decide +kernel
theorem d_T_number_5 : decode b_T_number 5 = .ok (.aload_n 0, 1) := by decide +kernel
theorem d_T_number_6 : decode b_T_number 6 = .ok (.getfield 96, 3) := by decide +kernel
theorem d_T_number_9 : decode b_T_number 9 = .ok (.if_icmp .lt 11, 3) := by decide +kernel
theorem d_T_number_12 : decode b_T_number 12 = .ok (.new 62, 3) := by decide +kernel
theorem d_T_number_15 : decode b_T_number 15 = .ok (.dup, 1) := by decide +kernel
theorem d_T_number_16 : decode b_T_number 16 = .ok (.invokespecial 64, 3) := by decide +kernel
theorem d_T_number_19 : decode b_T_number 19 = .ok (.athrow, 1) := by decide +kernel
theorem d_T_number_20 : decode b_T_number 20 = .ok (.aload_n 0, 1) := by decide +kernel
theorem d_T_number_21 : decode b_T_number 21 = .ok (.getfield 28, 3) := by decide +kernel
theorem d_T_number_24 : decode b_T_number 24 = .ok (.iload_n 1, 1) := by decide +kernel
theorem d_T_number_25 : decode b_T_number 25 = .ok (.iaload, 1) := by decide +kernel
theorem d_T_number_26 : decode b_T_number 26 = .ok (.bipush 12, 2) := by decide +kernel
theorem d_T_number_28 : decode b_T_number 28 = .ok (.ishl, 1) := by decide +kernel
theorem d_T_number_29 : decode b_T_number 29 = .ok (.aload_n 0, 1) := by decide +kernel
theorem d_T_number_30 : decode b_T_number 30 = .ok (.getfield 31, 3) := by decide +kernel
theorem d_T_number_33 : decode b_T_number 33 = .ok (.iload_n 1, 1) := by decide +kernel
theorem d_T_number_34 : decode b_T_number 34 = .ok (.iaload, 1) := by decide +kernel
theorem d_T_number_35 : decode b_T_number 35 = .ok (.ior, 1) := by decide +kernel
theorem d_T_number_36 : decode b_T_number 36 = .ok (.ireturn, 1) := by decide +kernel
theorem d_T_before_0 : decode b_T_before 0 = .ok (.iload_n 1, 1) := by decide +kernel
theorem d_T_before_1 : decode b_T_before 1 = .ok (.sipush 511, 3) := by decide +kernel
theorem d_T_before_4 : decode b_T_before 4 = .ok (.invokestatic 75, 3) := by decide +kernel
theorem d_T_before_7 : decode b_T_before 7 = .ok (.aload_n 0, 1) := by decide +kernel
theorem d_T_before_8 : decode b_T_before 8 = .ok (.iload_n 1, 1) := by decide +kernel
theorem d_T_before_9 : decode b_T_before 9 = .ok (.iconst 1, 1) := by decide +kernel
theorem d_T_before_10 : decode b_T_before 10 = .ok (.iadd, 1) := by decide +kernel
theorem d_T_before_11 : decode b_T_before 11 = .ok (.iload_n 2, 1) := by decide +kernel
theorem d_T_before_12 : decode b_T_before 12 = .ok (.iload_n 3, 1) := by decide +kernel
theorem d_T_before_13 : decode b_T_before 13 = .ok (.invokevirtual 103, 3) := by decide +kernel
theorem d_T_before_16 : decode b_T_before 16 = .ok (.istore 4, 2) := by decide +kernel
theorem d_T_before_18 : decode b_T_before 18 = .ok (.iload 4, 2) := by decide +kernel
theorem d_T_before_20 : decode b_T_before 20 = .ok (.ifCond .ne 7, 3) := by decide +kernel
theorem d_T_before_23 : decode b_T_before 23 = .ok (.iconst (-1), 1) := by decide +kernel
theorem d_T_before_24 : decode b_T_before 24 = .ok (.goto 13, 3) := by decide +kernel
theorem d_T_before_27 : decode b_T_before 27 = .ok (.aload_n 0, 1) := by decide +kernel
theorem d_T_before_28 : decode b_T_before 28 = .ok (.iload_n 2, 1) := by decide +kernel
theorem d_T_before_29 : decode b_T_before 29 = .ok (.iload_n 3, 1) := by decide +kernel
theorem d_T_before_30 : decode b_T_before 30 = .ok (.iload 4, 2) := by decide +kernel
theorem d_T_before_32 : decode b_T_before 32 = .ok (.iconst 1, 1) := by decide +kernel
theorem d_T_before_33 : decode b_T_before 33 = .ok (.isub, 1) := by decide +kernel
theorem d_T_before_34 : decode b_T_before 34 = .ok (.invokevirtual 93, 3) := by decide +kernel
theorem d_T_before_37 : decode b_T_before 37 = .ok (.ireturn, 1) := by decide +kernel
theorem d_T_most_0 : decode b_T_most 0 = .ok (.aload_n 0, 1) := by decide +kernel
theorem d_T_most_1 : decode b_T_most 1 = .ok (.iload_n 1, 1) := by decide +kernel
theorem d_T_most_2 : decode b_T_most 2 = .ok (.iload_n 2, 1) := by decide +kernel
theorem d_T_most_3 : decode b_T_most 3 = .ok (.invokevirtual 78, 3) := by decide +kernel
theorem d_T_most_6 : decode b_T_most 6 = .ok (.aload_n 0, 1) := by decide +kernel
theorem d_T_most_7 : decode b_T_most 7 = .ok (.iconst (-1), 1) := by decide +kernel
theorem d_T_most_8 : decode b_T_most 8 = .ok (.putfield 106, 3) := by decide +kernel
theorem d_T_most_11 : decode b_T_most 11 = .ok (.aload_n 0, 1) := by decide +kernel
theorem d_T_most_12 : decode b_T_most 12 = .ok (.iconst 0, 1) := by decide +kernel
theorem d_T_most_13 : decode b_T_most 13 = .ok (.putfield 109, 3) := by decide +kernel
theorem d_T_most_16 : decode b_T_most 16 = .ok (.aload_n 0, 1) := by decide +kernel
theorem d_T_most_17 : decode b_T_most 17 = .ok (.iconst 0, 1) := by decide +kernel
theorem d_T_most_18 : decode b_T_most 18 = .ok (.iconst 0, 1) := by decide +kernel
theorem d_T_most_19 : decode b_T_most 19 = .ok (.iload_n 1, 1) := by decide +kernel
theorem d_T_most_20 : decode b_T_most 20 = .ok (.iload_n 2, 1) := by decide +kernel
theorem d_T_most_21 : decode b_T_most 21 = .ok (.invokevirtual 112, 3) := by decide +kernel
theorem d_T_most_24 : decode b_T_most 24 = .ok (.aload_n 0, 1) := by decide +kernel
theorem d_T_most_25 : decode b_T_most 25 = .ok (.getfield 106, 3) := by decide +kernel
theorem d_T_most_28 : decode b_T_most 28 = .ok (.ireturn, 1) := by decide +kernel
theorem d_T_frequent_0 : decode b_T_frequent 0 = .ok (.iload 4, 2) := by decide +kernel
theorem d_T_frequent_2 : decode b_T_frequent 2 = .ok (.iload_n 3, 1) := by decide +kernel
theorem d_T_frequent_3 : decode b_T_frequent 3 = .ok (.isub, 1) := by decide +kernel
theorem d_T_frequent_4 : decode b_T_frequent 4 = .ok (.aload_n 0, 1) := by decide +kernel
theorem d_T_frequent_5 : decode b_T_frequent 5 = .ok (.getfield 109, 3) := by decide +kernel
theorem d_T_frequent_8 : decode b_T_frequent 8 = .ok (.if_icmp .gt 4, 3) := by decide +kernel
theorem d_T_frequent_11 : decode b_T_frequent 11 = .ok (.return_, 1) := by decide +kernel
theorem d_T_frequent_12 : decode b_T_frequent 12 = .ok (.iload_n 1, 1) := by decide +kernel
theorem d_T_frequent_13 : decode b_T_frequent 13 = .ok (.bipush 9, 2) := by decide +kernel
theorem d_T_frequent_15 : decode b_T_frequent 15 = .ok (.if_icmp .ne 17, 3) := by decide +kernel
theorem d_T_frequent_18 : decode b_T_frequent 18 = .ok (.aload_n 0, 1) := by decide +kernel
theorem d_T_frequent_19 : decode b_T_frequent 19 = .ok (.iload_n 2, 1) := by decide +kernel
theorem d_T_frequent_20 : decode b_T_frequent 20 = .ok (.putfield 106, 3) := by decide +kernel
theorem d_T_frequent_23 : decode b_T_frequent 23 = .ok (.aload_n 0, 1) := by decide +kernel
theorem d_T_frequent_24 : decode b_T_frequent 24 = .ok (.iload 4, 2) := by decide +kernel
theorem d_T_frequent_26 : decode b_T_frequent 26 = .ok (.iload_n 3, 1) := by decide +kernel
theorem d_T_frequent_27 : decode b_T_frequent 27 = .ok (.isub, 1) := by decide +kernel
theorem d_T_frequent_28 : decode b_T_frequent 28 = .ok (.putfield 109, 3) := by decide +kernel
theorem d_T_frequent_31 : decode b_T_frequent 31 = .ok (.return_, 1) := by decide +kernel
theorem d_T_frequent_32 : decode b_T_frequent 32 = .ok (.aload_n 0, 1) := by decide +kernel
theorem d_T_frequent_33 : decode b_T_frequent 33 = .ok (.iload_n 1, 1) := by decide +kernel
theorem d_T_frequent_34 : decode b_T_frequent 34 = .ok (.iload_n 3, 1) := by decide +kernel
theorem d_T_frequent_35 : decode b_T_frequent 35 = .ok (.invokevirtual 59, 3) := by decide +kernel
theorem d_T_frequent_38 : decode b_T_frequent 38 = .ok (.istore 5, 2) := by decide +kernel
theorem d_T_frequent_40 : decode b_T_frequent 40 = .ok (.aload_n 0, 1) := by decide +kernel
theorem d_T_frequent_41 : decode b_T_frequent 41 = .ok (.iload_n 1, 1) := by decide +kernel
theorem d_T_frequent_42 : decode b_T_frequent 42 = .ok (.iload 4, 2) := by decide +kernel
theorem d_T_frequent_44 : decode b_T_frequent 44 = .ok (.invokevirtual 59, 3) := by decide +kernel
theorem d_T_frequent_47 : decode b_T_frequent 47 = .ok (.istore 6, 2) := by decide +kernel
theorem d_T_frequent_49 : decode b_T_frequent 49 = .ok (.aload_n 0, 1) := by decide +kernel
theorem d_T_frequent_50 : decode b_T_frequent 50 = .ok (.iload_n 1, 1) := by decide +kernel
theorem d_T_frequent_51 : decode b_T_frequent 51 = .ok (.iconst 1, 1) := by decide +kernel
theorem d_T_frequent_52 : decode b_T_frequent 52 = .ok (.iadd, 1) := by decide +kernel
theorem d_T_frequent_53 : decode b_T_frequent 53 = .ok (.iconst 2, 1) := by decide +kernel
theorem d_T_frequent_54 : decode b_T_frequent 54 = .ok (.iload_n 2, 1) := by decide +kernel
theorem d_T_frequent_55 : decode b_T_frequent 55 = .ok (.imul, 1) := by decide +kernel
theorem d_T_frequent_56 : decode b_T_frequent 56 = .ok (.iload_n 3, 1) := by decide +kernel
theorem d_T_frequent_57 : decode b_T_frequent 57 = .ok (.iload 5, 2) := by decide +kernel
theorem d_T_frequent_59 : decode b_T_frequent 59 = .ok (.isub, 1) := by decide +kernel
theorem d_T_frequent_60 : decode b_T_frequent 60 = .ok (.iload 4, 2) := by decide +kernel
theorem d_T_frequent_62 : decode b_T_frequent 62 = .ok (.iload 6, 2) := by decide +kernel
theorem d_T_frequent_64 : decode b_T_frequent 64 = .ok (.isub, 1) := by decide +kernel
theorem d_T_frequent_65 : decode b_T_frequent 65 = .ok (.invokevirtual 112, 3) := by decide +kernel
theorem d_T_frequent_68 : decode b_T_frequent 68 = .ok (.aload_n 0, 1) := by decide +kernel
theorem d_T_frequent_69 : decode b_T_frequent 69 = .ok (.iload_n 1, 1) := by decide +kernel
theorem d_T_frequent_70 : decode b_T_frequent 70 = .ok (.iconst 1, 1) := by decide +kernel
theorem d_T_frequent_71 : decode b_T_frequent 71 = .ok (.iadd, 1) := by decide +kernel
theorem d_T_frequent_72 : decode b_T_frequent 72 = .ok (.iconst 2, 1) := by decide +kernel
theorem d_T_frequent_73 : decode b_T_frequent 73 = .ok (.iload_n 2, 1) := by decide +kernel
theorem d_T_frequent_74 : decode b_T_frequent 74 = .ok (.imul, 1) := by decide +kernel
theorem d_T_frequent_75 : decode b_T_frequent 75 = .ok (.iconst 1, 1) := by decide +kernel
theorem d_T_frequent_76 : decode b_T_frequent 76 = .ok (.iadd, 1) := by decide +kernel
theorem d_T_frequent_77 : decode b_T_frequent 77 = .ok (.aload_n 0, 1) := by decide +kernel
theorem d_T_frequent_78 : decode b_T_frequent 78 = .ok (.getfield 25, 3) := by decide +kernel
theorem d_T_frequent_81 : decode b_T_frequent 81 = .ok (.iload_n 1, 1) := by decide +kernel
theorem d_T_frequent_82 : decode b_T_frequent 82 = .ok (.iaload, 1) := by decide +kernel
theorem d_T_frequent_83 : decode b_T_frequent 83 = .ok (.iload 5, 2) := by decide +kernel
theorem d_T_frequent_85 : decode b_T_frequent 85 = .ok (.iadd, 1) := by decide +kernel
theorem d_T_frequent_86 : decode b_T_frequent 86 = .ok (.aload_n 0, 1) := by decide +kernel
theorem d_T_frequent_87 : decode b_T_frequent 87 = .ok (.getfield 25, 3) := by decide +kernel
theorem d_T_frequent_90 : decode b_T_frequent 90 = .ok (.iload_n 1, 1) := by decide +kernel
theorem d_T_frequent_91 : decode b_T_frequent 91 = .ok (.iaload, 1) := by decide +kernel
theorem d_T_frequent_92 : decode b_T_frequent 92 = .ok (.iload 6, 2) := by decide +kernel
theorem d_T_frequent_94 : decode b_T_frequent 94 = .ok (.iadd, 1) := by decide +kernel
theorem d_T_frequent_95 : decode b_T_frequent 95 = .ok (.invokevirtual 112, 3) := by decide +kernel
theorem d_T_frequent_98 : decode b_T_frequent 98 = .ok (.return_, 1) := by decide +kernel
theorem d_T_count_0 : decode b_T_count 0 = .ok (.iload_n 1, 1) := by decide +kernel
theorem d_T_count_1 : decode b_T_count 1 = .ok (.ifCond .ne 10, 3) := by decide +kernel
theorem d_T_count_4 : decode b_T_count 4 = .ok (.aload_n 0, 1) := by decide +kernel
theorem d_T_count_5 : decode b_T_count 5 = .ok (.getfield 34, 3) := by decide +kernel
theorem d_T_count_8 : decode b_T_count 8 = .ok (.goto 16, 3) := by decide +kernel
theorem d_T_count_11 : decode b_T_count 11 = .ok (.iload_n 1, 1) := by decide +kernel
theorem d_T_count_12 : decode b_T_count 12 = .ok (.iconst 1, 1) := by decide +kernel
theorem d_T_count_13 : decode b_T_count 13 = .ok (.if_icmp .ne 10, 3) := by decide +kernel
theorem d_T_count_16 : decode b_T_count 16 = .ok (.aload_n 0, 1) := by decide +kernel
theorem d_T_count_17 : decode b_T_count 17 = .ok (.getfield 44, 3) := by decide +kernel
theorem d_T_count_20 : decode b_T_count 20 = .ok (.goto 4, 3) := by decide +kernel
theorem d_T_count_23 : decode b_T_count 23 = .ok (.iconst (-1), 1) := by decide +kernel
theorem d_T_count_24 : decode b_T_count 24 = .ok (.ireturn, 1) := by decide +kernel
end
section
theorem d_M_init_0 : decode b_M_init 0 = .ok (.aload_n 0, 1) := by decide +kernel
theorem d_M_init_1 : decode b_M_init 1 = .ok (.invokespecial 1, 3) := by decide +kernel
theorem d_M_init_4 : decode b_M_init 4 = .ok (.aload_n 0, 1) := by decide +kernel
theorem d_M_init_5 : decode b_M_init 5 = .ok (.iconst 0, 1) := by decide +kernel
theorem d_M_init_6 : decode b_M_init 6 = .ok (.putfield 7, 3) := by decide +kernel
theorem d_M_init_9 : decode b_M_init 9 = .ok (.aload_n 0, 1) := by decide +kernel
theorem d_M_init_10 : decode b_M_init 10 = .ok (.sipush 4000, 3) := by decide +kernel
theorem d_M_init_13 : decode b_M_init 13 = .ok (.newarray .int, 2) := by decide +kernel
theorem d_M_init_15 : decode b_M_init 15 = .ok (.putfield 13, 3) := by decide +kernel
theorem d_M_init_18 : decode b_M_init 18 = .ok (.aload_n 0, 1) := by decide +kernel
theorem d_M_init_19 : decode b_M_init 19 = .ok (.sipush 4000, 3) := by decide +kernel
theorem d_M_init_22 : decode b_M_init 22 = .ok (.newarray .int, 2) := by decide +kernel
theorem d_M_init_24 : decode b_M_init 24 = .ok (.putfield 17, 3) := by decide +kernel
theorem d_M_init_27 : decode b_M_init 27 = .ok (.aload_n 0, 1) := by decide +kernel
theorem d_M_init_28 : decode b_M_init 28 = .ok (.sipush 512, 3) := by decide +kernel
theorem d_M_init_31 : decode b_M_init 31 = .ok (.newarray .int, 2) := by decide +kernel
theorem d_M_init_33 : decode b_M_init 33 = .ok (.putfield 20, 3) := by decide +kernel
theorem d_M_init_36 : decode b_M_init 36 = .ok (.aload_n 0, 1) := by decide +kernel
theorem d_M_init_37 : decode b_M_init 37 = .ok (.sipush 512, 3) := by decide +kernel
theorem d_M_init_40 : decode b_M_init 40 = .ok (.newarray .int, 2) := by decide +kernel
theorem d_M_init_42 : decode b_M_init 42 = .ok (.putfield 23, 3) := by decide +kernel
theorem d_M_init_45 : decode b_M_init 45 = .ok (.aload_n 0, 1) := by decide +kernel
theorem d_M_init_46 : decode b_M_init 46 = .ok (.sipush 512, 3) := by decide +kernel
theorem d_M_init_49 : decode b_M_init 49 = .ok (.newarray .int, 2) := by decide +kernel
theorem d_M_init_51 : decode b_M_init 51 = .ok (.putfield 26, 3) := by decide +kernel
theorem d_M_init_54 : decode b_M_init 54 = .ok (.aload_n 0, 1) := by decide +kernel
theorem d_M_init_55 : decode b_M_init 55 = .ok (.iconst 0, 1) := by decide +kernel
theorem d_M_init_56 : decode b_M_init 56 = .ok (.putfield 29, 3) := by decide +kernel
theorem d_M_init_59 : decode b_M_init 59 = .ok (.aload_n 0, 1) := by decide +kernel
theorem d_M_init_60 : decode b_M_init 60 = .ok (.iconst 0, 1) := by decide +kernel
theorem d_M_init_61 : decode b_M_init 61 = .ok (.putfield 32, 3) := by decide +kernel
theorem d_M_init_64 : decode b_M_init 64 = .ok (.aload_n 0, 1) := by decide +kernel
theorem d_M_init_65 : decode b_M_init 65 = .ok (.iconst 0, 1) := by decide +kernel
theorem d_M_init_66 : decode b_M_init 66 = .ok (.putfield 35, 3) := by decide +kernel
theorem d_M_init_69 : decode b_M_init 69 = .ok (.return_, 1) := by decide +kernel
theorem d_M_thrown_0 : decode b_M_thrown 0 = .ok (.aload_n 0, 1) := by decide +kernel
theorem d_M_thrown_1 : decode b_M_thrown 1 = .ok (.getfield 7, 3) := by decide +kernel
theorem d_M_thrown_4 : decode b_M_thrown 4 = .ok (.ireturn, 1) := by decide +kernel
theorem d_M_refuse_0 : decode b_M_refuse 0 = .ok (.iload_n 2, 1) := by decide +kernel
theorem d_M_refuse_1 : decode b_M_refuse 1 = .ok (.ifCond .eq 8, 3) := by decide +kernel
theorem d_M_refuse_4 : decode b_M_refuse 4 = .ok (.aload_n 0, 1) := by decide +kernel
theorem d_M_refuse_5 : decode b_M_refuse 5 = .ok (.iload_n 1, 1) := by decide +kernel
theorem d_M_refuse_6 : decode b_M_refuse 6 = .ok (.putfield 7, 3) := by decide +kernel
theorem d_M_refuse_9 : decode b_M_refuse 9 = .ok (.iload_n 2, 1) := by decide +kernel
theorem d_M_refuse_10 : decode b_M_refuse 10 = .ok (.ireturn, 1) := by decide +kernel
theorem d_M_add_0 : decode b_M_add 0 = .ok (.aload_n 0, 1) := by decide +kernel
theorem d_M_add_1 : decode b_M_add 1 = .ok (.iconst 0, 1) := by decide +kernel
theorem d_M_add_2 : decode b_M_add 2 = .ok (.putfield 7, 3) := by decide +kernel
theorem d_M_add_5 : decode b_M_add 5 = .ok (.aload_n 0, 1) := by decide +kernel
theorem d_M_add_6 : decode b_M_add 6 = .ok (.iconst 1, 1) := by decide +kernel
theorem d_M_add_7 : decode b_M_add 7 = .ok (.aload_n 0, 1) := by decide +kernel
theorem d_M_add_8 : decode b_M_add 8 = .ok (.getfield 29, 3) := by decide +kernel
theorem d_M_add_11 : decode b_M_add 11 = .ok (.sipush 3997, 3) := by decide +kernel
theorem d_M_add_14 : decode b_M_add 14 = .ok (.if_icmp .le 7, 3) := by decide +kernel
theorem d_M_add_17 : decode b_M_add 17 = .ok (.iconst 1, 1) := by decide +kernel
theorem d_M_add_18 : decode b_M_add 18 = .ok (.goto 4, 3) := by decide +kernel
theorem d_M_add_21 : decode b_M_add 21 = .ok (.iconst 0, 1) := by decide +kernel
theorem d_M_add_22 : decode b_M_add 22 = .ok (.invokevirtual 38, 3) := by decide +kernel
theorem d_M_add_25 : decode b_M_add 25 = .ok (.ifCond .eq 5, 3) := by decide +kernel
theorem d_M_add_28 : decode b_M_add 28 = .ok (.iconst 0, 1) := by decide +kernel
theorem d_M_add_29 : decode b_M_add 29 = .ok (.ireturn, 1) := by decide +kernel
theorem d_M_add_30 : decode b_M_add 30 = .ok (.aload_n 0, 1) := by decide +kernel
theorem d_M_add_31 : decode b_M_add 31 = .ok (.getfield 13, 3) := by decide +kernel
theorem d_M_add_34 : decode b_M_add 34 = .ok (.aload_n 0, 1) := by decide +kernel
theorem d_M_add_35 : decode b_M_add 35 = .ok (.dup, 1) := by decide +kernel
theorem d_M_add_36 : decode b_M_add 36 = .ok (.getfield 29, 3) := by decide +kernel
theorem d_M_add_39 : decode b_M_add 39 = .ok (.dup_x1, 1) := by decide +kernel
theorem d_M_add_40 : decode b_M_add 40 = .ok (.iconst 1, 1) := by decide +kernel
theorem d_M_add_41 : decode b_M_add 41 = .ok (.iadd, 1) := by decide +kernel
theorem d_M_add_42 : decode b_M_add 42 = .ok (.putfield 29, 3) := by decide +kernel
theorem d_M_add_45 : decode b_M_add 45 = .ok (.iload_n 1, 1) := by decide +kernel
theorem d_M_add_46 : decode b_M_add 46 = .ok (.sipush 511, 3) := by decide +kernel
theorem d_M_add_49 : decode b_M_add 49 = .ok (.iand, 1) := by decide +kernel
theorem d_M_add_50 : decode b_M_add 50 = .ok (.iastore, 1) := by decide +kernel
theorem d_M_add_51 : decode b_M_add 51 = .ok (.aload_n 0, 1) := by decide +kernel
theorem d_M_add_52 : decode b_M_add 52 = .ok (.getfield 13, 3) := by decide +kernel
theorem d_M_add_55 : decode b_M_add 55 = .ok (.aload_n 0, 1) := by decide +kernel
theorem d_M_add_56 : decode b_M_add 56 = .ok (.dup, 1) := by decide +kernel
theorem d_M_add_57 : decode b_M_add 57 = .ok (.getfield 29, 3) := by decide +kernel
theorem d_M_add_60 : decode b_M_add 60 = .ok (.dup_x1, 1) := by decide +kernel
theorem d_M_add_61 : decode b_M_add 61 = .ok (.iconst 1, 1) := by decide +kernel
theorem d_M_add_62 : decode b_M_add 62 = .ok (.iadd, 1) := by decide +kernel
theorem d_M_add_63 : decode b_M_add 63 = .ok (.putfield 29, 3) := by decide +kernel
theorem d_M_add_66 : decode b_M_add 66 = .ok (.iload_n 2, 1) := by decide +kernel
theorem d_M_add_67 : decode b_M_add 67 = .ok (.sipush 511, 3) := by decide +kernel
theorem d_M_add_70 : decode b_M_add 70 = .ok (.iand, 1) := by decide +kernel
theorem d_M_add_71 : decode b_M_add 71 = .ok (.iastore, 1) := by decide +kernel
theorem d_M_add_72 : decode b_M_add 72 = .ok (.aload_n 0, 1) := by decide +kernel
theorem d_M_add_73 : decode b_M_add 73 = .ok (.getfield 13, 3) := by decide +kernel
theorem d_M_add_76 : decode b_M_add 76 = .ok (.aload_n 0, 1) := by decide +kernel
theorem d_M_add_77 : decode b_M_add 77 = .ok (.dup, 1) := by decide +kernel
theorem d_M_add_78 : decode b_M_add 78 = .ok (.getfield 29, 3) := by decide +kernel
theorem d_M_add_81 : decode b_M_add 81 = .ok (.dup_x1, 1) := by decide +kernel
theorem d_M_add_82 : decode b_M_add 82 = .ok (.iconst 1, 1) := by decide +kernel
theorem d_M_add_83 : decode b_M_add 83 = .ok (.iadd, 1) := by decide +kernel
theorem d_M_add_84 : decode b_M_add 84 = .ok (.putfield 29, 3) := by decide +kernel
theorem d_M_add_87 : decode b_M_add 87 = .ok (.iload_n 3, 1) := by decide +kernel
theorem d_M_add_88 : decode b_M_add 88 = .ok (.sipush 511, 3) := by decide +kernel
theorem d_M_add_91 : decode b_M_add 91 = .ok (.iand, 1) := by decide +kernel
theorem d_M_add_92 : decode b_M_add 92 = .ok (.iastore, 1) := by decide +kernel
theorem d_M_add_93 : decode b_M_add 93 = .ok (.aload_n 0, 1) := by decide +kernel
theorem d_M_add_94 : decode b_M_add 94 = .ok (.getfield 29, 3) := by decide +kernel
theorem d_M_add_97 : decode b_M_add 97 = .ok (.ireturn, 1) := by decide +kernel
theorem d_M_cut_0 : decode b_M_cut 0 = .ok (.aload_n 0, 1) := by decide +kernel
theorem d_M_cut_1 : decode b_M_cut 1 = .ok (.iconst 0, 1) := by decide +kernel
theorem d_M_cut_2 : decode b_M_cut 2 = .ok (.putfield 7, 3) := by decide +kernel
theorem d_M_cut_5 : decode b_M_cut 5 = .ok (.aload_n 0, 1) := by decide +kernel
theorem d_M_cut_6 : decode b_M_cut 6 = .ok (.iconst 1, 1) := by decide +kernel
theorem d_M_cut_7 : decode b_M_cut 7 = .ok (.iload_n 1, 1) := by decide +kernel
theorem d_M_cut_8 : decode b_M_cut 8 = .ok (.ifCond .lt 11, 3) := by decide +kernel
theorem d_M_cut_11 : decode b_M_cut 11 = .ok (.iload_n 1, 1) := by decide +kernel
theorem d_M_cut_12 : decode b_M_cut 12 = .ok (.aload_n 0, 1) := by decide +kernel
theorem d_M_cut_13 : decode b_M_cut 13 = .ok (.getfield 29, 3) := by decide +kernel
theorem d_M_cut_16 : decode b_M_cut 16 = .ok (.if_icmp .le 7, 3) := by decide +kernel
theorem d_M_cut_19 : decode b_M_cut 19 = .ok (.iconst 1, 1) := by decide +kernel
theorem d_M_cut_20 : decode b_M_cut 20 = .ok (.goto 4, 3) := by decide +kernel
theorem d_M_cut_23 : decode b_M_cut 23 = .ok (.iconst 0, 1) := by decide +kernel
theorem d_M_cut_24 : decode b_M_cut 24 = .ok (.invokevirtual 38, 3) := by decide +kernel
theorem d_M_cut_27 : decode b_M_cut 27 = .ok (.ifCond .eq 5, 3) := by decide +kernel
theorem d_M_cut_30 : decode b_M_cut 30 = .ok (.iconst 0, 1) := by decide +kernel
theorem d_M_cut_31 : decode b_M_cut 31 = .ok (.ireturn, 1) := by decide +kernel
theorem d_M_cut_32 : decode b_M_cut 32 = .ok (.aload_n 0, 1) := by decide +kernel
theorem d_M_cut_33 : decode b_M_cut 33 = .ok (.iload_n 1, 1) := by decide +kernel
theorem d_M_cut_34 : decode b_M_cut 34 = .ok (.putfield 29, 3) := by decide +kernel
theorem d_M_cut_37 : decode b_M_cut 37 = .ok (.iload_n 1, 1) := by decide +kernel
theorem d_M_cut_38 : decode b_M_cut 38 = .ok (.ireturn, 1) := by decide +kernel
theorem d_M_build_0 : decode b_M_build 0 = .ok (.aload_n 0, 1) := by decide +kernel
theorem d_M_build_1 : decode b_M_build 1 = .ok (.iconst 0, 1) := by decide +kernel
theorem d_M_build_2 : decode b_M_build 2 = .ok (.putfield 7, 3) := by decide +kernel
theorem d_M_build_5 : decode b_M_build 5 = .ok (.iconst 0, 1) := by decide +kernel
theorem d_M_build_6 : decode b_M_build 6 = .ok (.istore_n 1, 1) := by decide +kernel
theorem d_M_build_7 : decode b_M_build 7 = .ok (.iload_n 1, 1) := by decide +kernel
theorem d_M_build_8 : decode b_M_build 8 = .ok (.aload_n 0, 1) := by decide +kernel
theorem d_M_build_9 : decode b_M_build 9 = .ok (.getfield 29, 3) := by decide +kernel
theorem d_M_build_12 : decode b_M_build 12 = .ok (.if_icmp .ge 21, 3) := by decide +kernel
theorem d_M_build_15 : decode b_M_build 15 = .ok (.aload_n 0, 1) := by decide +kernel
theorem d_M_build_16 : decode b_M_build 16 = .ok (.getfield 17, 3) := by decide +kernel
theorem d_M_build_19 : decode b_M_build 19 = .ok (.iload_n 1, 1) := by decide +kernel
theorem d_M_build_20 : decode b_M_build 20 = .ok (.aload_n 0, 1) := by decide +kernel
theorem d_M_build_21 : decode b_M_build 21 = .ok (.getfield 13, 3) := by decide +kernel
theorem d_M_build_24 : decode b_M_build 24 = .ok (.iload_n 1, 1) := by decide +kernel
theorem d_M_build_25 : decode b_M_build 25 = .ok (.iaload, 1) := by decide +kernel
theorem d_M_build_26 : decode b_M_build 26 = .ok (.iastore, 1) := by decide +kernel
theorem d_M_build_27 : decode b_M_build 27 = .ok (.iinc 1 1, 3) := by decide +kernel
theorem d_M_build_30 : decode b_M_build 30 = .ok (.goto (-23), 3) := by decide +kernel
theorem d_M_build_33 : decode b_M_build 33 = .ok (.aload_n 0, 1) := by decide +kernel
theorem d_M_build_34 : decode b_M_build 34 = .ok (.aload_n 0, 1) := by decide +kernel
theorem d_M_build_35 : decode b_M_build 35 = .ok (.getfield 29, 3) := by decide +kernel
theorem d_M_build_38 : decode b_M_build 38 = .ok (.putfield 32, 3) := by decide +kernel
theorem d_M_build_41 : decode b_M_build 41 = .ok (.aload_n 0, 1) := by decide +kernel
theorem d_M_build_42 : decode b_M_build 42 = .ok (.getfield 32, 3) := by decide +kernel
theorem d_M_build_45 : decode b_M_build 45 = .ok (.ireturn, 1) := by decide +kernel
theorem d_M_at_0 : decode b_M_at 0 = .ok (.aload_n 0, 1) := by decide +kernel
theorem d_M_at_1 : decode b_M_at 1 = .ok (.iconst 0, 1) := by decide +kernel
theorem d_M_at_2 : decode b_M_at 2 = .ok (.putfield 7, 3) := by decide +kernel
theorem d_M_at_5 : decode b_M_at 5 = .ok (.aload_n 0, 1) := by decide +kernel
theorem d_M_at_6 : decode b_M_at 6 = .ok (.iconst 1, 1) := by decide +kernel
theorem d_M_at_7 : decode b_M_at 7 = .ok (.iload_n 1, 1) := by decide +kernel
theorem d_M_at_8 : decode b_M_at 8 = .ok (.ifCond .lt 11, 3) := by decide +kernel
theorem d_M_at_11 : decode b_M_at 11 = .ok (.iload_n 1, 1) := by decide +kernel
theorem d_M_at_12 : decode b_M_at 12 = .ok (.aload_n 0, 1) := by decide +kernel
theorem d_M_at_13 : decode b_M_at 13 = .ok (.getfield 32, 3) := by decide +kernel
theorem d_M_at_16 : decode b_M_at 16 = .ok (.if_icmp .lt 7, 3) := by decide +kernel
theorem d_M_at_19 : decode b_M_at 19 = .ok (.iconst 1, 1) := by decide +kernel
theorem d_M_at_20 : decode b_M_at 20 = .ok (.goto 4, 3) := by decide +kernel
theorem d_M_at_23 : decode b_M_at 23 = .ok (.iconst 0, 1) := by decide +kernel
theorem d_M_at_24 : decode b_M_at 24 = .ok (.invokevirtual 38, 3) := by decide +kernel
theorem d_M_at_27 : decode b_M_at 27 = .ok (.ifCond .eq 5, 3) := by decide +kernel
theorem d_M_at_30 : decode b_M_at 30 = .ok (.iconst 0, 1) := by decide +kernel
theorem d_M_at_31 : decode b_M_at 31 = .ok (.ireturn, 1) := by decide +kernel
theorem d_M_at_32 : decode b_M_at 32 = .ok (.aload_n 0, 1) := by decide +kernel
theorem d_M_at_33 : decode b_M_at 33 = .ok (.getfield 17, 3) := by decide +kernel
theorem d_M_at_36 : decode b_M_at 36 = .ok (.iload_n 1, 1) := by decide +kernel
theorem d_M_at_37 : decode b_M_at 37 = .ok (.iaload, 1) := by decide +kernel
theorem d_M_at_38 : decode b_M_at 38 = .ok (.ireturn, 1) := by decide +kernel
theorem d_M_noPart_0 : decode b_M_noPart 0 = .ok (.aload_n 0, 1) := by decide +kernel
theorem d_M_noPart_1 : decode b_M_noPart 1 = .ok (.iconst 0, 1) := by decide +kernel
theorem d_M_noPart_2 : decode b_M_noPart 2 = .ok (.putfield 7, 3) := by decide +kernel
theorem d_M_noPart_5 : decode b_M_noPart 5 = .ok (.aload_n 0, 1) := by decide +kernel
theorem d_M_noPart_6 : decode b_M_noPart 6 = .ok (.iconst 1, 1) := by decide +kernel
theorem d_M_noPart_7 : decode b_M_noPart 7 = .ok (.iload_n 1, 1) := by decide +kernel
theorem d_M_noPart_8 : decode b_M_noPart 8 = .ok (.ifCond .lt 20, 3) := by decide +kernel
theorem d_M_noPart_11 : decode b_M_noPart 11 = .ok (.iload_n 1, 1) := by decide +kernel
theorem d_M_noPart_12 : decode b_M_noPart 12 = .ok (.iload_n 2, 1) := by decide +kernel
theorem d_M_noPart_13 : decode b_M_noPart 13 = .ok (.if_icmp .gt 15, 3) := by decide +kernel
theorem d_M_noPart_16 : decode b_M_noPart 16 = .ok (.iload_n 2, 1) := by decide +kernel
theorem d_M_noPart_17 : decode b_M_noPart 17 = .ok (.aload_n 0, 1) := by decide +kernel
theorem d_M_noPart_18 : decode b_M_noPart 18 = .ok (.getfield 32, 3) := by decide +kernel
theorem d_M_noPart_21 : decode b_M_noPart 21 = .ok (.if_icmp .gt 7, 3) := by decide +kernel
theorem d_M_noPart_24 : decode b_M_noPart 24 = .ok (.iload_n 3, 1) := by decide +kernel
theorem d_M_noPart_25 : decode b_M_noPart 25 = .ok (.ifCond .eq 7, 3) := by decide +kernel
theorem d_M_noPart_28 : decode b_M_noPart 28 = .ok (.iconst 1, 1) := by decide +kernel
theorem d_M_noPart_29 : decode b_M_noPart 29 = .ok (.goto 4, 3) := by decide +kernel
theorem d_M_noPart_32 : decode b_M_noPart 32 = .ok (.iconst 0, 1) := by decide +kernel
theorem d_M_noPart_33 : decode b_M_noPart 33 = .ok (.invokevirtual 38, 3) := by decide +kernel
theorem d_M_noPart_36 : decode b_M_noPart 36 = .ok (.ireturn, 1) := by decide +kernel
theorem d_M_often_0 : decode b_M_often 0 = .ok (.aload_n 0, 1) := by decide +kernel
theorem d_M_often_1 : decode b_M_often 1 = .ok (.iload_n 2, 1) := by decide +kernel
theorem d_M_often_2 : decode b_M_often 2 = .ok (.iload_n 3, 1) := by decide +kernel
theorem d_M_often_3 : decode b_M_often 3 = .ok (.iload_n 1, 1) := by decide +kernel
theorem d_M_often_4 : decode b_M_often 4 = .ok (.ifCond .lt 10, 3) := by decide +kernel
theorem d_M_often_7 : decode b_M_often 7 = .ok (.iload_n 1, 1) := by decide +kernel
theorem d_M_often_8 : decode b_M_often 8 = .ok (.sipush 511, 3) := by decide +kernel
theorem d_M_often_11 : decode b_M_often 11 = .ok (.if_icmp .le 7, 3) := by decide +kernel
theorem d_M_often_14 : decode b_M_often 14 = .ok (.iconst 1, 1) := by decide +kernel
theorem d_M_often_15 : decode b_M_often 15 = .ok (.goto 4, 3) := by decide +kernel
theorem d_M_often_18 : decode b_M_often 18 = .ok (.iconst 0, 1) := by decide +kernel
theorem d_M_often_19 : decode b_M_often 19 = .ok (.invokevirtual 42, 3) := by decide +kernel
theorem d_M_often_22 : decode b_M_often 22 = .ok (.ifCond .eq 5, 3) := by decide +kernel
theorem d_M_often_25 : decode b_M_often 25 = .ok (.iconst 0, 1) := by decide +kernel
theorem d_M_often_26 : decode b_M_often 26 = .ok (.ireturn, 1) := by decide +kernel
theorem d_M_often_27 : decode b_M_often 27 = .ok (.iconst 0, 1) := by decide +kernel
theorem d_M_often_28 : decode b_M_often 28 = .ok (.istore 4, 2) := by decide +kernel
theorem d_M_often_30 : decode b_M_often 30 = .ok (.iload_n 2, 1) := by decide +kernel
theorem d_M_often_31 : decode b_M_often 31 = .ok (.istore 5, 2) := by decide +kernel
theorem d_M_often_33 : decode b_M_often 33 = .ok (.iload 5, 2) := by decide +kernel
theorem d_M_often_35 : decode b_M_often 35 = .ok (.iload_n 3, 1) := by decide +kernel
theorem d_M_often_36 : decode b_M_often 36 = .ok (.if_icmp .ge 23, 3) := by decide +kernel
theorem d_M_often_39 : decode b_M_often 39 = .ok (.aload_n 0, 1) := by decide +kernel
theorem d_M_often_40 : decode b_M_often 40 = .ok (.getfield 17, 3) := by decide +kernel
theorem d_M_often_43 : decode b_M_often 43 = .ok (.iload 5, 2) := by decide +kernel
theorem d_M_often_45 : decode b_M_often 45 = .ok (.iaload, 1) := by decide +kernel
theorem d_M_often_46 : decode b_M_often 46 = .ok (.iload_n 1, 1) := by decide +kernel
theorem d_M_often_47 : decode b_M_often 47 = .ok (.if_icmp .ne 6, 3) := by decide +kernel
theorem d_M_often_50 : decode b_M_often 50 = .ok (.iinc 4 1, 3) := by decide +kernel
theorem d_M_often_53 : decode b_M_often 53 = .ok (.iinc 5 1, 3) := by decide +kernel
theorem d_M_often_56 : decode b_M_often 56 = .ok (.goto (-23), 3) := by decide +kernel
theorem d_M_often_59 : decode b_M_often 59 = .ok (.iload 4, 2) := by decide +kernel
theorem d_M_often_61 : decode b_M_often 61 = .ok (.ireturn, 1) := by decide +kernel
theorem d_M_place_0 : decode b_M_place 0 = .ok (.aload_n 0, 1) := by decide +kernel
theorem d_M_place_1 : decode b_M_place 1 = .ok (.iconst 0, 1) := by decide +kernel
theorem d_M_place_2 : decode b_M_place 2 = .ok (.putfield 7, 3) := by decide +kernel
theorem d_M_place_5 : decode b_M_place 5 = .ok (.aload_n 0, 1) := by decide +kernel
theorem d_M_place_6 : decode b_M_place 6 = .ok (.iconst 1, 1) := by decide +kernel
theorem d_M_place_7 : decode b_M_place 7 = .ok (.iload_n 1, 1) := by decide +kernel
theorem d_M_place_8 : decode b_M_place 8 = .ok (.ifCond .lt 10, 3) := by decide +kernel
theorem d_M_place_11 : decode b_M_place 11 = .ok (.iload_n 1, 1) := by decide +kernel
theorem d_M_place_12 : decode b_M_place 12 = .ok (.sipush 511, 3) := by decide +kernel
theorem d_M_place_15 : decode b_M_place 15 = .ok (.if_icmp .le 7, 3) := by decide +kernel
theorem d_M_place_18 : decode b_M_place 18 = .ok (.iconst 1, 1) := by decide +kernel
theorem d_M_place_19 : decode b_M_place 19 = .ok (.goto 4, 3) := by decide +kernel
theorem d_M_place_22 : decode b_M_place 22 = .ok (.iconst 0, 1) := by decide +kernel
theorem d_M_place_23 : decode b_M_place 23 = .ok (.invokevirtual 38, 3) := by decide +kernel
theorem d_M_place_26 : decode b_M_place 26 = .ok (.ifCond .eq 5, 3) := by decide +kernel
theorem d_M_place_29 : decode b_M_place 29 = .ok (.iconst 0, 1) := by decide +kernel
theorem d_M_place_30 : decode b_M_place 30 = .ok (.ireturn, 1) := by decide +kernel
theorem d_M_place_31 : decode b_M_place 31 = .ok (.iconst 0, 1) := by decide +kernel
theorem d_M_place_32 : decode b_M_place 32 = .ok (.istore_n 3, 1) := by decide +kernel
theorem d_M_place_33 : decode b_M_place 33 = .ok (.iconst 0, 1) := by decide +kernel
theorem d_M_place_34 : decode b_M_place 34 = .ok (.istore 4, 2) := by decide +kernel
theorem d_M_place_36 : decode b_M_place 36 = .ok (.iload 4, 2) := by decide +kernel
theorem d_M_place_38 : decode b_M_place 38 = .ok (.aload_n 0, 1) := by decide +kernel
theorem d_M_place_39 : decode b_M_place 39 = .ok (.getfield 32, 3) := by decide +kernel
theorem d_M_place_42 : decode b_M_place 42 = .ok (.if_icmp .ge 34, 3) := by decide +kernel
theorem d_M_place_45 : decode b_M_place 45 = .ok (.aload_n 0, 1) := by decide +kernel
theorem d_M_place_46 : decode b_M_place 46 = .ok (.getfield 17, 3) := by decide +kernel
theorem d_M_place_49 : decode b_M_place 49 = .ok (.iload 4, 2) := by decide +kernel
theorem d_M_place_51 : decode b_M_place 51 = .ok (.iaload, 1) := by decide +kernel
theorem d_M_place_52 : decode b_M_place 52 = .ok (.iload_n 1, 1) := by decide +kernel
theorem d_M_place_53 : decode b_M_place 53 = .ok (.if_icmp .eq 6, 3) := by decide +kernel
theorem d_M_place_56 : decode b_M_place 56 = .ok (.goto 14, 3) := by decide +kernel
theorem d_M_place_59 : decode b_M_place 59 = .ok (.iload_n 3, 1) := by decide +kernel
theorem d_M_place_60 : decode b_M_place 60 = .ok (.iload_n 2, 1) := by decide +kernel
theorem d_M_place_61 : decode b_M_place 61 = .ok (.if_icmp .ne 6, 3) := by decide +kernel
theorem d_M_place_64 : decode b_M_place 64 = .ok (.iload 4, 2) := by decide +kernel
theorem d_M_place_66 : decode b_M_place 66 = .ok (.ireturn, 1) := by decide +kernel
theorem d_M_place_67 : decode b_M_place 67 = .ok (.iinc 3 1, 3) := by decide +kernel
theorem d_M_place_70 : decode b_M_place 70 = .ok (.iinc 4 1, 3) := by decide +kernel
theorem d_M_place_73 : decode b_M_place 73 = .ok (.goto (-37), 3) := by decide +kernel
theorem d_M_place_76 : decode b_M_place 76 = .ok (.aload_n 0, 1) := by decide +kernel
theorem d_M_place_77 : decode b_M_place 77 = .ok (.iconst 2, 1) := by decide +kernel
theorem d_M_place_78 : decode b_M_place 78 = .ok (.iconst 1, 1) := by decide +kernel
theorem d_M_place_79 : decode b_M_place 79 = .ok (.invokevirtual 38, 3) := by decide +kernel
theorem d_M_place_82 : decode b_M_place 82 = .ok (.pop, 1) := by decide +kernel
theorem d_M_place_83 : decode b_M_place 83 = .ok (.iconst 0, 1) := by decide +kernel
theorem d_M_place_84 : decode b_M_place 84 = .ok (.ireturn, 1) := by decide +kernel
theorem d_M_counted_0 : decode b_M_counted 0 = .ok (.iconst 0, 1) := by decide +kernel
theorem d_M_counted_1 : decode b_M_counted 1 = .ok (.istore_n 3, 1) := by decide +kernel
theorem d_M_counted_2 : decode b_M_counted 2 = .ok (.iload_n 3, 1) := by decide +kernel
theorem d_M_counted_3 : decode b_M_counted 3 = .ok (.sipush 512, 3) := by decide +kernel
theorem d_M_counted_6 : decode b_M_counted 6 = .ok (.if_icmp .ge 16, 3) := by decide +kernel
theorem d_M_counted_9 : decode b_M_counted 9 = .ok (.aload_n 0, 1) := by decide +kernel
theorem d_M_counted_10 : decode b_M_counted 10 = .ok (.getfield 20, 3) := by decide +kernel
theorem d_M_counted_13 : decode b_M_counted 13 = .ok (.iload_n 3, 1) := by decide +kernel
theorem d_M_counted_14 : decode b_M_counted 14 = .ok (.iconst 0, 1) := by decide +kernel
theorem d_M_counted_15 : decode b_M_counted 15 = .ok (.iastore, 1) := by decide +kernel
theorem d_M_counted_16 : decode b_M_counted 16 = .ok (.iinc 3 1, 3) := by decide +kernel
theorem d_M_counted_19 : decode b_M_counted 19 = .ok (.goto (-17), 3) := by decide +kernel
theorem d_M_counted_22 : decode b_M_counted 22 = .ok (.iload_n 1, 1) := by decide +kernel
theorem d_M_counted_23 : decode b_M_counted 23 = .ok (.istore_n 3, 1) := by decide +kernel
theorem d_M_counted_24 : decode b_M_counted 24 = .ok (.iload_n 3, 1) := by decide +kernel
theorem d_M_counted_25 : decode b_M_counted 25 = .ok (.iload_n 2, 1) := by decide +kernel
theorem d_M_counted_26 : decode b_M_counted 26 = .ok (.if_icmp .ge 24, 3) := by decide +kernel
theorem d_M_counted_29 : decode b_M_counted 29 = .ok (.aload_n 0, 1) := by decide +kernel
theorem d_M_counted_30 : decode b_M_counted 30 = .ok (.getfield 20, 3) := by decide +kernel
theorem d_M_counted_33 : decode b_M_counted 33 = .ok (.aload_n 0, 1) := by decide +kernel
theorem d_M_counted_34 : decode b_M_counted 34 = .ok (.getfield 17, 3) := by decide +kernel
theorem d_M_counted_37 : decode b_M_counted 37 = .ok (.iload_n 3, 1) := by decide +kernel
theorem d_M_counted_38 : decode b_M_counted 38 = .ok (.iaload, 1) := by decide +kernel
theorem d_M_counted_39 : decode b_M_counted 39 = .ok (.dup2, 1) := by decide +kernel
theorem d_M_counted_40 : decode b_M_counted 40 = .ok (.iaload, 1) := by decide +kernel
theorem d_M_counted_41 : decode b_M_counted 41 = .ok (.iconst 1, 1) := by decide +kernel
theorem d_M_counted_42 : decode b_M_counted 42 = .ok (.iadd, 1) := by decide +kernel
theorem d_M_counted_43 : decode b_M_counted 43 = .ok (.iastore, 1) := by decide +kernel
theorem d_M_counted_44 : decode b_M_counted 44 = .ok (.iinc 3 1, 3) := by decide +kernel
theorem d_M_counted_47 : decode b_M_counted 47 = .ok (.goto (-23), 3) := by decide +kernel
theorem d_M_counted_50 : decode b_M_counted 50 = .ok (.return_, 1) := by decide +kernel
theorem d_M_least_0 : decode b_M_least 0 = .ok (.aload_n 0, 1) := by decide +kernel
theorem d_M_least_1 : decode b_M_least 1 = .ok (.iload_n 1, 1) := by decide +kernel
theorem d_M_least_2 : decode b_M_least 2 = .ok (.iload_n 2, 1) := by decide +kernel
theorem d_M_least_3 : decode b_M_least 3 = .ok (.iconst 0, 1) := by decide +kernel
theorem d_M_least_4 : decode b_M_least 4 = .ok (.invokevirtual 42, 3) := by decide +kernel
theorem d_M_least_7 : decode b_M_least 7 = .ok (.ifCond .ne 27, 3) := by decide +kernel
theorem d_M_least_10 : decode b_M_least 10 = .ok (.aload_n 0, 1) := by decide +kernel
theorem d_M_least_11 : decode b_M_least 11 = .ok (.iconst 2, 1) := by decide +kernel
theorem d_M_least_12 : decode b_M_least 12 = .ok (.iload_n 3, 1) := by decide +kernel
theorem d_M_least_13 : decode b_M_least 13 = .ok (.ifCond .lt 10, 3) := by decide +kernel
theorem d_M_least_16 : decode b_M_least 16 = .ok (.iload_n 3, 1) := by decide +kernel
theorem d_M_least_17 : decode b_M_least 17 = .ok (.iload_n 2, 1) := by decide +kernel
theorem d_M_least_18 : decode b_M_least 18 = .ok (.iload_n 1, 1) := by decide +kernel
theorem d_M_least_19 : decode b_M_least 19 = .ok (.isub, 1) := by decide +kernel
theorem d_M_least_20 : decode b_M_least 20 = .ok (.if_icmp .lt 7, 3) := by decide +kernel
theorem d_M_least_23 : decode b_M_least 23 = .ok (.iconst 1, 1) := by decide +kernel
theorem d_M_least_24 : decode b_M_least 24 = .ok (.goto 4, 3) := by decide +kernel
theorem d_M_least_27 : decode b_M_least 27 = .ok (.iconst 0, 1) := by decide +kernel
theorem d_M_least_28 : decode b_M_least 28 = .ok (.invokevirtual 38, 3) := by decide +kernel
theorem d_M_least_31 : decode b_M_least 31 = .ok (.ifCond .eq 5, 3) := by decide +kernel
theorem d_M_least_34 : decode b_M_least 34 = .ok (.iconst 0, 1) := by decide +kernel
theorem d_M_least_35 : decode b_M_least 35 = .ok (.ireturn, 1) := by decide +kernel
theorem d_M_least_36 : decode b_M_least 36 = .ok (.aload_n 0, 1) := by decide +kernel
theorem d_M_least_37 : decode b_M_least 37 = .ok (.iload_n 1, 1) := by decide +kernel
theorem d_M_least_38 : decode b_M_least 38 = .ok (.iload_n 2, 1) := by decide +kernel
theorem d_M_least_39 : decode b_M_least 39 = .ok (.invokevirtual 46, 3) := by decide +kernel
theorem d_M_least_42 : decode b_M_least 42 = .ok (.iload_n 3, 1) := by decide +kernel
theorem d_M_least_43 : decode b_M_least 43 = .ok (.istore 4, 2) := by decide +kernel
theorem d_M_least_45 : decode b_M_least 45 = .ok (.iconst 0, 1) := by decide +kernel
theorem d_M_least_46 : decode b_M_least 46 = .ok (.istore 5, 2) := by decide +kernel
theorem d_M_least_48 : decode b_M_least 48 = .ok (.iload 4, 2) := by decide +kernel
theorem d_M_least_50 : decode b_M_least 50 = .ok (.aload_n 0, 1) := by decide +kernel
theorem d_M_least_51 : decode b_M_least 51 = .ok (.getfield 20, 3) := by decide +kernel
theorem d_M_least_54 : decode b_M_least 54 = .ok (.iload 5, 2) := by decide +kernel
theorem d_M_least_56 : decode b_M_least 56 = .ok (.iaload, 1) := by decide +kernel
theorem d_M_least_57 : decode b_M_least 57 = .ok (.if_icmp .lt 21, 3) := by decide +kernel
theorem d_M_least_60 : decode b_M_least 60 = .ok (.iload 4, 2) := by decide +kernel
theorem d_M_least_62 : decode b_M_least 62 = .ok (.aload_n 0, 1) := by decide +kernel
theorem d_M_least_63 : decode b_M_least 63 = .ok (.getfield 20, 3) := by decide +kernel
theorem d_M_least_66 : decode b_M_least 66 = .ok (.iload 5, 2) := by decide +kernel
theorem d_M_least_68 : decode b_M_least 68 = .ok (.iaload, 1) := by decide +kernel
theorem d_M_least_69 : decode b_M_least 69 = .ok (.isub, 1) := by decide +kernel
theorem d_M_least_70 : decode b_M_least 70 = .ok (.istore 4, 2) := by decide +kernel
theorem d_M_least_72 : decode b_M_least 72 = .ok (.iinc 5 1, 3) := by decide +kernel
theorem d_M_least_75 : decode b_M_least 75 = .ok (.goto (-27), 3) := by decide +kernel
theorem d_M_least_78 : decode b_M_least 78 = .ok (.iload 5, 2) := by decide +kernel
theorem d_M_least_80 : decode b_M_least 80 = .ok (.ireturn, 1) := by decide +kernel
theorem d_M_below_0 : decode b_M_below 0 = .ok (.aload_n 0, 1) := by decide +kernel
theorem d_M_below_1 : decode b_M_below 1 = .ok (.iload_n 2, 1) := by decide +kernel
theorem d_M_below_2 : decode b_M_below 2 = .ok (.iload_n 3, 1) := by decide +kernel
theorem d_M_below_3 : decode b_M_below 3 = .ok (.iload_n 1, 1) := by decide +kernel
theorem d_M_below_4 : decode b_M_below 4 = .ok (.ifCond .lt 10, 3) := by decide +kernel
theorem d_M_below_7 : decode b_M_below 7 = .ok (.iload_n 1, 1) := by decide +kernel
theorem d_M_below_8 : decode b_M_below 8 = .ok (.sipush 512, 3) := by decide +kernel
theorem d_M_below_11 : decode b_M_below 11 = .ok (.if_icmp .le 7, 3) := by decide +kernel
theorem d_M_below_14 : decode b_M_below 14 = .ok (.iconst 1, 1) := by decide +kernel
theorem d_M_below_15 : decode b_M_below 15 = .ok (.goto 4, 3) := by decide +kernel
theorem d_M_below_18 : decode b_M_below 18 = .ok (.iconst 0, 1) := by decide +kernel
theorem d_M_below_19 : decode b_M_below 19 = .ok (.invokevirtual 42, 3) := by decide +kernel
theorem d_M_below_22 : decode b_M_below 22 = .ok (.ifCond .eq 5, 3) := by decide +kernel
theorem d_M_below_25 : decode b_M_below 25 = .ok (.iconst 0, 1) := by decide +kernel
theorem d_M_below_26 : decode b_M_below 26 = .ok (.ireturn, 1) := by decide +kernel
theorem d_M_below_27 : decode b_M_below 27 = .ok (.iconst 0, 1) := by decide +kernel
theorem d_M_below_28 : decode b_M_below 28 = .ok (.istore 4, 2) := by decide +kernel
theorem d_M_below_30 : decode b_M_below 30 = .ok (.iload_n 2, 1) := by decide +kernel
theorem d_M_below_31 : decode b_M_below 31 = .ok (.istore 5, 2) := by decide +kernel
theorem d_M_below_33 : decode b_M_below 33 = .ok (.iload 5, 2) := by decide +kernel
theorem d_M_below_35 : decode b_M_below 35 = .ok (.iload_n 3, 1) := by decide +kernel
theorem d_M_below_36 : decode b_M_below 36 = .ok (.if_icmp .ge 23, 3) := by decide +kernel
theorem d_M_below_39 : decode b_M_below 39 = .ok (.aload_n 0, 1) := by decide +kernel
theorem d_M_below_40 : decode b_M_below 40 = .ok (.getfield 17, 3) := by decide +kernel
theorem d_M_below_43 : decode b_M_below 43 = .ok (.iload 5, 2) := by decide +kernel
theorem d_M_below_45 : decode b_M_below 45 = .ok (.iaload, 1) := by decide +kernel
theorem d_M_below_46 : decode b_M_below 46 = .ok (.iload_n 1, 1) := by decide +kernel
theorem d_M_below_47 : decode b_M_below 47 = .ok (.if_icmp .ge 6, 3) := by decide +kernel
theorem d_M_below_50 : decode b_M_below 50 = .ok (.iinc 4 1, 3) := by decide +kernel
theorem d_M_below_53 : decode b_M_below 53 = .ok (.iinc 5 1, 3) := by decide +kernel
theorem d_M_below_56 : decode b_M_below 56 = .ok (.goto (-23), 3) := by decide +kernel
theorem d_M_below_59 : decode b_M_below 59 = .ok (.iload 4, 2) := by decide +kernel
theorem d_M_below_61 : decode b_M_below 61 = .ok (.ireturn, 1) := by decide +kernel
theorem d_M_different_0 : decode b_M_different 0 = .ok (.aload_n 0, 1) := by decide +kernel
theorem d_M_different_1 : decode b_M_different 1 = .ok (.iload_n 1, 1) := by decide +kernel
theorem d_M_different_2 : decode b_M_different 2 = .ok (.iload_n 2, 1) := by decide +kernel
theorem d_M_different_3 : decode b_M_different 3 = .ok (.iconst 0, 1) := by decide +kernel
theorem d_M_different_4 : decode b_M_different 4 = .ok (.invokevirtual 42, 3) := by decide +kernel
theorem d_M_different_7 : decode b_M_different 7 = .ok (.ifCond .eq 5, 3) := by decide +kernel
theorem d_M_different_10 : decode b_M_different 10 = .ok (.iconst 0, 1) := by decide +kernel
theorem d_M_different_11 : decode b_M_different 11 = .ok (.ireturn, 1) := by decide +kernel
theorem d_M_different_12 : decode b_M_different 12 = .ok (.aload_n 0, 1) := by decide +kernel
theorem d_M_different_13 : decode b_M_different 13 = .ok (.iload_n 1, 1) := by decide +kernel
theorem d_M_different_14 : decode b_M_different 14 = .ok (.iload_n 2, 1) := by decide +kernel
theorem d_M_different_15 : decode b_M_different 15 = .ok (.invokevirtual 46, 3) := by decide +kernel
theorem d_M_different_18 : decode b_M_different 18 = .ok (.aload_n 0, 1) := by decide +kernel
theorem d_M_different_19 : decode b_M_different 19 = .ok (.iconst 0, 1) := by decide +kernel
theorem d_M_different_20 : decode b_M_different 20 = .ok (.putfield 35, 3) := by decide +kernel
theorem d_M_different_23 : decode b_M_different 23 = .ok (.iconst 0, 1) := by decide +kernel
theorem d_M_different_24 : decode b_M_different 24 = .ok (.istore_n 3, 1) := by decide +kernel
theorem d_M_different_25 : decode b_M_different 25 = .ok (.iload_n 3, 1) := by decide +kernel
theorem d_M_different_26 : decode b_M_different 26 = .ok (.sipush 512, 3) := by decide +kernel
theorem d_M_different_29 : decode b_M_different 29 = .ok (.if_icmp .ge 53, 3) := by decide +kernel
theorem d_M_different_32 : decode b_M_different 32 = .ok (.aload_n 0, 1) := by decide +kernel
theorem d_M_different_33 : decode b_M_different 33 = .ok (.getfield 20, 3) := by decide +kernel
theorem d_M_different_36 : decode b_M_different 36 = .ok (.iload_n 3, 1) := by decide +kernel
theorem d_M_different_37 : decode b_M_different 37 = .ok (.iaload, 1) := by decide +kernel
theorem d_M_different_38 : decode b_M_different 38 = .ok (.ifCond .ne 6, 3) := by decide +kernel
theorem d_M_different_41 : decode b_M_different 41 = .ok (.goto 35, 3) := by decide +kernel
theorem d_M_different_44 : decode b_M_different 44 = .ok (.aload_n 0, 1) := by decide +kernel
theorem d_M_different_45 : decode b_M_different 45 = .ok (.getfield 23, 3) := by decide +kernel
theorem d_M_different_48 : decode b_M_different 48 = .ok (.aload_n 0, 1) := by decide +kernel
theorem d_M_different_49 : decode b_M_different 49 = .ok (.getfield 35, 3) := by decide +kernel
theorem d_M_different_52 : decode b_M_different 52 = .ok (.iload_n 3, 1) := by decide +kernel
theorem d_M_different_53 : decode b_M_different 53 = .ok (.iastore, 1) := by decide +kernel
theorem d_M_different_54 : decode b_M_different 54 = .ok (.aload_n 0, 1) := by decide +kernel
theorem d_M_different_55 : decode b_M_different 55 = .ok (.getfield 26, 3) := by decide +kernel
theorem d_M_different_58 : decode b_M_different 58 = .ok (.aload_n 0, 1) := by decide +kernel
theorem d_M_different_59 : decode b_M_different 59 = .ok (.dup, 1) := by decide +kernel
theorem d_M_different_60 : decode b_M_different 60 = .ok (.getfield 35, 3) := by decide +kernel
theorem d_M_different_63 : decode b_M_different 63 = .ok (.dup_x1, 1) := by decide +kernel
theorem d_M_different_64 : decode b_M_different 64 = .ok (.iconst 1, 1) := by decide +kernel
theorem d_M_different_65 : decode b_M_different 65 = .ok (.iadd, 1) := by decide +kernel
theorem d_M_different_66 : decode b_M_different 66 = .ok (.putfield 35, 3) := by decide +kernel
theorem d_M_different_69 : decode b_M_different 69 = .ok (.aload_n 0, 1) := by decide +kernel
theorem d_M_different_70 : decode b_M_different 70 = .ok (.getfield 20, 3) := by decide +kernel
theorem d_M_different_73 : decode b_M_different 73 = .ok (.iload_n 3, 1) := by decide +kernel
theorem d_M_different_74 : decode b_M_different 74 = .ok (.iaload, 1) := by decide +kernel
theorem d_M_different_75 : decode b_M_different 75 = .ok (.iastore, 1) := by decide +kernel
theorem d_M_different_76 : decode b_M_different 76 = .ok (.iinc 3 1, 3) := by decide +kernel
theorem d_M_different_79 : decode b_M_different 79 = .ok (.goto (-54), 3) := by decide +kernel
theorem d_M_different_82 : decode b_M_different 82 = .ok (.aload_n 0, 1) := by decide +kernel
theorem d_M_different_83 : decode b_M_different 83 = .ok (.getfield 35, 3) := by decide +kernel
theorem d_M_different_86 : decode b_M_different 86 = .ok (.ireturn, 1) := by decide +kernel
theorem d_M_number_0 : decode b_M_number 0 = .ok (.aload_n 0, 1) := by decide +kernel
theorem d_M_number_1 : decode b_M_number 1 = .ok (.iconst 0, 1) := by decide +kernel
theorem d_M_number_2 : decode b_M_number 2 = .ok (.putfield 7, 3) := by decide +kernel
theorem d_M_number_5 : decode b_M_number 5 = .ok (.aload_n 0, 1) := by decide +kernel
theorem d_M_number_6 : decode b_M_number 6 = .ok (.iconst 1, 1) := by decide +kernel
theorem d_M_number_7 : decode b_M_number 7 = .ok (.iload_n 1, 1) := by decide +kernel
theorem d_M_number_8 : decode b_M_number 8 = .ok (.ifCond .lt 11, 3) := by decide +kernel
theorem d_M_number_11 : decode b_M_number 11 = .ok (.iload_n 1, 1) := by decide +kernel
theorem d_M_number_12 : decode b_M_number 12 = .ok (.aload_n 0, 1) := by decide +kernel
theorem d_M_number_13 : decode b_M_number 13 = .ok (.getfield 35, 3) := by decide +kernel
theorem d_M_number_16 : decode b_M_number 16 = .ok (.if_icmp .lt 7, 3) := by decide +kernel
theorem d_M_number_19 : decode b_M_number 19 = .ok (.iconst 1, 1) := by decide +kernel
theorem d_M_number_20 : decode b_M_number 20 = .ok (.goto 4, 3) := by decide +kernel
theorem d_M_number_23 : decode b_M_number 23 = .ok (.iconst 0, 1) := by decide +kernel
theorem d_M_number_24 : decode b_M_number 24 = .ok (.invokevirtual 38, 3) := by decide +kernel
theorem d_M_number_27 : decode b_M_number 27 = .ok (.ifCond .eq 5, 3) := by decide +kernel
theorem d_M_number_30 : decode b_M_number 30 = .ok (.iconst 0, 1) := by decide +kernel
theorem d_M_number_31 : decode b_M_number 31 = .ok (.ireturn, 1) := by decide +kernel
theorem d_M_number_32 : decode b_M_number 32 = .ok (.sipush 4096, 3) := by decide +kernel
theorem d_M_number_35 : decode b_M_number 35 = .ok (.aload_n 0, 1) := by decide +kernel
theorem d_M_number_36 : decode b_M_number 36 = .ok (.getfield 23, 3) := by decide +kernel
theorem d_M_number_39 : decode b_M_number 39 = .ok (.iload_n 1, 1) := by decide +kernel
theorem d_M_number_40 : decode b_M_number 40 = .ok (.iaload, 1) := by decide +kernel
theorem d_M_number_41 : decode b_M_number 41 = .ok (.imul, 1) := by decide +kernel
theorem d_M_number_42 : decode b_M_number 42 = .ok (.aload_n 0, 1) := by decide +kernel
theorem d_M_number_43 : decode b_M_number 43 = .ok (.getfield 26, 3) := by decide +kernel
theorem d_M_number_46 : decode b_M_number 46 = .ok (.iload_n 1, 1) := by decide +kernel
theorem d_M_number_47 : decode b_M_number 47 = .ok (.iaload, 1) := by decide +kernel
theorem d_M_number_48 : decode b_M_number 48 = .ok (.iadd, 1) := by decide +kernel
theorem d_M_number_49 : decode b_M_number 49 = .ok (.ireturn, 1) := by decide +kernel
theorem d_M_before_0 : decode b_M_before 0 = .ok (.aload_n 0, 1) := by decide +kernel
theorem d_M_before_1 : decode b_M_before 1 = .ok (.iload_n 2, 1) := by decide +kernel
theorem d_M_before_2 : decode b_M_before 2 = .ok (.iload_n 3, 1) := by decide +kernel
theorem d_M_before_3 : decode b_M_before 3 = .ok (.iload_n 1, 1) := by decide +kernel
theorem d_M_before_4 : decode b_M_before 4 = .ok (.ifCond .lt 10, 3) := by decide +kernel
theorem d_M_before_7 : decode b_M_before 7 = .ok (.iload_n 1, 1) := by decide +kernel
theorem d_M_before_8 : decode b_M_before 8 = .ok (.sipush 511, 3) := by decide +kernel
theorem d_M_before_11 : decode b_M_before 11 = .ok (.if_icmp .le 7, 3) := by decide +kernel
theorem d_M_before_14 : decode b_M_before 14 = .ok (.iconst 1, 1) := by decide +kernel
theorem d_M_before_15 : decode b_M_before 15 = .ok (.goto 4, 3) := by decide +kernel
theorem d_M_before_18 : decode b_M_before 18 = .ok (.iconst 0, 1) := by decide +kernel
theorem d_M_before_19 : decode b_M_before 19 = .ok (.invokevirtual 42, 3) := by decide +kernel
theorem d_M_before_22 : decode b_M_before 22 = .ok (.ifCond .eq 5, 3) := by decide +kernel
theorem d_M_before_25 : decode b_M_before 25 = .ok (.iconst 0, 1) := by decide +kernel
theorem d_M_before_26 : decode b_M_before 26 = .ok (.ireturn, 1) := by decide +kernel
theorem d_M_before_27 : decode b_M_before 27 = .ok (.iconst (-1), 1) := by decide +kernel
theorem d_M_before_28 : decode b_M_before 28 = .ok (.istore 4, 2) := by decide +kernel
theorem d_M_before_30 : decode b_M_before 30 = .ok (.iload_n 2, 1) := by decide +kernel
theorem d_M_before_31 : decode b_M_before 31 = .ok (.istore 5, 2) := by decide +kernel
theorem d_M_before_33 : decode b_M_before 33 = .ok (.iload 5, 2) := by decide +kernel
theorem d_M_before_35 : decode b_M_before 35 = .ok (.iload_n 3, 1) := by decide +kernel
theorem d_M_before_36 : decode b_M_before 36 = .ok (.if_icmp .ge 41, 3) := by decide +kernel
theorem d_M_before_39 : decode b_M_before 39 = .ok (.aload_n 0, 1) := by decide +kernel
theorem d_M_before_40 : decode b_M_before 40 = .ok (.getfield 17, 3) := by decide +kernel
theorem d_M_before_43 : decode b_M_before 43 = .ok (.iload 5, 2) := by decide +kernel
theorem d_M_before_45 : decode b_M_before 45 = .ok (.iaload, 1) := by decide +kernel
theorem d_M_before_46 : decode b_M_before 46 = .ok (.iload_n 1, 1) := by decide +kernel
theorem d_M_before_47 : decode b_M_before 47 = .ok (.if_icmp .gt 24, 3) := by decide +kernel
theorem d_M_before_50 : decode b_M_before 50 = .ok (.aload_n 0, 1) := by decide +kernel
theorem d_M_before_51 : decode b_M_before 51 = .ok (.getfield 17, 3) := by decide +kernel
theorem d_M_before_54 : decode b_M_before 54 = .ok (.iload 5, 2) := by decide +kernel
theorem d_M_before_56 : decode b_M_before 56 = .ok (.iaload, 1) := by decide +kernel
theorem d_M_before_57 : decode b_M_before 57 = .ok (.iload 4, 2) := by decide +kernel
theorem d_M_before_59 : decode b_M_before 59 = .ok (.if_icmp .le 12, 3) := by decide +kernel
theorem d_M_before_62 : decode b_M_before 62 = .ok (.aload_n 0, 1) := by decide +kernel
theorem d_M_before_63 : decode b_M_before 63 = .ok (.getfield 17, 3) := by decide +kernel
theorem d_M_before_66 : decode b_M_before 66 = .ok (.iload 5, 2) := by decide +kernel
theorem d_M_before_68 : decode b_M_before 68 = .ok (.iaload, 1) := by decide +kernel
theorem d_M_before_69 : decode b_M_before 69 = .ok (.istore 4, 2) := by decide +kernel
theorem d_M_before_71 : decode b_M_before 71 = .ok (.iinc 5 1, 3) := by decide +kernel
theorem d_M_before_74 : decode b_M_before 74 = .ok (.goto (-41), 3) := by decide +kernel
theorem d_M_before_77 : decode b_M_before 77 = .ok (.iload 4, 2) := by decide +kernel
theorem d_M_before_79 : decode b_M_before 79 = .ok (.ireturn, 1) := by decide +kernel
theorem d_M_most_0 : decode b_M_most 0 = .ok (.aload_n 0, 1) := by decide +kernel
theorem d_M_most_1 : decode b_M_most 1 = .ok (.iload_n 1, 1) := by decide +kernel
theorem d_M_most_2 : decode b_M_most 2 = .ok (.iload_n 2, 1) := by decide +kernel
theorem d_M_most_3 : decode b_M_most 3 = .ok (.iconst 0, 1) := by decide +kernel
theorem d_M_most_4 : decode b_M_most 4 = .ok (.invokevirtual 42, 3) := by decide +kernel
theorem d_M_most_7 : decode b_M_most 7 = .ok (.ifCond .eq 5, 3) := by decide +kernel
theorem d_M_most_10 : decode b_M_most 10 = .ok (.iconst 0, 1) := by decide +kernel
theorem d_M_most_11 : decode b_M_most 11 = .ok (.ireturn, 1) := by decide +kernel
theorem d_M_most_12 : decode b_M_most 12 = .ok (.aload_n 0, 1) := by decide +kernel
theorem d_M_most_13 : decode b_M_most 13 = .ok (.iload_n 1, 1) := by decide +kernel
theorem d_M_most_14 : decode b_M_most 14 = .ok (.iload_n 2, 1) := by decide +kernel
theorem d_M_most_15 : decode b_M_most 15 = .ok (.invokevirtual 46, 3) := by decide +kernel
theorem d_M_most_18 : decode b_M_most 18 = .ok (.iconst (-1), 1) := by decide +kernel
theorem d_M_most_19 : decode b_M_most 19 = .ok (.istore_n 3, 1) := by decide +kernel
theorem d_M_most_20 : decode b_M_most 20 = .ok (.iconst 0, 1) := by decide +kernel
theorem d_M_most_21 : decode b_M_most 21 = .ok (.istore 4, 2) := by decide +kernel
theorem d_M_most_23 : decode b_M_most 23 = .ok (.iload 4, 2) := by decide +kernel
theorem d_M_most_25 : decode b_M_most 25 = .ok (.sipush 512, 3) := by decide +kernel
theorem d_M_most_28 : decode b_M_most 28 = .ok (.if_icmp .ge 42, 3) := by decide +kernel
theorem d_M_most_31 : decode b_M_most 31 = .ok (.aload_n 0, 1) := by decide +kernel
theorem d_M_most_32 : decode b_M_most 32 = .ok (.getfield 20, 3) := by decide +kernel
theorem d_M_most_35 : decode b_M_most 35 = .ok (.iload 4, 2) := by decide +kernel
theorem d_M_most_37 : decode b_M_most 37 = .ok (.iaload, 1) := by decide +kernel
theorem d_M_most_38 : decode b_M_most 38 = .ok (.ifCond .le 26, 3) := by decide +kernel
theorem d_M_most_41 : decode b_M_most 41 = .ok (.iload_n 3, 1) := by decide +kernel
theorem d_M_most_42 : decode b_M_most 42 = .ok (.ifCond .lt 19, 3) := by decide +kernel
theorem d_M_most_45 : decode b_M_most 45 = .ok (.aload_n 0, 1) := by decide +kernel
theorem d_M_most_46 : decode b_M_most 46 = .ok (.getfield 20, 3) := by decide +kernel
theorem d_M_most_49 : decode b_M_most 49 = .ok (.iload 4, 2) := by decide +kernel
theorem d_M_most_51 : decode b_M_most 51 = .ok (.iaload, 1) := by decide +kernel
theorem d_M_most_52 : decode b_M_most 52 = .ok (.aload_n 0, 1) := by decide +kernel
theorem d_M_most_53 : decode b_M_most 53 = .ok (.getfield 20, 3) := by decide +kernel
theorem d_M_most_56 : decode b_M_most 56 = .ok (.iload_n 3, 1) := by decide +kernel
theorem d_M_most_57 : decode b_M_most 57 = .ok (.iaload, 1) := by decide +kernel
theorem d_M_most_58 : decode b_M_most 58 = .ok (.if_icmp .le 6, 3) := by decide +kernel
theorem d_M_most_61 : decode b_M_most 61 = .ok (.iload 4, 2) := by decide +kernel
theorem d_M_most_63 : decode b_M_most 63 = .ok (.istore_n 3, 1) := by decide +kernel
theorem d_M_most_64 : decode b_M_most 64 = .ok (.iinc 4 1, 3) := by decide +kernel
theorem d_M_most_67 : decode b_M_most 67 = .ok (.goto (-44), 3) := by decide +kernel
theorem d_M_most_70 : decode b_M_most 70 = .ok (.iload_n 3, 1) := by decide +kernel
theorem d_M_most_71 : decode b_M_most 71 = .ok (.ireturn, 1) := by decide +kernel
theorem d_M_count_0 : decode b_M_count 0 = .ok (.aload_n 0, 1) := by decide +kernel
theorem d_M_count_1 : decode b_M_count 1 = .ok (.iconst 0, 1) := by decide +kernel
theorem d_M_count_2 : decode b_M_count 2 = .ok (.putfield 7, 3) := by decide +kernel
theorem d_M_count_5 : decode b_M_count 5 = .ok (.iload_n 1, 1) := by decide +kernel
theorem d_M_count_6 : decode b_M_count 6 = .ok (.ifCond .ne 10, 3) := by decide +kernel
theorem d_M_count_9 : decode b_M_count 9 = .ok (.aload_n 0, 1) := by decide +kernel
theorem d_M_count_10 : decode b_M_count 10 = .ok (.getfield 29, 3) := by decide +kernel
theorem d_M_count_13 : decode b_M_count 13 = .ok (.goto 16, 3) := by decide +kernel
theorem d_M_count_16 : decode b_M_count 16 = .ok (.iload_n 1, 1) := by decide +kernel
theorem d_M_count_17 : decode b_M_count 17 = .ok (.iconst 1, 1) := by decide +kernel
theorem d_M_count_18 : decode b_M_count 18 = .ok (.if_icmp .ne 10, 3) := by decide +kernel
theorem d_M_count_21 : decode b_M_count 21 = .ok (.aload_n 0, 1) := by decide +kernel
theorem d_M_count_22 : decode b_M_count 22 = .ok (.getfield 32, 3) := by decide +kernel
theorem d_M_count_25 : decode b_M_count 25 = .ok (.goto 4, 3) := by decide +kernel
theorem d_M_count_28 : decode b_M_count 28 = .ok (.iconst (-1), 1) := by decide +kernel
theorem d_M_count_29 : decode b_M_count 29 = .ok (.ireturn, 1) := by decide +kernel
end
section
theorem d_L_add_0 : decode b_L_add 0 = .ok (.aload 4, 2) := by decide +kernel
theorem d_L_add_2 : decode b_L_add 2 = .ok (.iconst 0, 1) := by decide +kernel
theorem d_L_add_3 : decode b_L_add 3 = .ok (.aload_n 0, 1) := by decide +kernel
theorem d_L_add_4 : decode b_L_add 4 = .ok (.iload_n 1, 1) := by decide +kernel
theorem d_L_add_5 : decode b_L_add 5 = .ok (.iload_n 2, 1) := by decide +kernel
theorem d_L_add_6 : decode b_L_add 6 = .ok (.iload_n 3, 1) := by decide +kernel
theorem d_L_add_7 : decode b_L_add 7 = .ok (.invokevirtual 7, 3) := by decide +kernel
theorem d_L_add_10 : decode b_L_add 10 = .ok (.i2l, 1) := by decide +kernel
theorem d_L_add_11 : decode b_L_add 11 = .ok (.lastore, 1) := by decide +kernel
theorem d_L_add_12 : decode b_L_add 12 = .ok (.goto 7, 3) := by decide +kernel
theorem d_L_add_15 : decode b_L_add 15 = .ok (.astore 5, 2) := by decide +kernel
theorem d_L_add_17 : decode b_L_add 17 = .ok (.iconst 1, 1) := by decide +kernel
theorem d_L_add_18 : decode b_L_add 18 = .ok (.ireturn, 1) := by decide +kernel
theorem d_L_add_19 : decode b_L_add 19 = .ok (.iconst 0, 1) := by decide +kernel
theorem d_L_add_20 : decode b_L_add 20 = .ok (.ireturn, 1) := by decide +kernel
theorem d_L_cut_0 : decode b_L_cut 0 = .ok (.aload_n 2, 1) := by decide +kernel
theorem d_L_cut_1 : decode b_L_cut 1 = .ok (.iconst 0, 1) := by decide +kernel
theorem d_L_cut_2 : decode b_L_cut 2 = .ok (.aload_n 0, 1) := by decide +kernel
theorem d_L_cut_3 : decode b_L_cut 3 = .ok (.iload_n 1, 1) := by decide +kernel
theorem d_L_cut_4 : decode b_L_cut 4 = .ok (.invokevirtual 15, 3) := by decide +kernel
theorem d_L_cut_7 : decode b_L_cut 7 = .ok (.i2l, 1) := by decide +kernel
theorem d_L_cut_8 : decode b_L_cut 8 = .ok (.lastore, 1) := by decide +kernel
theorem d_L_cut_9 : decode b_L_cut 9 = .ok (.goto 6, 3) := by decide +kernel
theorem d_L_cut_12 : decode b_L_cut 12 = .ok (.astore_n 3, 1) := by decide +kernel
theorem d_L_cut_13 : decode b_L_cut 13 = .ok (.iconst 1, 1) := by decide +kernel
theorem d_L_cut_14 : decode b_L_cut 14 = .ok (.ireturn, 1) := by decide +kernel
theorem d_L_cut_15 : decode b_L_cut 15 = .ok (.iconst 0, 1) := by decide +kernel
theorem d_L_cut_16 : decode b_L_cut 16 = .ok (.ireturn, 1) := by decide +kernel
theorem d_L_at_0 : decode b_L_at 0 = .ok (.aload_n 2, 1) := by decide +kernel
theorem d_L_at_1 : decode b_L_at 1 = .ok (.iconst 0, 1) := by decide +kernel
theorem d_L_at_2 : decode b_L_at 2 = .ok (.aload_n 0, 1) := by decide +kernel
theorem d_L_at_3 : decode b_L_at 3 = .ok (.iload_n 1, 1) := by decide +kernel
theorem d_L_at_4 : decode b_L_at 4 = .ok (.invokevirtual 21, 3) := by decide +kernel
theorem d_L_at_7 : decode b_L_at 7 = .ok (.i2l, 1) := by decide +kernel
theorem d_L_at_8 : decode b_L_at 8 = .ok (.lastore, 1) := by decide +kernel
theorem d_L_at_9 : decode b_L_at 9 = .ok (.goto 6, 3) := by decide +kernel
theorem d_L_at_12 : decode b_L_at 12 = .ok (.astore_n 3, 1) := by decide +kernel
theorem d_L_at_13 : decode b_L_at 13 = .ok (.iconst 1, 1) := by decide +kernel
theorem d_L_at_14 : decode b_L_at 14 = .ok (.ireturn, 1) := by decide +kernel
theorem d_L_at_15 : decode b_L_at 15 = .ok (.iconst 0, 1) := by decide +kernel
theorem d_L_at_16 : decode b_L_at 16 = .ok (.ireturn, 1) := by decide +kernel
theorem d_L_often_0 : decode b_L_often 0 = .ok (.aload 4, 2) := by decide +kernel
theorem d_L_often_2 : decode b_L_often 2 = .ok (.iconst 0, 1) := by decide +kernel
theorem d_L_often_3 : decode b_L_often 3 = .ok (.aload_n 0, 1) := by decide +kernel
theorem d_L_often_4 : decode b_L_often 4 = .ok (.iload_n 1, 1) := by decide +kernel
theorem d_L_often_5 : decode b_L_often 5 = .ok (.iload_n 2, 1) := by decide +kernel
theorem d_L_often_6 : decode b_L_often 6 = .ok (.iload_n 3, 1) := by decide +kernel
theorem d_L_often_7 : decode b_L_often 7 = .ok (.invokevirtual 26, 3) := by decide +kernel
theorem d_L_often_10 : decode b_L_often 10 = .ok (.i2l, 1) := by decide +kernel
theorem d_L_often_11 : decode b_L_often 11 = .ok (.lastore, 1) := by decide +kernel
theorem d_L_often_12 : decode b_L_often 12 = .ok (.goto 7, 3) := by decide +kernel
theorem d_L_often_15 : decode b_L_often 15 = .ok (.astore 5, 2) := by decide +kernel
theorem d_L_often_17 : decode b_L_often 17 = .ok (.iconst 1, 1) := by decide +kernel
theorem d_L_often_18 : decode b_L_often 18 = .ok (.ireturn, 1) := by decide +kernel
theorem d_L_often_19 : decode b_L_often 19 = .ok (.iconst 0, 1) := by decide +kernel
theorem d_L_often_20 : decode b_L_often 20 = .ok (.ireturn, 1) := by decide +kernel
theorem d_L_place_0 : decode b_L_place 0 = .ok (.aload_n 3, 1) := by decide +kernel
theorem d_L_place_1 : decode b_L_place 1 = .ok (.iconst 0, 1) := by decide +kernel
theorem d_L_place_2 : decode b_L_place 2 = .ok (.aload_n 0, 1) := by decide +kernel
theorem d_L_place_3 : decode b_L_place 3 = .ok (.iload_n 1, 1) := by decide +kernel
theorem d_L_place_4 : decode b_L_place 4 = .ok (.iload_n 2, 1) := by decide +kernel
theorem d_L_place_5 : decode b_L_place 5 = .ok (.invokevirtual 29, 3) := by decide +kernel
theorem d_L_place_8 : decode b_L_place 8 = .ok (.i2l, 1) := by decide +kernel
theorem d_L_place_9 : decode b_L_place 9 = .ok (.lastore, 1) := by decide +kernel
theorem d_L_place_10 : decode b_L_place 10 = .ok (.goto 11, 3) := by decide +kernel
theorem d_L_place_13 : decode b_L_place 13 = .ok (.astore 4, 2) := by decide +kernel
theorem d_L_place_15 : decode b_L_place 15 = .ok (.iconst 1, 1) := by decide +kernel
theorem d_L_place_16 : decode b_L_place 16 = .ok (.ireturn, 1) := by decide +kernel
theorem d_L_place_17 : decode b_L_place 17 = .ok (.astore 4, 2) := by decide +kernel
theorem d_L_place_19 : decode b_L_place 19 = .ok (.iconst 2, 1) := by decide +kernel
theorem d_L_place_20 : decode b_L_place 20 = .ok (.ireturn, 1) := by decide +kernel
theorem d_L_place_21 : decode b_L_place 21 = .ok (.iconst 0, 1) := by decide +kernel
theorem d_L_place_22 : decode b_L_place 22 = .ok (.ireturn, 1) := by decide +kernel
theorem d_L_least_0 : decode b_L_least 0 = .ok (.aload 4, 2) := by decide +kernel
theorem d_L_least_2 : decode b_L_least 2 = .ok (.iconst 0, 1) := by decide +kernel
theorem d_L_least_3 : decode b_L_least 3 = .ok (.aload_n 0, 1) := by decide +kernel
theorem d_L_least_4 : decode b_L_least 4 = .ok (.iload_n 1, 1) := by decide +kernel
theorem d_L_least_5 : decode b_L_least 5 = .ok (.iload_n 2, 1) := by decide +kernel
theorem d_L_least_6 : decode b_L_least 6 = .ok (.iload_n 3, 1) := by decide +kernel
theorem d_L_least_7 : decode b_L_least 7 = .ok (.invokevirtual 33, 3) := by decide +kernel
theorem d_L_least_10 : decode b_L_least 10 = .ok (.i2l, 1) := by decide +kernel
theorem d_L_least_11 : decode b_L_least 11 = .ok (.lastore, 1) := by decide +kernel
theorem d_L_least_12 : decode b_L_least 12 = .ok (.goto 11, 3) := by decide +kernel
theorem d_L_least_15 : decode b_L_least 15 = .ok (.astore 5, 2) := by decide +kernel
theorem d_L_least_17 : decode b_L_least 17 = .ok (.iconst 1, 1) := by decide +kernel
theorem d_L_least_18 : decode b_L_least 18 = .ok (.ireturn, 1) := by decide +kernel
theorem d_L_least_19 : decode b_L_least 19 = .ok (.astore 5, 2) := by decide +kernel
theorem d_L_least_21 : decode b_L_least 21 = .ok (.iconst 2, 1) := by decide +kernel
theorem d_L_least_22 : decode b_L_least 22 = .ok (.ireturn, 1) := by decide +kernel
theorem d_L_least_23 : decode b_L_least 23 = .ok (.iconst 0, 1) := by decide +kernel
theorem d_L_least_24 : decode b_L_least 24 = .ok (.ireturn, 1) := by decide +kernel
theorem d_L_below_0 : decode b_L_below 0 = .ok (.aload 4, 2) := by decide +kernel
theorem d_L_below_2 : decode b_L_below 2 = .ok (.iconst 0, 1) := by decide +kernel
theorem d_L_below_3 : decode b_L_below 3 = .ok (.aload_n 0, 1) := by decide +kernel
theorem d_L_below_4 : decode b_L_below 4 = .ok (.iload_n 1, 1) := by decide +kernel
theorem d_L_below_5 : decode b_L_below 5 = .ok (.iload_n 2, 1) := by decide +kernel
theorem d_L_below_6 : decode b_L_below 6 = .ok (.iload_n 3, 1) := by decide +kernel
theorem d_L_below_7 : decode b_L_below 7 = .ok (.invokevirtual 36, 3) := by decide +kernel
theorem d_L_below_10 : decode b_L_below 10 = .ok (.i2l, 1) := by decide +kernel
theorem d_L_below_11 : decode b_L_below 11 = .ok (.lastore, 1) := by decide +kernel
theorem d_L_below_12 : decode b_L_below 12 = .ok (.goto 7, 3) := by decide +kernel
theorem d_L_below_15 : decode b_L_below 15 = .ok (.astore 5, 2) := by decide +kernel
theorem d_L_below_17 : decode b_L_below 17 = .ok (.iconst 1, 1) := by decide +kernel
theorem d_L_below_18 : decode b_L_below 18 = .ok (.ireturn, 1) := by decide +kernel
theorem d_L_below_19 : decode b_L_below 19 = .ok (.iconst 0, 1) := by decide +kernel
theorem d_L_below_20 : decode b_L_below 20 = .ok (.ireturn, 1) := by decide +kernel
theorem d_L_different_0 : decode b_L_different 0 = .ok (.aload_n 3, 1) := by decide +kernel
theorem d_L_different_1 : decode b_L_different 1 = .ok (.iconst 0, 1) := by decide +kernel
theorem d_L_different_2 : decode b_L_different 2 = .ok (.aload_n 0, 1) := by decide +kernel
theorem d_L_different_3 : decode b_L_different 3 = .ok (.iload_n 1, 1) := by decide +kernel
theorem d_L_different_4 : decode b_L_different 4 = .ok (.iload_n 2, 1) := by decide +kernel
theorem d_L_different_5 : decode b_L_different 5 = .ok (.invokevirtual 39, 3) := by decide +kernel
theorem d_L_different_8 : decode b_L_different 8 = .ok (.i2l, 1) := by decide +kernel
theorem d_L_different_9 : decode b_L_different 9 = .ok (.lastore, 1) := by decide +kernel
theorem d_L_different_10 : decode b_L_different 10 = .ok (.goto 7, 3) := by decide +kernel
theorem d_L_different_13 : decode b_L_different 13 = .ok (.astore 4, 2) := by decide +kernel
theorem d_L_different_15 : decode b_L_different 15 = .ok (.iconst 1, 1) := by decide +kernel
theorem d_L_different_16 : decode b_L_different 16 = .ok (.ireturn, 1) := by decide +kernel
theorem d_L_different_17 : decode b_L_different 17 = .ok (.iconst 0, 1) := by decide +kernel
theorem d_L_different_18 : decode b_L_different 18 = .ok (.ireturn, 1) := by decide +kernel
theorem d_L_number_0 : decode b_L_number 0 = .ok (.aload_n 2, 1) := by decide +kernel
theorem d_L_number_1 : decode b_L_number 1 = .ok (.iconst 0, 1) := by decide +kernel
theorem d_L_number_2 : decode b_L_number 2 = .ok (.aload_n 0, 1) := by decide +kernel
theorem d_L_number_3 : decode b_L_number 3 = .ok (.iload_n 1, 1) := by decide +kernel
theorem d_L_number_4 : decode b_L_number 4 = .ok (.invokevirtual 42, 3) := by decide +kernel
theorem d_L_number_7 : decode b_L_number 7 = .ok (.i2l, 1) := by decide +kernel
theorem d_L_number_8 : decode b_L_number 8 = .ok (.lastore, 1) := by decide +kernel
theorem d_L_number_9 : decode b_L_number 9 = .ok (.goto 6, 3) := by decide +kernel
theorem d_L_number_12 : decode b_L_number 12 = .ok (.astore_n 3, 1) := by decide +kernel
theorem d_L_number_13 : decode b_L_number 13 = .ok (.iconst 1, 1) := by decide +kernel
theorem d_L_number_14 : decode b_L_number 14 = .ok (.ireturn, 1) := by decide +kernel
theorem d_L_number_15 : decode b_L_number 15 = .ok (.iconst 0, 1) := by decide +kernel
theorem d_L_number_16 : decode b_L_number 16 = .ok (.ireturn, 1) := by decide +kernel
theorem d_L_before_0 : decode b_L_before 0 = .ok (.aload 4, 2) := by decide +kernel
theorem d_L_before_2 : decode b_L_before 2 = .ok (.iconst 0, 1) := by decide +kernel
theorem d_L_before_3 : decode b_L_before 3 = .ok (.aload_n 0, 1) := by decide +kernel
theorem d_L_before_4 : decode b_L_before 4 = .ok (.iload_n 1, 1) := by decide +kernel
theorem d_L_before_5 : decode b_L_before 5 = .ok (.iload_n 2, 1) := by decide +kernel
theorem d_L_before_6 : decode b_L_before 6 = .ok (.iload_n 3, 1) := by decide +kernel
theorem d_L_before_7 : decode b_L_before 7 = .ok (.invokevirtual 45, 3) := by decide +kernel
theorem d_L_before_10 : decode b_L_before 10 = .ok (.i2l, 1) := by decide +kernel
theorem d_L_before_11 : decode b_L_before 11 = .ok (.lastore, 1) := by decide +kernel
theorem d_L_before_12 : decode b_L_before 12 = .ok (.goto 7, 3) := by decide +kernel
theorem d_L_before_15 : decode b_L_before 15 = .ok (.astore 5, 2) := by decide +kernel
theorem d_L_before_17 : decode b_L_before 17 = .ok (.iconst 1, 1) := by decide +kernel
theorem d_L_before_18 : decode b_L_before 18 = .ok (.ireturn, 1) := by decide +kernel
theorem d_L_before_19 : decode b_L_before 19 = .ok (.iconst 0, 1) := by decide +kernel
theorem d_L_before_20 : decode b_L_before 20 = .ok (.ireturn, 1) := by decide +kernel
theorem d_L_most_0 : decode b_L_most 0 = .ok (.aload_n 3, 1) := by decide +kernel
theorem d_L_most_1 : decode b_L_most 1 = .ok (.iconst 0, 1) := by decide +kernel
theorem d_L_most_2 : decode b_L_most 2 = .ok (.aload_n 0, 1) := by decide +kernel
theorem d_L_most_3 : decode b_L_most 3 = .ok (.iload_n 1, 1) := by decide +kernel
theorem d_L_most_4 : decode b_L_most 4 = .ok (.iload_n 2, 1) := by decide +kernel
theorem d_L_most_5 : decode b_L_most 5 = .ok (.invokevirtual 48, 3) := by decide +kernel
theorem d_L_most_8 : decode b_L_most 8 = .ok (.i2l, 1) := by decide +kernel
theorem d_L_most_9 : decode b_L_most 9 = .ok (.lastore, 1) := by decide +kernel
theorem d_L_most_10 : decode b_L_most 10 = .ok (.goto 7, 3) := by decide +kernel
theorem d_L_most_13 : decode b_L_most 13 = .ok (.astore 4, 2) := by decide +kernel
theorem d_L_most_15 : decode b_L_most 15 = .ok (.iconst 1, 1) := by decide +kernel
theorem d_L_most_16 : decode b_L_most 16 = .ok (.ireturn, 1) := by decide +kernel
theorem d_L_most_17 : decode b_L_most 17 = .ok (.iconst 0, 1) := by decide +kernel
theorem d_L_most_18 : decode b_L_most 18 = .ok (.ireturn, 1) := by decide +kernel
end
section
/-! small naturals on the machine: rows over the kit's lv_ rows -/
abbrev kx_C (p : Program) (s : State) (m : MethodId) (args : Array Value) (c : Code) (cc : ByteArray) (own : String) : Prop :=
  p.tables.exec = Jvm.exec ∧ c.code = cc ∧ s.vm.findClass own = some m.cls ∧ ∀ w ∈ lw_g, w.before args s = true
theorem kx_sl : ∀ n, n < 32 → ((nI n &&& 31).toBitVec.smod 32).toNat = n := by decide +kernel
theorem kx_su : ∀ n, n < 32 → (((nI n).toUInt32 &&& Int32.toUInt32 31).toBitVec % 32).toNat = n := by decide +kernel
theorem kx_and (a b : Nat) : nI a &&& nI b = nI (a &&& b) := by
  apply Int32.toBitVec_inj.1
  show BitVec.ofNat 32 a &&& BitVec.ofNat 32 b = BitVec.ofNat 32 (a &&& b)
  apply BitVec.eq_of_getLsbD_eq
  intro i hi
  simp [hi]
theorem kx_or (a b : Nat) : nI a ||| nI b = nI (a ||| b) := by
  apply Int32.toBitVec_inj.1
  show BitVec.ofNat 32 a ||| BitVec.ofNat 32 b = BitVec.ofNat 32 (a ||| b)
  apply BitVec.eq_of_getLsbD_eq
  intro i hi
  simp [hi]
theorem kx_m31 (n : Nat) : nI n &&& 31 = nI (n % 32) := by
  rw [show (31 : Int32) = nI 31 from rfl, kx_and]
  congr 1
  exact Nat.and_two_pow_sub_one_eq_mod n 5
theorem kx_mm (n : Nat) : nI n &&& 31 = nI (n % 32) &&& 31 := by
  rw [kx_m31, kx_m31, Nat.mod_mod]
theorem kx_shl (n k : Nat) : nI n <<< (nI k &&& 31) = nI (n * 2 ^ (k % 32)) := by
  rw [kx_mm]
  apply Int32.toBitVec_inj.mp
  apply BitVec.eq_of_toNat_eq
  rw [pk_shl _ _ (k % 32) (kx_sl (k % 32) (Nat.mod_lt _ (by decide)))]
  show (BitVec.ofNat 32 n).toNat * _ % _ = (BitVec.ofNat 32 _).toNat
  rw [BitVec.toNat_ofNat, BitVec.toNat_ofNat, Nat.mod_mul_mod]
theorem kx_shr {n : Nat} (hn : n < 2 ^ 31) (k : Nat) : nI n >>> (nI k &&& 31) = nI (n / 2 ^ (k % 32)) := by
  rw [kx_mm]
  exact pk_shrN hn _ (k % 32) (kx_sl (k % 32) (Nat.mod_lt _ (by decide)))
theorem kx_um (n : Nat) : (nI n).toUInt32 &&& Int32.toUInt32 31 = (nI (n % 32)).toUInt32 &&& Int32.toUInt32 31 := by
  have h := congrArg Int32.toUInt32 (kx_mm n)
  simpa using h
theorem kx_ushr {n : Nat} (hn : n < 2 ^ 32) (k : Nat) : ((nI n).toUInt32 >>> ((nI k).toUInt32 &&& Int32.toUInt32 31)).toInt32 = nI (n / 2 ^ (k % 32)) := by
  rw [kx_um]
  exact pk_ushrN hn _ (k % 32) (kx_su (k % 32) (Nat.mod_lt _ (by decide)))
section KX
variable {p : Program} {l : Launch} {e : Env} {R : Room} {s : State} {m : MethodId} {args : Array Value} {below : List Frame} {meth : Method} {c : Code} {H : Heap} {locs : List Loc} {cells slots : Nat} {Q : State → Prop}
variable {cc : ByteArray} {ls : Array Slot} {rest : List Value} {own : String}
theorem n_top {pc : Nat} {x y : Int32} (h : x = y) (k : W p l e R s m args below meth c H locs cells slots Q (F0 m pc ls (.int y :: rest))) : W p l e R s m args below meth c H locs cells slots Q (F0 m pc ls (.int x :: rest)) := by rw [h]; exact k
theorem n_iadd (pc : Nat) (C : kx_C p s m args c cc own) {a b : Nat} (hdg : decode cc pc = .ok (.iadd, 1)) (k : W p l e R s m args below meth c H locs cells slots Q (F0 m (pc + 1) ls (.int (nI (a + b)) :: rest))) : W p l e R s m args below meth c H locs cells slots Q (F0 m pc ls (.int (nI b) :: .int (nI a) :: rest)) :=
  lv_iadd C.1 C.2.1 hdg (n_top (nI_add a b) k)
theorem n_isub (pc : Nat) (C : kx_C p s m args c cc own) {a b : Nat} (hdg : decode cc pc = .ok (.isub, 1)) (h : b ≤ a) (k : W p l e R s m args below meth c H locs cells slots Q (F0 m (pc + 1) ls (.int (nI (a - b)) :: rest))) : W p l e R s m args below meth c H locs cells slots Q (F0 m pc ls (.int (nI b) :: .int (nI a) :: rest)) :=
  lv_isub C.1 C.2.1 hdg (n_top (pk_sub h) k)
theorem n_imul (pc : Nat) (C : kx_C p s m args c cc own) {a b : Nat} (hdg : decode cc pc = .ok (.imul, 1)) (k : W p l e R s m args below meth c H locs cells slots Q (F0 m (pc + 1) ls (.int (nI (a * b)) :: rest))) : W p l e R s m args below meth c H locs cells slots Q (F0 m pc ls (.int (nI b) :: .int (nI a) :: rest)) :=
  lv_imul C.1 C.2.1 hdg (n_top (pk_mul a b) k)
theorem n_iand (pc : Nat) (C : kx_C p s m args c cc own) {a b : Nat} (hdg : decode cc pc = .ok (.iand, 1)) (k : W p l e R s m args below meth c H locs cells slots Q (F0 m (pc + 1) ls (.int (nI (a &&& b)) :: rest))) : W p l e R s m args below meth c H locs cells slots Q (F0 m pc ls (.int (nI b) :: .int (nI a) :: rest)) :=
  lv_iand C.1 C.2.1 hdg (n_top (kx_and a b) k)
theorem n_ior (pc : Nat) (C : kx_C p s m args c cc own) {a b : Nat} (hdg : decode cc pc = .ok (.ior, 1)) (k : W p l e R s m args below meth c H locs cells slots Q (F0 m (pc + 1) ls (.int (nI (a ||| b)) :: rest))) : W p l e R s m args below meth c H locs cells slots Q (F0 m pc ls (.int (nI b) :: .int (nI a) :: rest)) :=
  lv_ior C.1 C.2.1 hdg (n_top (kx_or a b) k)
theorem n_ishl (pc : Nat) (C : kx_C p s m args c cc own) {a b : Nat} (hdg : decode cc pc = .ok (.ishl, 1)) (k : W p l e R s m args below meth c H locs cells slots Q (F0 m (pc + 1) ls (.int (nI (a * 2 ^ (b % 32))) :: rest))) : W p l e R s m args below meth c H locs cells slots Q (F0 m pc ls (.int (nI b) :: .int (nI a) :: rest)) :=
  lv_ishl C.1 C.2.1 hdg (n_top (kx_shl a b) k)
theorem n_ishr (pc : Nat) (C : kx_C p s m args c cc own) {a b : Nat} (hdg : decode cc pc = .ok (.ishr, 1)) (h : a < 2 ^ 31) (k : W p l e R s m args below meth c H locs cells slots Q (F0 m (pc + 1) ls (.int (nI (a / 2 ^ (b % 32))) :: rest))) : W p l e R s m args below meth c H locs cells slots Q (F0 m pc ls (.int (nI b) :: .int (nI a) :: rest)) :=
  lv_ishr C.1 C.2.1 hdg (n_top (kx_shr h b) k)
theorem n_iushr (pc : Nat) (C : kx_C p s m args c cc own) {a b : Nat} (hdg : decode cc pc = .ok (.iushr, 1)) (h : a < 2 ^ 32) (k : W p l e R s m args below meth c H locs cells slots Q (F0 m (pc + 1) ls (.int (nI (a / 2 ^ (b % 32))) :: rest))) : W p l e R s m args below meth c H locs cells slots Q (F0 m pc ls (.int (nI b) :: .int (nI a) :: rest)) :=
  lv_iushr C.1 C.2.1 hdg (kx_ushr h b) k
theorem n_icmp_ge (pc : Nat) (C : kx_C p s m args c cc own) {a b : Nat} {off : Int} {tgt : Nat} (hdg : decode cc pc = .ok (.if_icmp .ge off, 3)) (ht : (pc : Int) + off = (tgt : Int)) (ha : a < 2 ^ 31) (hb : b < 2 ^ 31) (kt : b ≤ a → W p l e R s m args below meth c H locs cells slots Q (F0 m tgt ls rest)) (kf : a < b → W p l e R s m args below meth c H locs cells slots Q (F0 m (pc + 3) ls rest)) : W p l e R s m args below meth c H locs cells slots Q (F0 m pc ls (.int (nI b) :: .int (nI a) :: rest)) :=
  lv_icmp_ge C.1 C.2.1 hdg ht (fun h => kt ((nI_leI hb ha).mp h)) (fun h => kf (Nat.lt_of_not_le (fun h2 => h ((nI_leI hb ha).mpr h2))))
theorem n_icmp_lt (pc : Nat) (C : kx_C p s m args c cc own) {a b : Nat} {off : Int} {tgt : Nat} (hdg : decode cc pc = .ok (.if_icmp .lt off, 3)) (ht : (pc : Int) + off = (tgt : Int)) (ha : a < 2 ^ 31) (hb : b < 2 ^ 31) (kt : a < b → W p l e R s m args below meth c H locs cells slots Q (F0 m tgt ls rest)) (kf : b ≤ a → W p l e R s m args below meth c H locs cells slots Q (F0 m (pc + 3) ls rest)) : W p l e R s m args below meth c H locs cells slots Q (F0 m pc ls (.int (nI b) :: .int (nI a) :: rest)) :=
  lv_icmp_lt C.1 C.2.1 hdg ht (fun h => kt ((nI_ltI ha hb).mp h)) (fun h => kf (Nat.le_of_not_lt (fun h2 => h ((nI_ltI ha hb).mpr h2))))
theorem n_icmp_gt (pc : Nat) (C : kx_C p s m args c cc own) {a b : Nat} {off : Int} {tgt : Nat} (hdg : decode cc pc = .ok (.if_icmp .gt off, 3)) (ht : (pc : Int) + off = (tgt : Int)) (ha : a < 2 ^ 31) (hb : b < 2 ^ 31) (kt : b < a → W p l e R s m args below meth c H locs cells slots Q (F0 m tgt ls rest)) (kf : a ≤ b → W p l e R s m args below meth c H locs cells slots Q (F0 m (pc + 3) ls rest)) : W p l e R s m args below meth c H locs cells slots Q (F0 m pc ls (.int (nI b) :: .int (nI a) :: rest)) :=
  lv_icmp_gt C.1 C.2.1 hdg ht (fun h => kt ((nI_ltI hb ha).mp h)) (fun h => kf (Nat.le_of_not_lt (fun h2 => h ((nI_ltI hb ha).mpr h2))))
theorem n_icmp_le (pc : Nat) (C : kx_C p s m args c cc own) {a b : Nat} {off : Int} {tgt : Nat} (hdg : decode cc pc = .ok (.if_icmp .le off, 3)) (ht : (pc : Int) + off = (tgt : Int)) (ha : a < 2 ^ 31) (hb : b < 2 ^ 31) (kt : a ≤ b → W p l e R s m args below meth c H locs cells slots Q (F0 m tgt ls rest)) (kf : b < a → W p l e R s m args below meth c H locs cells slots Q (F0 m (pc + 3) ls rest)) : W p l e R s m args below meth c H locs cells slots Q (F0 m pc ls (.int (nI b) :: .int (nI a) :: rest)) :=
  lv_icmp_le C.1 C.2.1 hdg ht (fun h => kt ((nI_leI ha hb).mp h)) (fun h => kf (Nat.lt_of_not_le (fun h2 => h ((nI_leI ha hb).mpr h2))))
theorem n_icmp_ne (pc : Nat) (C : kx_C p s m args c cc own) {a b : Nat} {off : Int} {tgt : Nat} (hdg : decode cc pc = .ok (.if_icmp .ne off, 3)) (ht : (pc : Int) + off = (tgt : Int)) (ha : a < 2 ^ 31) (hb : b < 2 ^ 31) (kt : a ≠ b → W p l e R s m args below meth c H locs cells slots Q (F0 m tgt ls rest)) (kf : a = b → W p l e R s m args below meth c H locs cells slots Q (F0 m (pc + 3) ls rest)) : W p l e R s m args below meth c H locs cells slots Q (F0 m pc ls (.int (nI b) :: .int (nI a) :: rest)) :=
  lv_icmp_ne C.1 C.2.1 hdg ht (fun h => kt (fun h2 => h ((nI_eq ha hb).mpr h2))) (fun h => kf ((nI_eq ha hb).mp h))
theorem n_icmp_eq (pc : Nat) (C : kx_C p s m args c cc own) {a b : Nat} {off : Int} {tgt : Nat} (hdg : decode cc pc = .ok (.if_icmp .eq off, 3)) (ht : (pc : Int) + off = (tgt : Int)) (ha : a < 2 ^ 31) (hb : b < 2 ^ 31) (kt : a = b → W p l e R s m args below meth c H locs cells slots Q (F0 m tgt ls rest)) (kf : a ≠ b → W p l e R s m args below meth c H locs cells slots Q (F0 m (pc + 3) ls rest)) : W p l e R s m args below meth c H locs cells slots Q (F0 m pc ls (.int (nI b) :: .int (nI a) :: rest)) :=
  lv_icmp_eq C.1 C.2.1 hdg ht (fun h => kt ((nI_eq ha hb).mp h)) (fun h => kf (fun h2 => h ((nI_eq ha hb).mpr h2)))
theorem n_if_ne (pc : Nat) (C : kx_C p s m args c cc own) {a : Nat} {off : Int} {tgt : Nat} (hdg : decode cc pc = .ok (.ifCond .ne off, 3)) (ht : (pc : Int) + off = (tgt : Int)) (ha : a < 2 ^ 31) (kt : a ≠ 0 → W p l e R s m args below meth c H locs cells slots Q (F0 m tgt ls rest)) (kf : a = 0 → W p l e R s m args below meth c H locs cells slots Q (F0 m (pc + 3) ls rest)) : W p l e R s m args below meth c H locs cells slots Q (F0 m pc ls (.int (nI a) :: rest)) :=
  lv_if_ne C.1 C.2.1 hdg ht (fun h => kt (fun h2 => h (by rw [h2]; rfl))) (fun h => kf ((nI_eq ha (by decide)).mp (h.trans nI_0.symm)))
theorem n_if_eq (pc : Nat) (C : kx_C p s m args c cc own) {a : Nat} {off : Int} {tgt : Nat} (hdg : decode cc pc = .ok (.ifCond .eq off, 3)) (ht : (pc : Int) + off = (tgt : Int)) (ha : a < 2 ^ 31) (kt : a = 0 → W p l e R s m args below meth c H locs cells slots Q (F0 m tgt ls rest)) (kf : a ≠ 0 → W p l e R s m args below meth c H locs cells slots Q (F0 m (pc + 3) ls rest)) : W p l e R s m args below meth c H locs cells slots Q (F0 m pc ls (.int (nI a) :: rest)) :=
  lv_if_eq C.1 C.2.1 hdg ht (fun h => kt ((nI_eq ha (by decide)).mp (h.trans nI_0.symm))) (fun h => kf (fun h2 => h (by rw [h2]; rfl)))
theorem n_if_lt (pc : Nat) (C : kx_C p s m args c cc own) {a : Nat} {off : Int} (hdg : decode cc pc = .ok (.ifCond .lt off, 3)) (ha : a < 2 ^ 31) (tgt : Nat) (ht : (pc : Int) + off = (tgt : Int)) (kf : W p l e R s m args below meth c H locs cells slots Q (F0 m (pc + 3) ls rest)) : W p l e R s m args below meth c H locs cells slots Q (F0 m pc ls (.int (nI a) :: rest)) :=
  lv_if_lt C.1 C.2.1 hdg ht (fun h => absurd h (nI_pos ha)) (fun _ => kf)
end KX
/-! the system's world: the tree's object and its eight arrays; the model's object and its five -/
def nT (k : Nat) : Nat := match k with
  | 1 => 4000
  | 2 => 4000
  | 3 => 4000
  | 4 => 1143
  | 5 => 1143
  | 6 => 9
  | 7 => 512
  | _ => 512
def nM (k : Nat) : Nat := match k with
  | 1 => 4000
  | 2 => 4000
  | 3 => 512
  | 4 => 512
  | _ => 512
theorem nT_lt (k : Nat) : nT k < 2 ^ 31 := by unfold nT; split <;> decide
theorem nM_lt (k : Nat) : nM k < 2 ^ 31 := by unfold nM; split <;> decide
/-- fields: 0 length, 1 size, 2 founds, 3 best, 4 bestTimes, 5 low, 6 high; arrays: 1 row, 2 now, 3 then, 4 word, 5 ones, 6 zeros, 7 found, 8 times -/
def wT (cI : ClassId) (q : Nat → Nat) (f : Nat → Int32) (G : Nat → Nat → Int32) : va_W :=
  [(q 0, .inr (0, [.ref (q 1), .ref (q 2), .ref (q 3), .ref (q 4), .ref (q 5), .ref (q 6), .ref (q 7), .ref (q 8), .int (f 0), .int (f 1), .int (f 2), .int (f 3), .int (f 4), .int (f 5), .int (f 6)])),
   (q 1, .inl (cI, 4000, .inl (G 1))), (q 2, .inl (cI, 4000, .inl (G 2))), (q 3, .inl (cI, 4000, .inl (G 3))), (q 4, .inl (cI, 1143, .inl (G 4))),
   (q 5, .inl (cI, 1143, .inl (G 5))), (q 6, .inl (cI, 9, .inl (G 6))), (q 7, .inl (cI, 512, .inl (G 7))), (q 8, .inl (cI, 512, .inl (G 8)))]
/-- fields: 0 thrown, 1 size, 2 built, 3 tolds; arrays: 1 row, 2 tree, 3 counts, 4 told, 5 toldOften -/
def wM (cI : ClassId) (q : Nat → Nat) (f : Nat → Int32) (G : Nat → Nat → Int32) : va_W :=
  [(q 0, .inr (1, [.int (f 0), .ref (q 1), .ref (q 2), .ref (q 3), .ref (q 4), .ref (q 5), .int (f 1), .int (f 2), .int (f 3)])),
   (q 1, .inl (cI, 4000, .inl (G 1))), (q 2, .inl (cI, 4000, .inl (G 2))), (q 3, .inl (cI, 512, .inl (G 3))), (q 4, .inl (cI, 512, .inl (G 4))), (q 5, .inl (cI, 512, .inl (G 5)))]
theorem wT_a {cI : ClassId} {q : Nat → Nat} {f : Nat → Int32} {G : Nat → Nat → Int32} (k : Nat) (hk : 1 ≤ k ∧ k ≤ 8) : (wT cI q f G)[k]? = some (q k, .inl (cI, nT k, .inl (G k))) := by
  rcases (show k = 1 ∨ k = 2 ∨ k = 3 ∨ k = 4 ∨ k = 5 ∨ k = 6 ∨ k = 7 ∨ k = 8 by omega) with rfl | rfl | rfl | rfl | rfl | rfl | rfl | rfl <;> rfl
theorem wT_s {cI : ClassId} {q : Nat → Nat} {f : Nat → Int32} {G : Nat → Nat → Int32} (k : Nat) (hk : 1 ≤ k ∧ k ≤ 8) (g : Nat → Int32) : (wT cI q f G).set k (q k, .inl (cI, nT k, .inl g)) = wT cI q f (va_up G k g) := by
  rcases (show k = 1 ∨ k = 2 ∨ k = 3 ∨ k = 4 ∨ k = 5 ∨ k = 6 ∨ k = 7 ∨ k = 8 by omega) with rfl | rfl | rfl | rfl | rfl | rfl | rfl | rfl <;> rfl
theorem wM_a {cI : ClassId} {q : Nat → Nat} {f : Nat → Int32} {G : Nat → Nat → Int32} (k : Nat) (hk : 1 ≤ k ∧ k ≤ 5) : (wM cI q f G)[k]? = some (q k, .inl (cI, nM k, .inl (G k))) := by
  rcases (show k = 1 ∨ k = 2 ∨ k = 3 ∨ k = 4 ∨ k = 5 by omega) with rfl | rfl | rfl | rfl | rfl <;> rfl
theorem wM_s {cI : ClassId} {q : Nat → Nat} {f : Nat → Int32} {G : Nat → Nat → Int32} (k : Nat) (hk : 1 ≤ k ∧ k ≤ 5) (g : Nat → Int32) : (wM cI q f G).set k (q k, .inl (cI, nM k, .inl g)) = wM cI q f (va_up G k g) := by
  rcases (show k = 1 ∨ k = 2 ∨ k = 3 ∨ k = 4 ∨ k = 5 by omega) with rfl | rfl | rfl | rfl | rfl <;> rfl
/-- a walk's standing: the cells, apart and its own, all else as it was, the classes -/
def kx_T (D : va_G) (cI : ClassId) (A : Nat → Prop) (q : Nat → Nat) (f : Nat → Int32) (G : Nat → Nat → Int32) (s : State) (H : Heap) (locs : List Loc) : Prop :=
  va_P D cls_ (wT cI q f G) H ∧ va_D A (wT cI q f G) ∧ va_S A s.heap H locs ∧ va_K D cls_ [(cI, .int)] s
def kx_M (D : va_G) (cI : ClassId) (A : Nat → Prop) (q : Nat → Nat) (f : Nat → Int32) (G : Nat → Nat → Int32) (s : State) (H : Heap) (locs : List Loc) : Prop :=
  va_P D cls_ (wM cI q f G) H ∧ va_D A (wM cI q f G) ∧ va_S A s.heap H locs ∧ va_K D cls_ [(cI, .int)] s
section KW
variable {p : Program} {l : Launch} {e : Env} {R : Room} {s : State} {m : MethodId} {args : Array Value} {below : List Frame} {meth : Method} {c : Code} {H : Heap} {locs : List Loc} {cells slots : Nat} {Q : State → Prop}
variable {cc : ByteArray} {ls : Array Slot} {rest : List Value} {own : String} {D : va_G} {cI : ClassId} {A : Nat → Prop} {q : Nat → Nat} {f : Nat → Int32} {G : Nat → Nat → Int32}
theorem T_ald (pc : Nat) (C : kx_C p s m args c cc own) (w : kx_T D cI A q f G s H locs) (k : Nat) (hk : 1 ≤ k ∧ k ≤ 8) {i : Nat} (hdg : decode cc pc = .ok (.iaload, 1)) (hi : i < nT k) (kk : W p l e R s m args below meth c H locs cells slots Q (F0 m (pc + 1) ls (.int (G k i) :: rest))) : W p l e R s m args below meth c H locs cells slots Q (F0 m pc ls (.int (nI i) :: .ref (q k) :: rest)) := by
  have hn := nT_lt k
  refine va_iald C.1 C.2.1 w.2.2.2 w.1 k 0 (wT_a k hk) rfl (vp_in_nI hi hn) hdg ?_
  rw [nI_clamp (by omega)]; exact kk
theorem T_ast (pc : Nat) (C : kx_C p s m args c cc own) (w : kx_T D cI A q f G s H locs) (k : Nat) (hk : 1 ≤ k ∧ k ≤ 8) {i : Nat} {x : Int32} (hdg : decode cc pc = .ok (.iastore, 1)) (hi : i < nT k) (kk : ∀ (H : Heap) (locs : List Loc), kx_T D cI A q f (va_up G k (upd (G k) i x)) s H locs → W p l e R s m args below meth c H locs cells slots Q (F0 m (pc + 1) ls rest)) : W p l e R s m args below meth c H locs cells slots Q (F0 m pc ls (.int x :: .int (nI i) :: .ref (q k) :: rest)) := by
  have hn := nT_lt k
  refine va_iast C.1 C.2.1 w.2.2.2 w.1 w.2.1 w.2.2.1 k 0 (wT_a k hk) rfl (vp_in_nI hi hn) hdg (fun H1 locs1 hP hD hS => ?_)
  rw [nI_clamp (by omega), wT_s k hk] at hP hD
  exact kk H1 locs1 ⟨hP, hD, hS, w.2.2.2⟩
theorem T_ga (pc : Nat) (C : kx_C p s m args c cc R_T) (w : kx_T D cI A q f G s H locs) (k : Nat) (hk : 1 ≤ k ∧ k ≤ 8) {idx : Nat} (hl : Cond.fieldLink R_T idx R_T (nm_T (k - 1)) (ds_T (k - 1)) ∈ lw_g) (hdg : decode cc pc = .ok (.getfield idx, 3)) (kk : W p l e R s m args below meth c H locs cells slots Q (F0 m (pc + 3) ls (.ref (q k) :: rest))) : W p l e R s m args below meth c H locs cells slots Q (F0 m pc ls (.ref (q 0) :: rest)) := by
  refine va_get (own := R_T) (ref := R_T) (C := R_T) (T := F_T) (N := 15) (ci := 0) (v := .ref (q k)) C.1 C.2.1 C.2.2.2 in_T C.2.2.1 w.2.2.2 w.1 0 rfl rfl (k - 1) (by omega) (C.2.2.2 _ hl) (fun _ h => h) ?_ hdg kk
  rcases (show k = 1 ∨ k = 2 ∨ k = 3 ∨ k = 4 ∨ k = 5 ∨ k = 6 ∨ k = 7 ∨ k = 8 by omega) with rfl | rfl | rfl | rfl | rfl | rfl | rfl | rfl <;> rfl
theorem T_gi (pc : Nat) (C : kx_C p s m args c cc R_T) (w : kx_T D cI A q f G s H locs) (j : Nat) (hj : j < 7) {idx : Nat} (hl : Cond.fieldLink R_T idx R_T (nm_T (8 + j)) (ds_T (8 + j)) ∈ lw_g) (hdg : decode cc pc = .ok (.getfield idx, 3)) (kk : W p l e R s m args below meth c H locs cells slots Q (F0 m (pc + 3) ls (.int (f j) :: rest))) : W p l e R s m args below meth c H locs cells slots Q (F0 m pc ls (.ref (q 0) :: rest)) := by
  refine va_get (own := R_T) (ref := R_T) (C := R_T) (T := F_T) (N := 15) (ci := 0) (v := .int (f j)) C.1 C.2.1 C.2.2.2 in_T C.2.2.1 w.2.2.2 w.1 0 rfl rfl (8 + j) (by omega) (C.2.2.2 _ hl) (fun _ h => h) ?_ hdg kk
  rcases (show j = 0 ∨ j = 1 ∨ j = 2 ∨ j = 3 ∨ j = 4 ∨ j = 5 ∨ j = 6 by omega) with rfl | rfl | rfl | rfl | rfl | rfl | rfl <;> rfl
theorem T_pi (pc : Nat) (C : kx_C p s m args c cc R_T) (w : kx_T D cI A q f G s H locs) (j : Nat) (hj : j < 7) {idx : Nat} {v : Int32} (hl : Cond.fieldLink R_T idx R_T (nm_T (8 + j)) (ds_T (8 + j)) ∈ lw_g) (hdg : decode cc pc = .ok (.putfield idx, 3)) (kk : ∀ (H : Heap) (locs : List Loc), kx_T D cI A q (upd f j v) G s H locs → W p l e R s m args below meth c H locs cells slots Q (F0 m (pc + 3) ls rest)) : W p l e R s m args below meth c H locs cells slots Q (F0 m pc ls (.int v :: .ref (q 0) :: rest)) := by
  rcases (show j = 0 ∨ j = 1 ∨ j = 2 ∨ j = 3 ∨ j = 4 ∨ j = 5 ∨ j = 6 by omega) with rfl | rfl | rfl | rfl | rfl | rfl | rfl
  · exact va_put (own := R_T) (ref := R_T) (C := R_T) (T := F_T) (N := 15) (ci := 0) (v := .int v) (ty := .int) C.1 C.2.1 C.2.2.2 in_T ty_T ty_T_ok n_T C.2.2.1 w.2.2.2 w.1 w.2.1 w.2.2.1 0 rfl rfl 8 (by decide) (C.2.2.2 _ hl) (fun _ h => h) rfl (by decide +kernel) rfl rfl (Nat.le_of_ble_eq_true rfl) hdg (fun H1 locs1 hP hD hS => kk H1 locs1 ⟨hP, hD, hS, w.2.2.2⟩)
  · exact va_put (own := R_T) (ref := R_T) (C := R_T) (T := F_T) (N := 15) (ci := 0) (v := .int v) (ty := .int) C.1 C.2.1 C.2.2.2 in_T ty_T ty_T_ok n_T C.2.2.1 w.2.2.2 w.1 w.2.1 w.2.2.1 0 rfl rfl 9 (by decide) (C.2.2.2 _ hl) (fun _ h => h) rfl (by decide +kernel) rfl rfl (Nat.le_of_ble_eq_true rfl) hdg (fun H1 locs1 hP hD hS => kk H1 locs1 ⟨hP, hD, hS, w.2.2.2⟩)
  · exact va_put (own := R_T) (ref := R_T) (C := R_T) (T := F_T) (N := 15) (ci := 0) (v := .int v) (ty := .int) C.1 C.2.1 C.2.2.2 in_T ty_T ty_T_ok n_T C.2.2.1 w.2.2.2 w.1 w.2.1 w.2.2.1 0 rfl rfl 10 (by decide) (C.2.2.2 _ hl) (fun _ h => h) rfl (by decide +kernel) rfl rfl (Nat.le_of_ble_eq_true rfl) hdg (fun H1 locs1 hP hD hS => kk H1 locs1 ⟨hP, hD, hS, w.2.2.2⟩)
  · exact va_put (own := R_T) (ref := R_T) (C := R_T) (T := F_T) (N := 15) (ci := 0) (v := .int v) (ty := .int) C.1 C.2.1 C.2.2.2 in_T ty_T ty_T_ok n_T C.2.2.1 w.2.2.2 w.1 w.2.1 w.2.2.1 0 rfl rfl 11 (by decide) (C.2.2.2 _ hl) (fun _ h => h) rfl (by decide +kernel) rfl rfl (Nat.le_of_ble_eq_true rfl) hdg (fun H1 locs1 hP hD hS => kk H1 locs1 ⟨hP, hD, hS, w.2.2.2⟩)
  · exact va_put (own := R_T) (ref := R_T) (C := R_T) (T := F_T) (N := 15) (ci := 0) (v := .int v) (ty := .int) C.1 C.2.1 C.2.2.2 in_T ty_T ty_T_ok n_T C.2.2.1 w.2.2.2 w.1 w.2.1 w.2.2.1 0 rfl rfl 12 (by decide) (C.2.2.2 _ hl) (fun _ h => h) rfl (by decide +kernel) rfl rfl (Nat.le_of_ble_eq_true rfl) hdg (fun H1 locs1 hP hD hS => kk H1 locs1 ⟨hP, hD, hS, w.2.2.2⟩)
  · exact va_put (own := R_T) (ref := R_T) (C := R_T) (T := F_T) (N := 15) (ci := 0) (v := .int v) (ty := .int) C.1 C.2.1 C.2.2.2 in_T ty_T ty_T_ok n_T C.2.2.1 w.2.2.2 w.1 w.2.1 w.2.2.1 0 rfl rfl 13 (by decide) (C.2.2.2 _ hl) (fun _ h => h) rfl (by decide +kernel) rfl rfl (Nat.le_of_ble_eq_true rfl) hdg (fun H1 locs1 hP hD hS => kk H1 locs1 ⟨hP, hD, hS, w.2.2.2⟩)
  · exact va_put (own := R_T) (ref := R_T) (C := R_T) (T := F_T) (N := 15) (ci := 0) (v := .int v) (ty := .int) C.1 C.2.1 C.2.2.2 in_T ty_T ty_T_ok n_T C.2.2.1 w.2.2.2 w.1 w.2.1 w.2.2.1 0 rfl rfl 14 (by decide) (C.2.2.2 _ hl) (fun _ h => h) rfl (by decide +kernel) rfl rfl (Nat.le_of_ble_eq_true rfl) hdg (fun H1 locs1 hP hD hS => kk H1 locs1 ⟨hP, hD, hS, w.2.2.2⟩)
theorem M_ald (pc : Nat) (C : kx_C p s m args c cc own) (w : kx_M D cI A q f G s H locs) (k : Nat) (hk : 1 ≤ k ∧ k ≤ 5) {i : Nat} (hdg : decode cc pc = .ok (.iaload, 1)) (hi : i < nM k) (kk : W p l e R s m args below meth c H locs cells slots Q (F0 m (pc + 1) ls (.int (G k i) :: rest))) : W p l e R s m args below meth c H locs cells slots Q (F0 m pc ls (.int (nI i) :: .ref (q k) :: rest)) := by
  have hn := nM_lt k
  refine va_iald C.1 C.2.1 w.2.2.2 w.1 k 0 (wM_a k hk) rfl (vp_in_nI hi hn) hdg ?_
  rw [nI_clamp (by omega)]; exact kk
theorem M_ast (pc : Nat) (C : kx_C p s m args c cc own) (w : kx_M D cI A q f G s H locs) (k : Nat) (hk : 1 ≤ k ∧ k ≤ 5) {i : Nat} {x : Int32} (hdg : decode cc pc = .ok (.iastore, 1)) (hi : i < nM k) (kk : ∀ (H : Heap) (locs : List Loc), kx_M D cI A q f (va_up G k (upd (G k) i x)) s H locs → W p l e R s m args below meth c H locs cells slots Q (F0 m (pc + 1) ls rest)) : W p l e R s m args below meth c H locs cells slots Q (F0 m pc ls (.int x :: .int (nI i) :: .ref (q k) :: rest)) := by
  have hn := nM_lt k
  refine va_iast C.1 C.2.1 w.2.2.2 w.1 w.2.1 w.2.2.1 k 0 (wM_a k hk) rfl (vp_in_nI hi hn) hdg (fun H1 locs1 hP hD hS => ?_)
  rw [nI_clamp (by omega), wM_s k hk] at hP hD
  exact kk H1 locs1 ⟨hP, hD, hS, w.2.2.2⟩
theorem M_ga (pc : Nat) (C : kx_C p s m args c cc R_M) (w : kx_M D cI A q f G s H locs) (k : Nat) (hk : 1 ≤ k ∧ k ≤ 5) {idx : Nat} (hl : Cond.fieldLink R_M idx R_M (nm_M k) (ds_M k) ∈ lw_g) (hdg : decode cc pc = .ok (.getfield idx, 3)) (kk : W p l e R s m args below meth c H locs cells slots Q (F0 m (pc + 3) ls (.ref (q k) :: rest))) : W p l e R s m args below meth c H locs cells slots Q (F0 m pc ls (.ref (q 0) :: rest)) := by
  refine va_get (own := R_M) (ref := R_M) (C := R_M) (T := F_M) (N := 9) (ci := 1) (v := .ref (q k)) C.1 C.2.1 C.2.2.2 in_M C.2.2.1 w.2.2.2 w.1 0 rfl rfl k (by omega) (C.2.2.2 _ hl) (fun _ h => h) ?_ hdg kk
  rcases (show k = 1 ∨ k = 2 ∨ k = 3 ∨ k = 4 ∨ k = 5 by omega) with rfl | rfl | rfl | rfl | rfl <;> rfl
/-- the place of the model's j-th number among its fields -/
def jM (j : Nat) : Nat := if j = 0 then 0 else j + 5
theorem M_gi (pc : Nat) (C : kx_C p s m args c cc R_M) (w : kx_M D cI A q f G s H locs) (j : Nat) (hj : j < 4) {idx : Nat} (hl : Cond.fieldLink R_M idx R_M (nm_M (jM j)) (ds_M (jM j)) ∈ lw_g) (hdg : decode cc pc = .ok (.getfield idx, 3)) (kk : W p l e R s m args below meth c H locs cells slots Q (F0 m (pc + 3) ls (.int (f j) :: rest))) : W p l e R s m args below meth c H locs cells slots Q (F0 m pc ls (.ref (q 0) :: rest)) := by
  refine va_get (own := R_M) (ref := R_M) (C := R_M) (T := F_M) (N := 9) (ci := 1) (v := .int (f j)) C.1 C.2.1 C.2.2.2 in_M C.2.2.1 w.2.2.2 w.1 0 rfl rfl (jM j) (by unfold jM; split <;> omega) (C.2.2.2 _ hl) (fun _ h => h) ?_ hdg kk
  rcases (show j = 0 ∨ j = 1 ∨ j = 2 ∨ j = 3 by omega) with rfl | rfl | rfl | rfl <;> rfl
theorem M_pi (pc : Nat) (C : kx_C p s m args c cc R_M) (w : kx_M D cI A q f G s H locs) (j : Nat) (hj : j < 4) {idx : Nat} {v : Int32} (hl : Cond.fieldLink R_M idx R_M (nm_M (jM j)) (ds_M (jM j)) ∈ lw_g) (hdg : decode cc pc = .ok (.putfield idx, 3)) (kk : ∀ (H : Heap) (locs : List Loc), kx_M D cI A q (upd f j v) G s H locs → W p l e R s m args below meth c H locs cells slots Q (F0 m (pc + 3) ls rest)) : W p l e R s m args below meth c H locs cells slots Q (F0 m pc ls (.int v :: .ref (q 0) :: rest)) := by
  rcases (show j = 0 ∨ j = 1 ∨ j = 2 ∨ j = 3 by omega) with rfl | rfl | rfl | rfl
  · exact va_put (own := R_M) (ref := R_M) (C := R_M) (T := F_M) (N := 9) (ci := 1) (v := .int v) (ty := .int) C.1 C.2.1 C.2.2.2 in_M ty_M ty_M_ok n_M C.2.2.1 w.2.2.2 w.1 w.2.1 w.2.2.1 0 rfl rfl 0 (by decide) (C.2.2.2 _ hl) (fun _ h => h) rfl (by decide +kernel) rfl rfl (Nat.le_of_ble_eq_true rfl) hdg (fun H1 locs1 hP hD hS => kk H1 locs1 ⟨hP, hD, hS, w.2.2.2⟩)
  · exact va_put (own := R_M) (ref := R_M) (C := R_M) (T := F_M) (N := 9) (ci := 1) (v := .int v) (ty := .int) C.1 C.2.1 C.2.2.2 in_M ty_M ty_M_ok n_M C.2.2.1 w.2.2.2 w.1 w.2.1 w.2.2.1 0 rfl rfl 6 (by decide) (C.2.2.2 _ hl) (fun _ h => h) rfl (by decide +kernel) rfl rfl (Nat.le_of_ble_eq_true rfl) hdg (fun H1 locs1 hP hD hS => kk H1 locs1 ⟨hP, hD, hS, w.2.2.2⟩)
  · exact va_put (own := R_M) (ref := R_M) (C := R_M) (T := F_M) (N := 9) (ci := 1) (v := .int v) (ty := .int) C.1 C.2.1 C.2.2.2 in_M ty_M ty_M_ok n_M C.2.2.1 w.2.2.2 w.1 w.2.1 w.2.2.1 0 rfl rfl 7 (by decide) (C.2.2.2 _ hl) (fun _ h => h) rfl (by decide +kernel) rfl rfl (Nat.le_of_ble_eq_true rfl) hdg (fun H1 locs1 hP hD hS => kk H1 locs1 ⟨hP, hD, hS, w.2.2.2⟩)
  · exact va_put (own := R_M) (ref := R_M) (C := R_M) (T := F_M) (N := 9) (ci := 1) (v := .int v) (ty := .int) C.1 C.2.1 C.2.2.2 in_M ty_M ty_M_ok n_M C.2.2.1 w.2.2.2 w.1 w.2.1 w.2.2.1 0 rfl rfl 8 (by decide) (C.2.2.2 _ hl) (fun _ h => h) rfl (by decide +kernel) rfl rfl (Nat.le_of_ble_eq_true rfl) hdg (fun H1 locs1 hP hD hS => kk H1 locs1 ⟨hP, hD, hS, w.2.2.2⟩)
end KW
end
section
/-! contracts and calls: printed by gen/contr.py -/
abbrev kx_U : Type := (Nat → Int32) × (Nat → Nat → Int32)
abbrev kx_E (p : Program) (s : State) (m : MethodId) (args : Array Value) (c : Code) (cc : ByteArray) (own : String) (n : Nat) (meth : Method) (ret : Option FieldType) (A : Nat → Prop) : Prop :=
  kx_C p s m args c cc own ∧ c.maxLocals = n ∧ meth.sig.returnType = ret ∧ meth.locks = false ∧ c.exceptionTable.isEmpty = true ∧ ∀ x : Nat, s.heap.size ≤ x → A x
/-- a static method that only answers: an int; nothing -/
abbrev S_Mi (l : Launch) (y : MethodName) (b : ByteArray) (n : Nat) (rm : Room) (As : List Value) (r : Int32) : Prop := Met l y (.code y b n (some .int) :: lw_g) rm (fun v _ => v = As.toArray) (QcRead r) 0 0 (fun _ => False)
def S_Qn : Array Value → State → Outcome → State → Prop := fun _ st o t => o = .returned none ∧ t.heap = st.heap
abbrev S_Mv (l : Launch) (y : MethodName) (b : ByteArray) (n : Nat) (rm : Room) (As : List Value) : Prop := Met l y (.code y b n none :: lw_g) rm (fun v _ => v = As.toArray) S_Qn 0 0 (fun _ => False)
section KS
variable {p : Program} {l : Launch} {e : Env} {R : Room} {s : State} {m : MethodId} {args : Array Value} {below : List Frame} {meth : Method} {c : Code} {H : Heap} {locs : List Loc} {cells slots : Nat} {Q : State → Prop}
variable {cc : ByteArray} {ls : Array Slot} {rest : List Value} {own : String} {A : Nat → Prop} {nL : Nat} {retm : Option FieldType}
theorem S_ci (pc : Nat) (E : kx_E p s m args c cc own nL meth retm A) {y : MethodName} {b : ByteArray} {n idx na : Nat} {rm : Room} {As : List Value} {r : Int32} {st0 : List Value}
    (hM : S_Mi l y b n rm As r) (cw : CallB R s args own idx y b n (some .int) (.code y b n (some .int) :: lw_g) rm 0 0 na ∧ (Cond.static y).before args s = true) (hls : ls.size = nL) (hn : As.length = na) (hst : st0 = As.reverse ++ rest) (hW : (rest.map fun v => v.category).sum ≤ 8) (hdg : decode cc pc = .ok (.invokestatic idx, 3))
    (kk : W p l e R s m args below meth c H locs 0 0 Q (F0 m (pc + 3) ls (.int r :: rest))) : W p l e R s m args below meth c H locs 0 0 Q (F0 m pc ls st0) :=
  W.callR (g := F0 m pc ls st0) (rest := rest) (W.runS (As := As) ⟨E.1.1, E.1.2.1, E.2.1, E.1.2.2.1, E.1.2.2.2⟩ hM cw preEq rfl hn hls hst (lv_room hW) hdg ⟨Nat.zero_le _, Nat.zero_le _⟩) kk
theorem S_cv (pc : Nat) (E : kx_E p s m args c cc own nL meth retm A) {y : MethodName} {b : ByteArray} {n idx na : Nat} {rm : Room} {As : List Value} {st0 : List Value}
    (hM : S_Mv l y b n rm As) (cw : CallB R s args own idx y b n none (.code y b n none :: lw_g) rm 0 0 na ∧ (Cond.static y).before args s = true) (hls : ls.size = nL) (hn : As.length = na) (hst : st0 = As.reverse ++ rest) (hW : (rest.map fun v => v.category).sum ≤ 8) (hdg : decode cc pc = .ok (.invokestatic idx, 3))
    (kk : W p l e R s m args below meth c H locs 0 0 Q (F0 m (pc + 3) ls rest)) : W p l e R s m args below meth c H locs 0 0 Q (F0 m pc ls st0) := by
  intro T hT X
  obtain ⟨v, st₀, t, T', L, h0, X', hL, e1, ⟨hv, hh⟩, st⟩ := W.runS (g := F0 m pc ls st0) (rest := rest) (As := As) ⟨E.1.1, E.1.2.1, E.2.1, E.1.2.2.1, E.1.2.2.2⟩ hM cw preEq rfl hn hls hst (lv_room hW) hdg ⟨Nat.zero_le _, Nat.zero_le _⟩ T hT X
  cases hv
  obtain ⟨t2, a1, b1⟩ := kk T' (by rw [e1, hh, h0]) (Stand.forget X' (fun q h => (hL q h).elim))
  exact ⟨t2, st t2 a1, b1⟩
theorem S_iret (pc : Nat) (E : kx_C p s m args c cc own) (hr : meth.sig.returnType = some .int) (hlk : meth.locks = false) {v : Int32} (hH : H = s.heap) (hdg : decode cc pc = .ok (.ireturn, 1)) :
    W p l e R s m args below meth c H [] 0 0 (MQ below (QcRead v) args s 0 0 (fun _ => False)) (F0 m pc ls [.int v]) :=
  W.iret E.1 E.2.1 hr (fun t ht hW => ⟨rfl, ht.trans hH⟩) (fun q h => by cases h) hdg hlk
theorem S_vret (pc : Nat) (E : kx_C p s m args c cc own) (hr : meth.sig.returnType = none) (hlk : meth.locks = false) (hH : H = s.heap) (hdg : decode cc pc = .ok (.return_, 1)) :
    W p l e R s m args below meth c H [] 0 0 (MQ below S_Qn args s 0 0 (fun _ => False)) (F0 m pc ls []) :=
  W.vret E.1 E.2.1 hr (fun t ht hW => ⟨rfl, ht.trans hH⟩) (fun q h => by cases h) hdg hlk
end KS
theorem S_ofi {l : Launch} {y : MethodName} {b : ByteArray} {n : Nat} {rm : Room} {As : List Value} {r : Int32} (own : String) (hy : y.cls = own) (hpl : plainName own = true) (hlen : (lg_sl As).length ≤ n)
    (body : ∀ (p : Program) (e : Env) (s : State) (m : MethodId) (args : Array Value) (below : List Frame) (meth : Method) (c : Code) (ls : Array Slot), kx_C p s m args c b own → c.maxLocals = n → meth.sig.returnType = some .int → meth.locks = false → lv_has ls n (lv_args 0 As) →
      W p l e rm s m args below meth c s.heap [] 0 0 (MQ below (QcRead r) args s 0 0 (fun _ => False)) (F0 m 0 ls [])) : S_Mi l y b n rm As r := by
  refine Met.ofW (cc := b) (maxL := n) (ret := some .int) (by rw [hy]; exact hpl) rfl ?_
  intro p e s m args below meth c s₁ B hml hv
  subst hv
  have hts := atoms_spec (ws := .code y b n (some .int) :: lw_g) B.pre
  have hown : s.vm.findClass own = some m.cls := by rw [← hy]; exact findClass_of_methodNamed B.named
  rw [lg_entry_eq]
  exact body p e s m _ below meth c _ ⟨B.exec, B.bytes, hown, fun w h => hts w (List.mem_cons_of_mem _ h)⟩ hml B.returns B.notSynchronized (lv_entry As hlen)
theorem S_ofv {l : Launch} {y : MethodName} {b : ByteArray} {n : Nat} {rm : Room} {As : List Value} (own : String) (hy : y.cls = own) (hpl : plainName own = true) (hlen : (lg_sl As).length ≤ n)
    (body : ∀ (p : Program) (e : Env) (s : State) (m : MethodId) (args : Array Value) (below : List Frame) (meth : Method) (c : Code) (ls : Array Slot), kx_C p s m args c b own → c.maxLocals = n → meth.sig.returnType = none → meth.locks = false → lv_has ls n (lv_args 0 As) →
      W p l e rm s m args below meth c s.heap [] 0 0 (MQ below S_Qn args s 0 0 (fun _ => False)) (F0 m 0 ls [])) : S_Mv l y b n rm As := by
  refine Met.ofW (cc := b) (maxL := n) (ret := none) (by rw [hy]; exact hpl) rfl ?_
  intro p e s m args below meth c s₁ B hml hv
  subst hv
  have hts := atoms_spec (ws := .code y b n none :: lw_g) B.pre
  have hown : s.vm.findClass own = some m.cls := by rw [← hy]; exact findClass_of_methodNamed B.named
  rw [lg_entry_eq]
  exact body p e s m _ below meth c _ ⟨B.exec, B.bytes, hown, fun w h => hts w (List.mem_cons_of_mem _ h)⟩ hml B.returns B.notSynchronized (lv_entry As hlen)

/-! contracts over the world of T -/
def T_pre (D : va_G) (cI : ClassId) (q : Nat → Nat) (f : Nat → Int32) (G : Nat → Nat → Int32) (sz : Nat) : State → Prop := fun U => U.heap.size = sz ∧ va_P D cls_ (wT cI q f G) U.heap ∧ va_K D cls_ [(cI, .int)] U ∧ va_D (fun _ => True) (wT cI q f G)
def T_at (D : va_G) (cI : ClassId) (q : Nat → Nat) (A : Nat → Prop) (u : kx_U) (t : State) : Prop := va_P D cls_ (wT cI q u.1 u.2) t.heap ∧ va_K D cls_ [(cI, .int)] t ∧ va_D A (wT cI q u.1 u.2)
abbrev T_Qi (D : va_G) (cI : ClassId) (q : Nat → Nat) (A : Nat → Prop) (post : Int32 → (Nat → Int32) → (Nat → Nat → Int32) → Prop) : Array Value → State → Outcome → State → Prop := va_Qi (fun r (u : kx_U) => post r u.1 u.2) (T_at D cI q A) A
abbrev T_Qv (D : va_G) (cI : ClassId) (q : Nat → Nat) (A : Nat → Prop) (post : (Nat → Int32) → (Nat → Nat → Int32) → Prop) : Array Value → State → Outcome → State → Prop := va_Qv (fun (u : kx_U) => post u.1 u.2) (T_at D cI q A) A
abbrev T_Mi (l : Launch) (y : MethodName) (b : ByteArray) (n : Nat) (ret : Option FieldType) (rm : Room) (D : va_G) (cI : ClassId) (q : Nat → Nat) (f : Nat → Int32) (G : Nat → Nat → Int32) (As : List Value) (post : Int32 → (Nat → Int32) → (Nat → Nat → Int32) → Prop) : Prop :=
  ∀ sz : Nat, Met l y (.code y b n ret :: lw_g) rm (va_Pc (.ref (q 0) :: As) (T_pre D cI q f G sz)) (T_Qi D cI q (va_A (wT cI q f G) sz) post) 0 0 (va_A (wT cI q f G) sz)
abbrev T_Mv (l : Launch) (y : MethodName) (b : ByteArray) (n : Nat) (rm : Room) (D : va_G) (cI : ClassId) (q : Nat → Nat) (f : Nat → Int32) (G : Nat → Nat → Int32) (As : List Value) (post : (Nat → Int32) → (Nat → Nat → Int32) → Prop) : Prop :=
  ∀ sz : Nat, Met l y (.code y b n none :: lw_g) rm (va_Pc (.ref (q 0) :: As) (T_pre D cI q f G sz)) (T_Qv D cI q (va_A (wT cI q f G) sz) post) 0 0 (va_A (wT cI q f G) sz)
theorem T_blind (av : List Value) (D : va_G) (cI : ClassId) (q : Nat → Nat) (f : Nat → Int32) (G : Nat → Nat → Int32) (sz : Nat) : FrameBlind (va_Pc av (T_pre D cI q f G sz)) := fun a U g mk h => by
  obtain ⟨q0, q1, qP, qK, qD⟩ := h
  exact ⟨q0, q1, qP, va_K.moved (u := U) (U := U.calling g mk a) (Vm.Alike.refl U.vm) qK, qD⟩
theorem T_ofi {l : Launch} {y : MethodName} {b : ByteArray} {n : Nat} {ret : Option FieldType} {rm : Room} {D : va_G} {cI : ClassId} {q : Nat → Nat} {f : Nat → Int32} {G : Nat → Nat → Int32} {As : List Value} {post : Int32 → (Nat → Int32) → (Nat → Nat → Int32) → Prop}
    (hy : y.cls = R_T) (hlen : (lg_sl (.ref (q 0) :: As)).length ≤ n)
    (body : ∀ (p : Program) (e : Env) (s : State) (m : MethodId) (args : Array Value) (below : List Frame) (meth : Method) (c : Code) (ls : Array Slot) (A : Nat → Prop), kx_E p s m args c b R_T n meth ret A → kx_T D cI A q f G s s.heap [] → lv_has ls n (lv_args 0 (.ref (q 0) :: As)) →
      W p l e rm s m args below meth c s.heap [] 0 0 (MQ below (T_Qi D cI q A post) args s 0 0 A) (F0 m 0 ls [])) : T_Mi l y b n ret rm D cI q f G As post := by
  intro sz
  refine Met.ofW (cc := b) (maxL := n) (ret := ret) (by rw [hy]; decide) rfl ?_
  intro p e s m args below meth c s₁ B hml hv
  obtain ⟨rfl, hsz, hP, hK, hD0⟩ := hv
  have hts := atoms_spec (ws := .code y b n ret :: lw_g) B.pre
  have hown : s.vm.findClass R_T = some m.cls := by rw [← hy]; exact findClass_of_methodNamed B.named
  have hxt := BodyLoose.noHandlers B (hts _ List.mem_cons_self)
  subst hsz
  rw [lg_entry_eq]
  exact body p e s m _ below meth c _ _ ⟨⟨B.exec, B.bytes, hown, fun w h => hts w (List.mem_cons_of_mem _ h)⟩, hml, B.returns, B.notSynchronized, hxt, fun x h => Or.inr h⟩ ⟨hP, hD0.self, va_S.rf, hK⟩ (lv_entry (.ref (q 0) :: As) hlen)
theorem T_ofv {l : Launch} {y : MethodName} {b : ByteArray} {n : Nat} {rm : Room} {D : va_G} {cI : ClassId} {q : Nat → Nat} {f : Nat → Int32} {G : Nat → Nat → Int32} {As : List Value} {post : (Nat → Int32) → (Nat → Nat → Int32) → Prop}
    (hy : y.cls = R_T) (hlen : (lg_sl (.ref (q 0) :: As)).length ≤ n)
    (body : ∀ (p : Program) (e : Env) (s : State) (m : MethodId) (args : Array Value) (below : List Frame) (meth : Method) (c : Code) (ls : Array Slot) (A : Nat → Prop), kx_E p s m args c b R_T n meth none A → kx_T D cI A q f G s s.heap [] → lv_has ls n (lv_args 0 (.ref (q 0) :: As)) →
      W p l e rm s m args below meth c s.heap [] 0 0 (MQ below (T_Qv D cI q A post) args s 0 0 A) (F0 m 0 ls [])) : T_Mv l y b n rm D cI q f G As post := by
  intro sz
  refine Met.ofW (cc := b) (maxL := n) (ret := none) (by rw [hy]; decide) rfl ?_
  intro p e s m args below meth c s₁ B hml hv
  obtain ⟨rfl, hsz, hP, hK, hD0⟩ := hv
  have hts := atoms_spec (ws := .code y b n none :: lw_g) B.pre
  have hown : s.vm.findClass R_T = some m.cls := by rw [← hy]; exact findClass_of_methodNamed B.named
  have hxt := BodyLoose.noHandlers B (hts _ List.mem_cons_self)
  subst hsz
  rw [lg_entry_eq]
  exact body p e s m _ below meth c _ _ ⟨⟨B.exec, B.bytes, hown, fun w h => hts w (List.mem_cons_of_mem _ h)⟩, hml, B.returns, B.notSynchronized, hxt, fun x h => Or.inr h⟩ ⟨hP, hD0.self, va_S.rf, hK⟩ (lv_entry (.ref (q 0) :: As) hlen)
section KCT
variable {p : Program} {l : Launch} {e : Env} {R : Room} {s : State} {m : MethodId} {args : Array Value} {below : List Frame} {meth : Method} {c : Code} {H : Heap} {locs : List Loc} {cells slots : Nat} {Q : State → Prop}
variable {cc : ByteArray} {ls : Array Slot} {rest : List Value} {own : String} {D : va_G} {cI : ClassId} {A : Nat → Prop} {q : Nat → Nat} {f : Nat → Int32} {G : Nat → Nat → Int32} {nL : Nat} {retm : Option FieldType}
theorem T_iret (pc : Nat) (E : kx_E p s m args c cc own nL meth (some .int) A) (w : kx_T D cI A q f G s H locs) {v : Int32} {post : Int32 → (Nat → Int32) → (Nat → Nat → Int32) → Prop} (hdg : decode cc pc = .ok (.ireturn, 1)) (hpost : post v f G) :
    W p l e R s m args below meth c H locs 0 0 (MQ below (T_Qi D cI q A post) args s 0 0 A) (F0 m pc ls [.int v]) :=
  W.iret E.1.1 E.1.2.1 E.2.2.1 (fun t ht hW => ⟨⟨v, (f, G), rfl, hpost, by rw [ht]; exact w.1, va_K.moved hW.alike w.2.2.2, w.2.1⟩, w.2.2.1.F ht⟩) w.2.2.1.2.2 hdg E.2.2.2.1
theorem T_zret (pc : Nat) (E : kx_E p s m args c cc own nL meth (some .boolean) A) (w : kx_T D cI A q f G s H locs) {v : Int32} {post : Int32 → (Nat → Int32) → (Nat → Nat → Int32) → Prop} (hdg : decode cc pc = .ok (.ireturn, 1)) (hn : narrow .boolean (.int v) = .int v) (hpost : post v f G) :
    W p l e R s m args below meth c H locs 0 0 (MQ below (T_Qi D cI q A post) args s 0 0 A) (F0 m pc ls [.int v]) :=
  W.zret E.1.1 E.1.2.1 E.2.2.1 hn (fun t ht hW => ⟨⟨v, (f, G), rfl, hpost, by rw [ht]; exact w.1, va_K.moved hW.alike w.2.2.2, w.2.1⟩, w.2.2.1.F ht⟩) w.2.2.1.2.2 hdg E.2.2.2.1
theorem T_vret (pc : Nat) (E : kx_E p s m args c cc own nL meth none A) (w : kx_T D cI A q f G s H locs) {post : (Nat → Int32) → (Nat → Nat → Int32) → Prop} (hdg : decode cc pc = .ok (.return_, 1)) (hpost : post f G) :
    W p l e R s m args below meth c H locs 0 0 (MQ below (T_Qv D cI q A post) args s 0 0 A) (F0 m pc ls []) :=
  W.vret E.1.1 E.1.2.1 E.2.2.1 (fun t ht hW => ⟨⟨(f, G), rfl, hpost, by rw [ht]; exact w.1, va_K.moved hW.alike w.2.2.2, w.2.1⟩, w.2.2.1.F ht⟩) w.2.2.1.2.2 hdg E.2.2.2.1
theorem T_free (E : kx_E p s m args c cc own nL meth retm A) (w : kx_T D cI A q f G s H locs) : ∀ x, va_A (wT cI q f G) H.size x → A x :=
  va_free (wc := wT cI q f G) w.2.1 w.2.2.1 E.2.2.2.2.2 [0, 1, 2, 3, 4, 5, 6, 7, 8] rfl
theorem T_start (w : kx_T D cI A q f G s H locs) (As : List Value) : PreV s H R_T (q 0) (va_Pc (.ref (q 0) :: As) (T_pre D cI q f G H.size)) As :=
  ⟨T_blind _ D cI q f G H.size, va_recv (ci := 0) w.2.2.2 w.1 rfl (show (wT cI q f G)[0]? = some _ from rfl), fun U hU hW => ⟨rfl, by rw [hU], by rw [hU]; exact w.1, va_K.moved hW.alike w.2.2.2, w.2.1.weaken (fun _ _ _ _ => trivial)⟩⟩
theorem T_ci (pc : Nat) (E : kx_E p s m args c cc R_T nL meth retm A) (w : kx_T D cI A q f G s H locs) {y : MethodName} {b : ByteArray} {n idx na : Nat} {ret : Option FieldType} {rm : Room} {As : List Value} {post : Int32 → (Nat → Int32) → (Nat → Nat → Int32) → Prop} {st0 : List Value}
    (hM : T_Mi l y b n ret rm D cI q f G As post) (cw : CallW R s args R_T R_T idx y b n ret (.code y b n ret :: lw_g) rm 0 0 na) (hls : ls.size = nL) (hn : As.length = na) (hst : st0 = As.reverse ++ .ref (q 0) :: rest) (hW : (rest.map fun v => v.category).sum ≤ 8) (hdg : decode cc pc = .ok (.invokevirtual idx, 3))
    (kk : ∀ (r : Int32) (f' : Nat → Int32) (G' : Nat → Nat → Int32) (H : Heap) (locs : List Loc), post r f' G' → kx_T D cI A q f' G' s H locs → W p l e R s m args below meth c H locs 0 0 Q (F0 m (pc + 3) ls (.int r :: rest))) : W p l e R s m args below meth c H locs 0 0 Q (F0 m pc ls st0) := by
  have hFc := T_free E w
  refine va_calli (va_runV (As := As) (rest := rest) ⟨E.1.1, E.1.2.1, E.2.1, E.1.2.2.1, E.1.2.2.2⟩ (hM H.size) cw (T_start w As) rfl hn hls hst (lv_room hW) hdg ⟨Nat.zero_le _, Nat.zero_le _⟩) w.2.2.1 (fun x _ h => hFc x h) hFc (fun r u t H1 locs1 ht hvm hpost hB hz hk hS => ?_)
  refine kk r u.1 u.2 H1 locs1 hpost ⟨?_, hB.2.2.weaken (fun _ _ _ h => hFc _ h), hS, w.2.2.2⟩
  rw [← ht]; exact hB.1
theorem T_cv (pc : Nat) (E : kx_E p s m args c cc R_T nL meth retm A) (w : kx_T D cI A q f G s H locs) {y : MethodName} {b : ByteArray} {n idx na : Nat} {rm : Room} {As : List Value} {post : (Nat → Int32) → (Nat → Nat → Int32) → Prop} {st0 : List Value}
    (hM : T_Mv l y b n rm D cI q f G As post) (cw : CallW R s args R_T R_T idx y b n none (.code y b n none :: lw_g) rm 0 0 na) (hls : ls.size = nL) (hn : As.length = na) (hst : st0 = As.reverse ++ .ref (q 0) :: rest) (hW : (rest.map fun v => v.category).sum ≤ 8) (hdg : decode cc pc = .ok (.invokevirtual idx, 3))
    (kk : ∀ (f' : Nat → Int32) (G' : Nat → Nat → Int32) (H : Heap) (locs : List Loc), post f' G' → kx_T D cI A q f' G' s H locs → W p l e R s m args below meth c H locs 0 0 Q (F0 m (pc + 3) ls rest)) : W p l e R s m args below meth c H locs 0 0 Q (F0 m pc ls st0) := by
  have hFc := T_free E w
  refine va_callv (va_runV (As := As) (rest := rest) ⟨E.1.1, E.1.2.1, E.2.1, E.1.2.2.1, E.1.2.2.2⟩ (hM H.size) cw (T_start w As) rfl hn hls hst (lv_room hW) hdg ⟨Nat.zero_le _, Nat.zero_le _⟩) w.2.2.1 (fun x _ h => hFc x h) hFc (fun u t H1 locs1 ht hvm hpost hB hz hk hS => ?_)
  refine kk u.1 u.2 H1 locs1 hpost ⟨?_, hB.2.2.weaken (fun _ _ _ h => hFc _ h), hS, w.2.2.2⟩
  rw [← ht]; exact hB.1
end KCT

/-! contracts over the world of M -/
def M_pre (D : va_G) (cI : ClassId) (q : Nat → Nat) (f : Nat → Int32) (G : Nat → Nat → Int32) (sz : Nat) : State → Prop := fun U => U.heap.size = sz ∧ va_P D cls_ (wM cI q f G) U.heap ∧ va_K D cls_ [(cI, .int)] U ∧ va_D (fun _ => True) (wM cI q f G)
def M_at (D : va_G) (cI : ClassId) (q : Nat → Nat) (A : Nat → Prop) (u : kx_U) (t : State) : Prop := va_P D cls_ (wM cI q u.1 u.2) t.heap ∧ va_K D cls_ [(cI, .int)] t ∧ va_D A (wM cI q u.1 u.2)
abbrev M_Qi (D : va_G) (cI : ClassId) (q : Nat → Nat) (A : Nat → Prop) (post : Int32 → (Nat → Int32) → (Nat → Nat → Int32) → Prop) : Array Value → State → Outcome → State → Prop := va_Qi (fun r (u : kx_U) => post r u.1 u.2) (M_at D cI q A) A
abbrev M_Qv (D : va_G) (cI : ClassId) (q : Nat → Nat) (A : Nat → Prop) (post : (Nat → Int32) → (Nat → Nat → Int32) → Prop) : Array Value → State → Outcome → State → Prop := va_Qv (fun (u : kx_U) => post u.1 u.2) (M_at D cI q A) A
abbrev M_Mi (l : Launch) (y : MethodName) (b : ByteArray) (n : Nat) (ret : Option FieldType) (rm : Room) (D : va_G) (cI : ClassId) (q : Nat → Nat) (f : Nat → Int32) (G : Nat → Nat → Int32) (As : List Value) (post : Int32 → (Nat → Int32) → (Nat → Nat → Int32) → Prop) : Prop :=
  ∀ sz : Nat, Met l y (.code y b n ret :: lw_g) rm (va_Pc (.ref (q 0) :: As) (M_pre D cI q f G sz)) (M_Qi D cI q (va_A (wM cI q f G) sz) post) 0 0 (va_A (wM cI q f G) sz)
abbrev M_Mv (l : Launch) (y : MethodName) (b : ByteArray) (n : Nat) (rm : Room) (D : va_G) (cI : ClassId) (q : Nat → Nat) (f : Nat → Int32) (G : Nat → Nat → Int32) (As : List Value) (post : (Nat → Int32) → (Nat → Nat → Int32) → Prop) : Prop :=
  ∀ sz : Nat, Met l y (.code y b n none :: lw_g) rm (va_Pc (.ref (q 0) :: As) (M_pre D cI q f G sz)) (M_Qv D cI q (va_A (wM cI q f G) sz) post) 0 0 (va_A (wM cI q f G) sz)
theorem M_blind (av : List Value) (D : va_G) (cI : ClassId) (q : Nat → Nat) (f : Nat → Int32) (G : Nat → Nat → Int32) (sz : Nat) : FrameBlind (va_Pc av (M_pre D cI q f G sz)) := fun a U g mk h => by
  obtain ⟨q0, q1, qP, qK, qD⟩ := h
  exact ⟨q0, q1, qP, va_K.moved (u := U) (U := U.calling g mk a) (Vm.Alike.refl U.vm) qK, qD⟩
theorem M_ofi {l : Launch} {y : MethodName} {b : ByteArray} {n : Nat} {ret : Option FieldType} {rm : Room} {D : va_G} {cI : ClassId} {q : Nat → Nat} {f : Nat → Int32} {G : Nat → Nat → Int32} {As : List Value} {post : Int32 → (Nat → Int32) → (Nat → Nat → Int32) → Prop}
    (hy : y.cls = R_M) (hlen : (lg_sl (.ref (q 0) :: As)).length ≤ n)
    (body : ∀ (p : Program) (e : Env) (s : State) (m : MethodId) (args : Array Value) (below : List Frame) (meth : Method) (c : Code) (ls : Array Slot) (A : Nat → Prop), kx_E p s m args c b R_M n meth ret A → kx_M D cI A q f G s s.heap [] → lv_has ls n (lv_args 0 (.ref (q 0) :: As)) →
      W p l e rm s m args below meth c s.heap [] 0 0 (MQ below (M_Qi D cI q A post) args s 0 0 A) (F0 m 0 ls [])) : M_Mi l y b n ret rm D cI q f G As post := by
  intro sz
  refine Met.ofW (cc := b) (maxL := n) (ret := ret) (by rw [hy]; decide) rfl ?_
  intro p e s m args below meth c s₁ B hml hv
  obtain ⟨rfl, hsz, hP, hK, hD0⟩ := hv
  have hts := atoms_spec (ws := .code y b n ret :: lw_g) B.pre
  have hown : s.vm.findClass R_M = some m.cls := by rw [← hy]; exact findClass_of_methodNamed B.named
  have hxt := BodyLoose.noHandlers B (hts _ List.mem_cons_self)
  subst hsz
  rw [lg_entry_eq]
  exact body p e s m _ below meth c _ _ ⟨⟨B.exec, B.bytes, hown, fun w h => hts w (List.mem_cons_of_mem _ h)⟩, hml, B.returns, B.notSynchronized, hxt, fun x h => Or.inr h⟩ ⟨hP, hD0.self, va_S.rf, hK⟩ (lv_entry (.ref (q 0) :: As) hlen)
theorem M_ofv {l : Launch} {y : MethodName} {b : ByteArray} {n : Nat} {rm : Room} {D : va_G} {cI : ClassId} {q : Nat → Nat} {f : Nat → Int32} {G : Nat → Nat → Int32} {As : List Value} {post : (Nat → Int32) → (Nat → Nat → Int32) → Prop}
    (hy : y.cls = R_M) (hlen : (lg_sl (.ref (q 0) :: As)).length ≤ n)
    (body : ∀ (p : Program) (e : Env) (s : State) (m : MethodId) (args : Array Value) (below : List Frame) (meth : Method) (c : Code) (ls : Array Slot) (A : Nat → Prop), kx_E p s m args c b R_M n meth none A → kx_M D cI A q f G s s.heap [] → lv_has ls n (lv_args 0 (.ref (q 0) :: As)) →
      W p l e rm s m args below meth c s.heap [] 0 0 (MQ below (M_Qv D cI q A post) args s 0 0 A) (F0 m 0 ls [])) : M_Mv l y b n rm D cI q f G As post := by
  intro sz
  refine Met.ofW (cc := b) (maxL := n) (ret := none) (by rw [hy]; decide) rfl ?_
  intro p e s m args below meth c s₁ B hml hv
  obtain ⟨rfl, hsz, hP, hK, hD0⟩ := hv
  have hts := atoms_spec (ws := .code y b n none :: lw_g) B.pre
  have hown : s.vm.findClass R_M = some m.cls := by rw [← hy]; exact findClass_of_methodNamed B.named
  have hxt := BodyLoose.noHandlers B (hts _ List.mem_cons_self)
  subst hsz
  rw [lg_entry_eq]
  exact body p e s m _ below meth c _ _ ⟨⟨B.exec, B.bytes, hown, fun w h => hts w (List.mem_cons_of_mem _ h)⟩, hml, B.returns, B.notSynchronized, hxt, fun x h => Or.inr h⟩ ⟨hP, hD0.self, va_S.rf, hK⟩ (lv_entry (.ref (q 0) :: As) hlen)
section KCM
variable {p : Program} {l : Launch} {e : Env} {R : Room} {s : State} {m : MethodId} {args : Array Value} {below : List Frame} {meth : Method} {c : Code} {H : Heap} {locs : List Loc} {cells slots : Nat} {Q : State → Prop}
variable {cc : ByteArray} {ls : Array Slot} {rest : List Value} {own : String} {D : va_G} {cI : ClassId} {A : Nat → Prop} {q : Nat → Nat} {f : Nat → Int32} {G : Nat → Nat → Int32} {nL : Nat} {retm : Option FieldType}
theorem M_iret (pc : Nat) (E : kx_E p s m args c cc own nL meth (some .int) A) (w : kx_M D cI A q f G s H locs) {v : Int32} {post : Int32 → (Nat → Int32) → (Nat → Nat → Int32) → Prop} (hdg : decode cc pc = .ok (.ireturn, 1)) (hpost : post v f G) :
    W p l e R s m args below meth c H locs 0 0 (MQ below (M_Qi D cI q A post) args s 0 0 A) (F0 m pc ls [.int v]) :=
  W.iret E.1.1 E.1.2.1 E.2.2.1 (fun t ht hW => ⟨⟨v, (f, G), rfl, hpost, by rw [ht]; exact w.1, va_K.moved hW.alike w.2.2.2, w.2.1⟩, w.2.2.1.F ht⟩) w.2.2.1.2.2 hdg E.2.2.2.1
theorem M_zret (pc : Nat) (E : kx_E p s m args c cc own nL meth (some .boolean) A) (w : kx_M D cI A q f G s H locs) {v : Int32} {post : Int32 → (Nat → Int32) → (Nat → Nat → Int32) → Prop} (hdg : decode cc pc = .ok (.ireturn, 1)) (hn : narrow .boolean (.int v) = .int v) (hpost : post v f G) :
    W p l e R s m args below meth c H locs 0 0 (MQ below (M_Qi D cI q A post) args s 0 0 A) (F0 m pc ls [.int v]) :=
  W.zret E.1.1 E.1.2.1 E.2.2.1 hn (fun t ht hW => ⟨⟨v, (f, G), rfl, hpost, by rw [ht]; exact w.1, va_K.moved hW.alike w.2.2.2, w.2.1⟩, w.2.2.1.F ht⟩) w.2.2.1.2.2 hdg E.2.2.2.1
theorem M_vret (pc : Nat) (E : kx_E p s m args c cc own nL meth none A) (w : kx_M D cI A q f G s H locs) {post : (Nat → Int32) → (Nat → Nat → Int32) → Prop} (hdg : decode cc pc = .ok (.return_, 1)) (hpost : post f G) :
    W p l e R s m args below meth c H locs 0 0 (MQ below (M_Qv D cI q A post) args s 0 0 A) (F0 m pc ls []) :=
  W.vret E.1.1 E.1.2.1 E.2.2.1 (fun t ht hW => ⟨⟨(f, G), rfl, hpost, by rw [ht]; exact w.1, va_K.moved hW.alike w.2.2.2, w.2.1⟩, w.2.2.1.F ht⟩) w.2.2.1.2.2 hdg E.2.2.2.1
theorem M_free (E : kx_E p s m args c cc own nL meth retm A) (w : kx_M D cI A q f G s H locs) : ∀ x, va_A (wM cI q f G) H.size x → A x :=
  va_free (wc := wM cI q f G) w.2.1 w.2.2.1 E.2.2.2.2.2 [0, 1, 2, 3, 4, 5] rfl
theorem M_start (w : kx_M D cI A q f G s H locs) (As : List Value) : PreV s H R_M (q 0) (va_Pc (.ref (q 0) :: As) (M_pre D cI q f G H.size)) As :=
  ⟨M_blind _ D cI q f G H.size, va_recv (ci := 1) w.2.2.2 w.1 rfl (show (wM cI q f G)[0]? = some _ from rfl), fun U hU hW => ⟨rfl, by rw [hU], by rw [hU]; exact w.1, va_K.moved hW.alike w.2.2.2, w.2.1.weaken (fun _ _ _ _ => trivial)⟩⟩
theorem M_ci (pc : Nat) (E : kx_E p s m args c cc R_M nL meth retm A) (w : kx_M D cI A q f G s H locs) {y : MethodName} {b : ByteArray} {n idx na : Nat} {ret : Option FieldType} {rm : Room} {As : List Value} {post : Int32 → (Nat → Int32) → (Nat → Nat → Int32) → Prop} {st0 : List Value}
    (hM : M_Mi l y b n ret rm D cI q f G As post) (cw : CallW R s args R_M R_M idx y b n ret (.code y b n ret :: lw_g) rm 0 0 na) (hls : ls.size = nL) (hn : As.length = na) (hst : st0 = As.reverse ++ .ref (q 0) :: rest) (hW : (rest.map fun v => v.category).sum ≤ 8) (hdg : decode cc pc = .ok (.invokevirtual idx, 3))
    (kk : ∀ (r : Int32) (f' : Nat → Int32) (G' : Nat → Nat → Int32) (H : Heap) (locs : List Loc), post r f' G' → kx_M D cI A q f' G' s H locs → W p l e R s m args below meth c H locs 0 0 Q (F0 m (pc + 3) ls (.int r :: rest))) : W p l e R s m args below meth c H locs 0 0 Q (F0 m pc ls st0) := by
  have hFc := M_free E w
  refine va_calli (va_runV (As := As) (rest := rest) ⟨E.1.1, E.1.2.1, E.2.1, E.1.2.2.1, E.1.2.2.2⟩ (hM H.size) cw (M_start w As) rfl hn hls hst (lv_room hW) hdg ⟨Nat.zero_le _, Nat.zero_le _⟩) w.2.2.1 (fun x _ h => hFc x h) hFc (fun r u t H1 locs1 ht hvm hpost hB hz hk hS => ?_)
  refine kk r u.1 u.2 H1 locs1 hpost ⟨?_, hB.2.2.weaken (fun _ _ _ h => hFc _ h), hS, w.2.2.2⟩
  rw [← ht]; exact hB.1
theorem M_cv (pc : Nat) (E : kx_E p s m args c cc R_M nL meth retm A) (w : kx_M D cI A q f G s H locs) {y : MethodName} {b : ByteArray} {n idx na : Nat} {rm : Room} {As : List Value} {post : (Nat → Int32) → (Nat → Nat → Int32) → Prop} {st0 : List Value}
    (hM : M_Mv l y b n rm D cI q f G As post) (cw : CallW R s args R_M R_M idx y b n none (.code y b n none :: lw_g) rm 0 0 na) (hls : ls.size = nL) (hn : As.length = na) (hst : st0 = As.reverse ++ .ref (q 0) :: rest) (hW : (rest.map fun v => v.category).sum ≤ 8) (hdg : decode cc pc = .ok (.invokevirtual idx, 3))
    (kk : ∀ (f' : Nat → Int32) (G' : Nat → Nat → Int32) (H : Heap) (locs : List Loc), post f' G' → kx_M D cI A q f' G' s H locs → W p l e R s m args below meth c H locs 0 0 Q (F0 m (pc + 3) ls rest)) : W p l e R s m args below meth c H locs 0 0 Q (F0 m pc ls st0) := by
  have hFc := M_free E w
  refine va_callv (va_runV (As := As) (rest := rest) ⟨E.1.1, E.1.2.1, E.2.1, E.1.2.2.1, E.1.2.2.2⟩ (hM H.size) cw (M_start w As) rfl hn hls hst (lv_room hW) hdg ⟨Nat.zero_le _, Nat.zero_le _⟩) w.2.2.1 (fun x _ h => hFc x h) hFc (fun u t H1 locs1 ht hvm hpost hB hz hk hS => ?_)
  refine kk u.1 u.2 H1 locs1 hpost ⟨?_, hB.2.2.weaken (fun _ _ _ h => hFc _ h), hS, w.2.2.2⟩
  rw [← ht]; exact hB.1
end KCM
end
section
/-! pure counting, and the nine levels: no program in sight -/
def wm_ct (P : Nat → Bool) : Nat → Nat
  | 0 => 0
  | n + 1 => wm_ct P n + (P n).toNat
theorem wm_ct_s (P : Nat → Bool) (n : Nat) : wm_ct P (n + 1) = wm_ct P n + (P n).toNat := rfl
theorem wm_ct_t {P : Nat → Bool} {n : Nat} (h : P n = true) : wm_ct P (n + 1) = wm_ct P n + 1 := by rw [wm_ct_s, h]; rfl
theorem wm_ct_f {P : Nat → Bool} {n : Nat} (h : P n = false) : wm_ct P (n + 1) = wm_ct P n := by rw [wm_ct_s, h]; rfl
theorem wm_ct_le (P : Nat → Bool) (n : Nat) : wm_ct P n ≤ n := by
  induction n with
  | zero => exact Nat.le_refl _
  | succ n ih =>
    rw [wm_ct_s]
    cases P n with
    | true => exact Nat.succ_le_succ ih
    | false => exact Nat.le_succ_of_le ih
theorem wm_ct_mono (P : Nat → Bool) {a b : Nat} (h : a ≤ b) : wm_ct P a ≤ wm_ct P b := by
  induction h with
  | refl => exact Nat.le_refl _
  | step _ ih => exact Nat.le_trans ih (Nat.le_add_right _ _)
theorem wm_ct_gap (P : Nat → Bool) {a b : Nat} (h : a ≤ b) : wm_ct P b ≤ wm_ct P a + (b - a) := by
  induction b with
  | zero => have : a = 0 := by omega
            subst this; exact Nat.le_refl _
  | succ n ih =>
    rcases Nat.lt_or_ge a (n + 1) with h1 | h1
    · have h2 := ih (by omega)
      rw [wm_ct_s]
      cases P n with
      | true => show wm_ct P n + 1 ≤ _; omega
      | false => show wm_ct P n + 0 ≤ _; omega
    · have : a = n + 1 := by omega
      subst this; omega
theorem wm_ct_congr {P P' : Nat → Bool} {n : Nat} (h : ∀ j, j < n → P j = P' j) : wm_ct P n = wm_ct P' n := by
  induction n with
  | zero => rfl
  | succ n ih => rw [wm_ct_s, wm_ct_s, ih (fun j hj => h j (by omega)), h n (by omega)]
theorem wm_ct_all {P : Nat → Bool} {n : Nat} (h : ∀ j, j < n → P j = true) : wm_ct P n = n := by
  induction n with
  | zero => rfl
  | succ n ih => rw [wm_ct_t (h n (by omega)), ih (fun j hj => h j (by omega))]
theorem wm_ct_none {P : Nat → Bool} {n : Nat} (h : ∀ j, j < n → P j = false) : wm_ct P n = 0 := by
  induction n with
  | zero => rfl
  | succ n ih => rw [wm_ct_f (h n (by omega)), ih (fun j hj => h j (by omega))]
theorem wm_ct_lt {P : Nat → Bool} {i j : Nat} (h : P i = true) (hij : i < j) : wm_ct P i < wm_ct P j := by
  have h1 := wm_ct_mono P (show i + 1 ≤ j from hij)
  rw [wm_ct_t h] at h1
  omega
theorem wm_ct_split (P P1 P2 : Nat → Bool) (n : Nat) (h : ∀ j, j < n → (P j).toNat = (P1 j).toNat + (P2 j).toNat) : wm_ct P n = wm_ct P1 n + wm_ct P2 n := by
  induction n with
  | zero => rfl
  | succ n ih =>
    have h1 := ih (fun j hj => h j (by omega))
    have h2 := h n (by omega)
    rw [wm_ct_s, wm_ct_s, wm_ct_s]
    omega
theorem wm_ct_at {P : Nat → Bool} {m i : Nat} (h : i < wm_ct P m) : ∃ u, u < m ∧ P u = true ∧ wm_ct P u = i := by
  induction m with
  | zero => exact absurd h (Nat.not_lt_zero i)
  | succ m ih =>
    rcases Nat.lt_or_ge i (wm_ct P m) with h1 | h1
    · obtain ⟨u, h2, h3, h4⟩ := ih h1
      exact ⟨u, by omega, h3, h4⟩
    · cases hp : P m with
      | true =>
        rw [wm_ct_t hp] at h
        exact ⟨m, by omega, hp, by omega⟩
      | false =>
        rw [wm_ct_f hp] at h
        omega
/-- how many of the places a .. b-1 hold a value with p -/
def wm_cn (f : Nat → Nat) (p : Nat → Bool) (a b : Nat) : Nat := wm_ct (fun j => p (f j)) b - wm_ct (fun j => p (f j)) a
theorem wm_cn_self (f : Nat → Nat) (p : Nat → Bool) (a : Nat) : wm_cn f p a a = 0 := Nat.sub_self _
theorem wm_cn_s (f : Nat → Nat) (p : Nat → Bool) {a k : Nat} (h : a ≤ k) : wm_cn f p a (k + 1) = wm_cn f p a k + (p (f k)).toNat := by
  unfold wm_cn
  have h1 := wm_ct_mono (fun j => p (f j)) h
  rw [wm_ct_s]
  omega
theorem wm_cn_t (f : Nat → Nat) {p : Nat → Bool} {a k : Nat} (h : a ≤ k) (hp : p (f k) = true) : wm_cn f p a (k + 1) = wm_cn f p a k + 1 := by rw [wm_cn_s f p h, hp]; rfl
theorem wm_cn_f (f : Nat → Nat) {p : Nat → Bool} {a k : Nat} (h : a ≤ k) (hp : p (f k) = false) : wm_cn f p a (k + 1) = wm_cn f p a k := by rw [wm_cn_s f p h, hp]; rfl
theorem wm_cn_ind {f : Nat → Nat} {a : Nat} {M : Nat → Prop} (h0 : M a) (hs : ∀ k, a ≤ k → M k → M (k + 1)) : ∀ b, a ≤ b → M b := by
  intro b h
  induction h with
  | refl => exact h0
  | step h1 ih => exact hs _ h1 ih
theorem wm_cn_congr {f g : Nat → Nat} {p p' : Nat → Bool} {a b : Nat} (hab : a ≤ b) (h : ∀ j, a ≤ j → j < b → p (f j) = p' (g j)) : wm_cn f p a b = wm_cn g p' a b := by
  induction hab with
  | refl => rw [wm_cn_self, wm_cn_self]
  | step h1 ih =>
    have h1 : a ≤ _ := h1
    rw [wm_cn_s f p h1, wm_cn_s g p' h1, ih (fun j h2 h3 => h j h2 (by omega)), h _ h1 (Nat.lt_succ_self _)]
theorem wm_cn_le (f : Nat → Nat) (p : Nat → Bool) {a b : Nat} (hab : a ≤ b) : wm_cn f p a b ≤ b - a := by
  induction hab with
  | refl => rw [wm_cn_self]; exact Nat.zero_le _
  | @step k h1 ih =>
    have h1 : a ≤ k := h1
    rw [wm_cn_s f p h1]
    have h2 : (p (f k)).toNat ≤ 1 := Bool.toNat_le (p (f k))
    exact Nat.le_trans (Nat.add_le_add ih h2) (by omega)
theorem wm_cn_all (f : Nat → Nat) {a b : Nat} (hab : a ≤ b) : wm_cn f (fun _ => true) a b = b - a := by
  induction hab with
  | refl => rw [wm_cn_self]; omega
  | step h1 ih =>
    have h1 : a ≤ _ := h1
    rw [wm_cn_t f h1 rfl, ih]; omega
theorem wm_cn_split (f : Nat → Nat) {p p1 p2 : Nat → Bool} {a b : Nat} (hab : a ≤ b) (h : ∀ v, (p v).toNat = (p1 v).toNat + (p2 v).toNat) : wm_cn f p a b = wm_cn f p1 a b + wm_cn f p2 a b := by
  induction hab with
  | refl => rw [wm_cn_self, wm_cn_self, wm_cn_self]
  | step h1 ih =>
    have h1 : a ≤ _ := h1
    rw [wm_cn_s f p h1, wm_cn_s f p1 h1, wm_cn_s f p2 h1, ih, h]
    omega
theorem wm_cn_sub (f : Nat → Nat) {p p' : Nat → Bool} {a b : Nat} (hab : a ≤ b) (h : ∀ v, p v = true → p' v = true) : wm_cn f p a b ≤ wm_cn f p' a b := by
  induction hab with
  | refl => rw [wm_cn_self]; exact Nat.zero_le _
  | step h1 ih =>
    have h1 : a ≤ _ := h1
    rw [wm_cn_s f p h1, wm_cn_s f p' h1]
    refine Nat.add_le_add ih ?_
    cases hp : p (f _) with
    | true => rw [h _ hp]; exact Nat.le_refl _
    | false => exact Nat.zero_le _
theorem wm_cn_pos (f : Nat → Nat) {p : Nat → Bool} {a b : Nat} (hab : a ≤ b) (h : 0 < wm_cn f p a b) : ∃ j, a ≤ j ∧ j < b ∧ p (f j) = true := by
  induction hab with
  | refl => rw [wm_cn_self] at h; omega
  | @step k h1 ih =>
    have h1 : a ≤ k := h1
    cases hp : p (f k) with
    | true => exact ⟨k, h1, Nat.lt_succ_self _, hp⟩
    | false =>
      rw [wm_cn_f f h1 hp] at h
      obtain ⟨j, h2, h3, h4⟩ := ih h
      exact ⟨j, h2, Nat.lt_succ_of_lt h3, h4⟩
theorem wm_cn_one (f : Nat → Nat) {p : Nat → Bool} {a b j : Nat} (h1 : a ≤ j) (h2 : j < b) (hp : p (f j) = true) : 0 < wm_cn f p a b := by
  have h3 : wm_ct (fun j => p (f j)) a ≤ wm_ct (fun j => p (f j)) j := wm_ct_mono _ h1
  have h4 : wm_ct (fun j => p (f j)) j < wm_ct (fun j => p (f j)) b := wm_ct_lt (P := fun j => p (f j)) hp h2
  unfold wm_cn
  omega
theorem wm_cn_none (f : Nat → Nat) {p : Nat → Bool} {a b : Nat} (hab : a ≤ b) (h : ∀ v, p v = false) : wm_cn f p a b = 0 := by
  rcases Nat.eq_zero_or_pos (wm_cn f p a b) with h1 | h1
  · exact h1
  · obtain ⟨j, -, -, h2⟩ := wm_cn_pos f hab h1
    rw [h] at h2; cases h2
/-- the bit c of the values -/
def wm_b (f : Nat → Nat) (c : Nat) : Nat → Bool := fun j => (f j).testBit c
/-- where a border goes: to the zeros (t = false), to the ones (t = true) -/
def wm_ps (f : Nat → Nat) (c n : Nat) (t : Bool) (i : Nat) : Nat := if t then (n - wm_ct (wm_b f c) n) + wm_ct (wm_b f c) i else i - wm_ct (wm_b f c) i
theorem wm_ps_1 (f : Nat → Nat) (c n i : Nat) : wm_ps f c n true i = (n - wm_ct (wm_b f c) n) + wm_ct (wm_b f c) i := rfl
theorem wm_ps_0 (f : Nat → Nat) (c n i : Nat) : wm_ps f c n false i = i - wm_ct (wm_b f c) i := rfl
/-- g is f, the zeros of the bit c ahead of the ones -/
def wm_Nx (f : Nat → Nat) (c n : Nat) (g : Nat → Nat) : Prop := ∀ i, i < n → g (wm_ps f c n (wm_b f c i) i) = f i
theorem wm_ps_le {f : Nat → Nat} {c n i : Nat} (t : Bool) (h : i ≤ n) : wm_ps f c n t i ≤ n := by
  have h1 := wm_ct_mono (wm_b f c) h
  have h2 := wm_ct_le (wm_b f c) n
  cases t with
  | true => rw [wm_ps_1]; omega
  | false => rw [wm_ps_0]; omega
theorem wm_ps_mono {f : Nat → Nat} {c n i j : Nat} (t : Bool) (h : i ≤ j) : wm_ps f c n t i ≤ wm_ps f c n t j := by
  have h1 := wm_ct_mono (wm_b f c) h
  have h2 := wm_ct_gap (wm_b f c) h
  have h3 := wm_ct_le (wm_b f c) i
  cases t with
  | true => rw [wm_ps_1, wm_ps_1]; omega
  | false => rw [wm_ps_0, wm_ps_0]; omega
theorem wm_ps_lt {f : Nat → Nat} {c n i j : Nat} (h : i < j) : wm_ps f c n (wm_b f c i) i < wm_ps f c n (wm_b f c i) j := by
  have h0 := wm_ct_le (wm_b f c) i
  have h2 := wm_ct_gap (wm_b f c) (show i + 1 ≤ j from h)
  cases hb : wm_b f c i with
  | true =>
    have h1 := wm_ct_lt hb h
    rw [wm_ps_1, wm_ps_1]; omega
  | false =>
    rw [wm_ct_f hb] at h2
    rw [wm_ps_0, wm_ps_0]; omega
theorem wm_s0 {f g : Nat → Nat} {c n : Nat} (h : wm_Nx f c n g) (p : Nat → Bool) (i : Nat) (hi : i ≤ n) : wm_ct (fun j => p (g j)) (wm_ps f c n false i) = wm_ct (fun j => p (f j) && !(f j).testBit c) i := by
  induction i with
  | zero => rfl
  | succ i ih =>
    have ih := ih (by omega)
    have h0 := wm_ct_le (wm_b f c) i
    have h1 := h i (by omega)
    rw [wm_ps_0] at ih
    rw [wm_ps_0]
    cases hb : wm_b f c i with
    | true =>
      have hb' : (f i).testBit c = true := hb
      rw [wm_ct_t hb, wm_ct_f (show (p (f i) && !(f i).testBit c) = false by rw [hb']; simp), ← ih]
      congr 1; omega
    | false =>
      have hb' : (f i).testBit c = false := hb
      rw [hb, wm_ps_0] at h1
      rw [wm_ct_f hb, show i + 1 - wm_ct (wm_b f c) i = (i - wm_ct (wm_b f c) i) + 1 by omega, wm_ct_s, wm_ct_s, ih, h1, hb']
      simp
theorem wm_s1 {f g : Nat → Nat} {c n : Nat} (h : wm_Nx f c n g) (p : Nat → Bool) (i : Nat) (hi : i ≤ n) : wm_ct (fun j => p (g j)) (wm_ps f c n true i) = wm_ct (fun j => p (g j)) (n - wm_ct (wm_b f c) n) + wm_ct (fun j => p (f j) && (f j).testBit c) i := by
  induction i with
  | zero => rfl
  | succ i ih =>
    have ih := ih (by omega)
    have h1 := h i (by omega)
    rw [wm_ps_1] at ih
    rw [wm_ps_1]
    cases hb : wm_b f c i with
    | true =>
      have hb' : (f i).testBit c = true := hb
      rw [hb, wm_ps_1] at h1
      rw [wm_ct_t hb, ← Nat.add_assoc, wm_ct_s (fun j => p (g j)), wm_ct_s (fun j => p (f j) && (f j).testBit c), ih, h1, hb', Bool.and_true]
      omega
    | false =>
      have hb' : (f i).testBit c = false := hb
      rw [wm_ct_f hb, ih, wm_ct_f (show (p (f i) && (f i).testBit c) = false by rw [hb']; simp)]
/-- THE STEP: what stands in a part's image is what stands in the part, with that bit -/
theorem wm_sc {f g : Nat → Nat} {c n : Nat} (h : wm_Nx f c n g) (p : Nat → Bool) (t : Bool) {a b : Nat} (hab : a ≤ b) (hb : b ≤ n) : wm_cn g p (wm_ps f c n t a) (wm_ps f c n t b) = wm_cn f (fun v => p v && (v.testBit c == t)) a b := by
  unfold wm_cn
  cases t with
  | true =>
    rw [wm_s1 h p a (by omega), wm_s1 h p b hb]
    rw [wm_ct_congr (P := fun j => p (f j) && ((f j).testBit c == true)) (P' := fun j => p (f j) && (f j).testBit c) (n := b) (fun j _ => by cases (f j).testBit c <;> simp), wm_ct_congr (P := fun j => p (f j) && ((f j).testBit c == true)) (P' := fun j => p (f j) && (f j).testBit c) (n := a) (fun j _ => by cases (f j).testBit c <;> simp)]
    omega
  | false =>
    rw [wm_s0 h p a (by omega), wm_s0 h p b hb]
    rw [wm_ct_congr (P := fun j => p (f j) && ((f j).testBit c == false)) (P' := fun j => p (f j) && !(f j).testBit c) (n := b) (fun j _ => by cases (f j).testBit c <;> simp), wm_ct_congr (P := fun j => p (f j) && ((f j).testBit c == false)) (P' := fun j => p (f j) && !(f j).testBit c) (n := a) (fun j _ => by cases (f j).testBit c <;> simp)]
theorem wm_bits {x y k : Nat} : x / 2 ^ k = y / 2 ^ k ↔ x / 2 ^ (k + 1) = y / 2 ^ (k + 1) ∧ x.testBit k = y.testBit k := by
  rw [Nat.testBit_eq_decide_div_mod_eq, Nat.testBit_eq_decide_div_mod_eq, Nat.pow_succ, ← Nat.div_div_eq_div_mul, ← Nat.div_div_eq_div_mul, decide_eq_decide]
  omega
theorem wm_tb (x k : Nat) : x / 2 ^ k % 2 = (x.testBit k).toNat := by
  rw [Nat.testBit_eq_decide_div_mod_eq]
  rcases Nat.mod_two_eq_zero_or_one (x / 2 ^ k) with h | h <;> simp [h]
theorem wm_div (x k : Nat) : x / 2 ^ k = 2 * (x / 2 ^ (k + 1)) + (x.testBit k).toNat := by
  rw [← wm_tb, Nat.pow_succ, ← Nat.div_div_eq_div_mul]
  omega
end
section
/-! how many bits of a word are 1, and that the masks count them -/
theorem wm_ct_add (P : Nat → Bool) (a b : Nat) : wm_ct P (a + b) = wm_ct P a + wm_ct (fun j => P (a + j)) b := by
  induction b with
  | zero => rfl
  | succ b ih => rw [← Nat.add_assoc, wm_ct_s, ih, wm_ct_s, Nat.add_assoc]
def pc_n (n k : Nat) : Nat := wm_ct (fun i => n.testBit i) k
theorem pc_and {x0 m0 : Nat} (X M : Nat) (hx : x0 < 256) (hm : m0 < 256) : (x0 + 256 * X) &&& (m0 + 256 * M) = (x0 &&& m0) + 256 * (X &&& M) := by
  have h8 : (256 : Nat) = 2 ^ 8 := rfl
  have h1 : x0 &&& m0 < 2 ^ 8 := Nat.lt_of_le_of_lt Nat.and_le_left hx
  rw [Nat.add_comm x0, Nat.add_comm m0, Nat.add_comm (x0 &&& m0), h8]
  apply Nat.eq_of_testBit_eq
  intro j
  rw [Nat.testBit_and, Nat.testBit_two_pow_mul_add X hx, Nat.testBit_two_pow_mul_add M hm, Nat.testBit_two_pow_mul_add (X &&& M) h1]
  split
  · rw [Nat.testBit_and]
  · rw [Nat.testBit_and]
theorem pc_and4 {x0 x1 x2 x3 m0 m1 m2 m3 : Nat} (h0 : x0 < 256) (h1 : x1 < 256) (h2 : x2 < 256) (k0 : m0 < 256) (k1 : m1 < 256) (k2 : m2 < 256) :
    (x0 + 256 * x1 + 65536 * x2 + 16777216 * x3) &&& (m0 + 256 * m1 + 65536 * m2 + 16777216 * m3) = (x0 &&& m0) + 256 * (x1 &&& m1) + 65536 * (x2 &&& m2) + 16777216 * (x3 &&& m3) := by
  have e1 : x0 + 256 * x1 + 65536 * x2 + 16777216 * x3 = x0 + 256 * (x1 + 256 * (x2 + 256 * x3)) := by omega
  have e2 : m0 + 256 * m1 + 65536 * m2 + 16777216 * m3 = m0 + 256 * (m1 + 256 * (m2 + 256 * m3)) := by omega
  rw [e1, e2, pc_and _ _ h0 k0, pc_and _ _ h1 k1, pc_and _ _ h2 k2]
  omega
def pc_1 (a : Nat) : Nat := a - (a / 2 &&& 85)
def pc_2 (a : Nat) : Nat := (pc_1 a &&& 51) + (pc_1 a / 4 &&& 51)
def pc_3 (a : Nat) : Nat := (pc_2 a + pc_2 a / 16) &&& 15
theorem pc_d1 : ∀ a, a < 256 → ∀ d, d < 2 → (a / 2 + 128 * d) &&& 85 = a / 2 &&& 85 := by decide +kernel
theorem pc_d1' : ∀ a, a < 256 → (a / 2 &&& 85) ≤ a := by decide +kernel
theorem pc_d2 : ∀ a, a < 256 → ∀ d, d < 4 → (pc_1 a / 4 + 64 * d) &&& 51 = pc_1 a / 4 &&& 51 := by decide +kernel
theorem pc_d3 : ∀ a, a < 256 → ∀ d, d < 5 → (pc_2 a + pc_2 a / 16 + 16 * d) &&& 15 = pc_3 a := by decide +kernel
theorem pc_b1 : ∀ a, a < 256 → pc_1 a < 256 := by decide +kernel
theorem pc_b2 : ∀ a, a < 256 → pc_2 a ≤ 68 ∧ pc_2 a % 16 ≤ 4 ∧ pc_2 a / 16 ≤ 4 := by decide +kernel
theorem pc_b3 : ∀ a, a < 256 → pc_3 a ≤ 8 ∧ pc_3 a = pc_n a 8 := by decide +kernel
/-- what the method 'bits' computes -/
def pc_m (n : Nat) : Nat :=
  let x1 := n - (n / 2 ^ 1 &&& 1431655765)
  let x2 := (x1 &&& 858993459) + (x1 / 2 ^ 2 &&& 858993459)
  let x3 := (x2 + x2 / 2 ^ 4) &&& 252645135
  x3 * 16843009 % 2 ^ 32 / 2 ^ 24
theorem pc_split (n : Nat) (h : n < 2 ^ 32) : ∃ a0 a1 a2 a3 : Nat, a0 < 256 ∧ a1 < 256 ∧ a2 < 256 ∧ a3 < 256 ∧ n = a0 + 256 * a1 + 65536 * a2 + 16777216 * a3 :=
  ⟨n % 256, n / 256 % 256, n / 65536 % 256, n / 16777216, by omega, by omega, by omega, by omega, by omega⟩
theorem pc_n4 {a0 a1 a2 a3 : Nat} (h0 : a0 < 256) (h1 : a1 < 256) (h2 : a2 < 256) : pc_n (a0 + 256 * a1 + 65536 * a2 + 16777216 * a3) 32 = pc_n a0 8 + pc_n a1 8 + pc_n a2 8 + pc_n a3 8 := by
  have e1 : a0 + 256 * a1 + 65536 * a2 + 16777216 * a3 = 2 ^ 8 * (2 ^ 8 * (2 ^ 8 * a3 + a2) + a1) + a0 := by omega
  rw [e1]
  unfold pc_n
  have g0 : ∀ j, (2 ^ 8 * (2 ^ 8 * (2 ^ 8 * a3 + a2) + a1) + a0).testBit (8 + j) = (2 ^ 8 * (2 ^ 8 * a3 + a2) + a1).testBit j := fun j => by
    rw [Nat.testBit_two_pow_mul_add _ h0, if_neg (by omega)]; congr 1; omega
  have g1 : ∀ j, (2 ^ 8 * (2 ^ 8 * a3 + a2) + a1).testBit (8 + j) = (2 ^ 8 * a3 + a2).testBit j := fun j => by
    rw [Nat.testBit_two_pow_mul_add _ h1, if_neg (by omega)]; congr 1; omega
  have g2 : ∀ j, (2 ^ 8 * a3 + a2).testBit (8 + j) = a3.testBit j := fun j => by
    rw [Nat.testBit_two_pow_mul_add _ h2, if_neg (by omega)]; congr 1; omega
  have f0 : ∀ j, j < 8 → (2 ^ 8 * (2 ^ 8 * (2 ^ 8 * a3 + a2) + a1) + a0).testBit j = a0.testBit j := fun j hj => by
    rw [Nat.testBit_two_pow_mul_add _ h0, if_pos hj]
  have f1 : ∀ j, j < 8 → (2 ^ 8 * (2 ^ 8 * a3 + a2) + a1).testBit j = a1.testBit j := fun j hj => by
    rw [Nat.testBit_two_pow_mul_add _ h1, if_pos hj]
  have f2 : ∀ j, j < 8 → (2 ^ 8 * a3 + a2).testBit j = a2.testBit j := fun j hj => by
    rw [Nat.testBit_two_pow_mul_add _ h2, if_pos hj]
  rw [show (32 : Nat) = 8 + 24 from rfl, wm_ct_add, wm_ct_congr (P' := fun i => a0.testBit i) f0, wm_ct_congr (P' := fun i => (2 ^ 8 * (2 ^ 8 * a3 + a2) + a1).testBit i) (n := 24) (fun j _ => g0 j)]
  rw [show (24 : Nat) = 8 + 16 from rfl, wm_ct_add, wm_ct_congr (P' := fun i => a1.testBit i) f1, wm_ct_congr (P' := fun i => (2 ^ 8 * a3 + a2).testBit i) (n := 16) (fun j _ => g1 j)]
  rw [show (16 : Nat) = 8 + 8 from rfl, wm_ct_add, wm_ct_congr (P' := fun i => a2.testBit i) f2, wm_ct_congr (P' := fun i => a3.testBit i) (n := 8) (fun j _ => g2 j)]
  omega
theorem pc_ok (n : Nat) (h : n < 2 ^ 32) : pc_m n = pc_n n 32 := by
  obtain ⟨a0, a1, a2, a3, h0, h1, h2, h3, rfl⟩ := pc_split n h
  rw [pc_n4 h0 h1 h2]
  have y1 : (a0 + 256 * a1 + 65536 * a2 + 16777216 * a3) / 2 ^ 1 &&& 1431655765 = (a0 / 2 &&& 85) + 256 * (a1 / 2 &&& 85) + 65536 * (a2 / 2 &&& 85) + 16777216 * (a3 / 2 &&& 85) := by
    have e : (a0 + 256 * a1 + 65536 * a2 + 16777216 * a3) / 2 ^ 1 = (a0 / 2 + 128 * (a1 % 2)) + 256 * (a1 / 2 + 128 * (a2 % 2)) + 65536 * (a2 / 2 + 128 * (a3 % 2)) + 16777216 * (a3 / 2) := by omega
    rw [e, show (1431655765 : Nat) = 85 + 256 * 85 + 65536 * 85 + 16777216 * 85 from rfl, pc_and4 (by omega) (by omega) (by omega) (by omega) (by omega) (by omega),
      pc_d1 a0 h0 _ (by omega), pc_d1 a1 h1 _ (by omega), pc_d1 a2 h2 _ (by omega)]
  have x1 : (a0 + 256 * a1 + 65536 * a2 + 16777216 * a3) - ((a0 + 256 * a1 + 65536 * a2 + 16777216 * a3) / 2 ^ 1 &&& 1431655765) = pc_1 a0 + 256 * pc_1 a1 + 65536 * pc_1 a2 + 16777216 * pc_1 a3 := by
    rw [y1]
    have l0 := pc_d1' a0 h0
    have l1 := pc_d1' a1 h1
    have l2 := pc_d1' a2 h2
    have l3 := pc_d1' a3 h3
    unfold pc_1
    omega
  have b0 := pc_b1 a0 h0
  have b1 := pc_b1 a1 h1
  have b2 := pc_b1 a2 h2
  have b3 := pc_b1 a3 h3
  have x2 : (pc_1 a0 + 256 * pc_1 a1 + 65536 * pc_1 a2 + 16777216 * pc_1 a3 &&& 858993459) + ((pc_1 a0 + 256 * pc_1 a1 + 65536 * pc_1 a2 + 16777216 * pc_1 a3) / 2 ^ 2 &&& 858993459) = pc_2 a0 + 256 * pc_2 a1 + 65536 * pc_2 a2 + 16777216 * pc_2 a3 := by
    have e : (pc_1 a0 + 256 * pc_1 a1 + 65536 * pc_1 a2 + 16777216 * pc_1 a3) / 2 ^ 2 = (pc_1 a0 / 4 + 64 * (pc_1 a1 % 4)) + 256 * (pc_1 a1 / 4 + 64 * (pc_1 a2 % 4)) + 65536 * (pc_1 a2 / 4 + 64 * (pc_1 a3 % 4)) + 16777216 * (pc_1 a3 / 4) := by omega
    rw [e, show (858993459 : Nat) = 51 + 256 * 51 + 65536 * 51 + 16777216 * 51 from rfl, pc_and4 b0 b1 b2 (by omega) (by omega) (by omega), pc_and4 (by omega) (by omega) (by omega) (by omega) (by omega) (by omega),
      pc_d2 a0 h0 _ (by omega), pc_d2 a1 h1 _ (by omega), pc_d2 a2 h2 _ (by omega)]
    unfold pc_2
    omega
  obtain ⟨c0, c0', c0''⟩ := pc_b2 a0 h0
  obtain ⟨c1, c1', c1''⟩ := pc_b2 a1 h1
  obtain ⟨c2, c2', c2''⟩ := pc_b2 a2 h2
  obtain ⟨c3, c3', c3''⟩ := pc_b2 a3 h3
  have x3 : (pc_2 a0 + 256 * pc_2 a1 + 65536 * pc_2 a2 + 16777216 * pc_2 a3 + (pc_2 a0 + 256 * pc_2 a1 + 65536 * pc_2 a2 + 16777216 * pc_2 a3) / 2 ^ 4) &&& 252645135 = pc_3 a0 + 256 * pc_3 a1 + 65536 * pc_3 a2 + 16777216 * pc_3 a3 := by
    have e : pc_2 a0 + 256 * pc_2 a1 + 65536 * pc_2 a2 + 16777216 * pc_2 a3 + (pc_2 a0 + 256 * pc_2 a1 + 65536 * pc_2 a2 + 16777216 * pc_2 a3) / 2 ^ 4 = (pc_2 a0 + pc_2 a0 / 16 + 16 * (pc_2 a1 % 16)) + 256 * (pc_2 a1 + pc_2 a1 / 16 + 16 * (pc_2 a2 % 16)) + 65536 * (pc_2 a2 + pc_2 a2 / 16 + 16 * (pc_2 a3 % 16)) + 16777216 * (pc_2 a3 + pc_2 a3 / 16 + 16 * 0) := by omega
    rw [e, show (252645135 : Nat) = 15 + 256 * 15 + 65536 * 15 + 16777216 * 15 from rfl, pc_and4 (by omega) (by omega) (by omega) (by omega) (by omega) (by omega),
      pc_d3 a0 h0 _ (by omega), pc_d3 a1 h1 _ (by omega), pc_d3 a2 h2 _ (by omega), pc_d3 a3 h3 _ (by omega)]
  obtain ⟨d0, d0'⟩ := pc_b3 a0 h0
  obtain ⟨d1, d1'⟩ := pc_b3 a1 h1
  obtain ⟨d2, d2'⟩ := pc_b3 a2 h2
  obtain ⟨d3, d3'⟩ := pc_b3 a3 h3
  unfold pc_m
  simp only [x1, x2, x3]
  rw [← d0', ← d1', ← d2', ← d3']
  clear x1 x2 x3 y1 d0' d1' d2' d3' b0 b1 b2 b3 c0 c0' c0'' c1 c1' c1'' c2 c2' c2'' c3 c3' c3''
  generalize pc_3 a0 = u0 at *
  generalize pc_3 a1 = u1 at *
  generalize pc_3 a2 = u2 at *
  generalize pc_3 a3 = u3 at *
  have e : (u0 + 256 * u1 + 65536 * u2 + 16777216 * u3) * 16843009 = ((u0 + u1 + u2 + u3) * 16777216 + (u0 * 65793 + u1 * 65792 + u2 * 65536)) + 2 ^ 32 * (u1 + u2 * 257 + u3 * 65793) := by omega
  rw [e, Nat.add_mul_mod_self_left, Nat.mod_eq_of_lt (by omega)]
  omega
theorem pc_le (n k : Nat) : pc_n n k ≤ k := wm_ct_le _ k
/-- the lowest r bits, moved to the top of a word -/
theorem pc_top {n r : Nat} (hr : r ≤ 32) : pc_n (n * 2 ^ (32 - r) % 2 ^ 32) 32 = pc_n n r := by
  unfold pc_n
  have h := wm_ct_add (fun i => (n * 2 ^ (32 - r) % 2 ^ 32).testBit i) (32 - r) r
  rw [show 32 - r + r = 32 by omega] at h
  rw [h]
  rw [wm_ct_none (n := 32 - r) (fun j hj => by
    rw [Nat.testBit_mod_two_pow, Nat.testBit_mul_two_pow]
    simp [Nat.not_le.mpr hj])]
  rw [Nat.zero_add]
  refine wm_ct_congr (fun j hj => ?_)
  rw [Nat.testBit_mod_two_pow, Nat.testBit_mul_two_pow]
  have h1 : 32 - r + j < 32 := by omega
  have h2 : 32 - r ≤ 32 - r + j := by omega
  simp [h1]
theorem nI_mod (n : Nat) : nI (n % 2 ^ 32) = nI n := by
  apply Int32.toBitVec_inj.1
  show BitVec.ofNat 32 (n % 2 ^ 32) = BitVec.ofNat 32 n
  apply BitVec.eq_of_toNat_eq
  simp
end
section
/-! exceptions: contracts of methods that throw, 'throw new', a throw that leaves a method -/
def kt_face : Cond → Bool
  | .declares _ => true
  | .castable .. => true
  | _ => false
def lw_b : List Cond := lw_tbl.filter kt_face
/-- a word on the tables alone, under warmer tables -/
theorem kt_face_moved {w : Cond} (hw : kt_face w = true) {a a' : Array Value} {s U : State} (hvm : s.vm.Alike U.vm) (h : w.before a s = true) : w.before a' U = true := by
  have h1 : w.onTables = true := by cases w <;> first | rfl | (simp [kt_face] at hw)
  have h2 : w.faceAtom = true := by cases w <;> first | rfl | (simp [kt_face] at hw)
  have e1 : w.before a' (U.setVm U.vm) = w.before a (s.setVm U.vm) := Cond.onTables_vm U.vm w h1
  have e2 : w.before a (s.setVm U.vm) = true := Cond.faceAtom_setVm hvm w h2 h
  have e3 : U.setVm U.vm = U := rfl
  rw [e3] at e1
  rw [e1]; exact e2
/-- a static field that holds a reference: all that the constructor of Throwable asks of it -/
def kt_z (C n d : String) (U : State) (H : Heap) : Prop :=
  ∃ (c : ClassId) (k : Class) (i : Nat) (f : Field) (a : Nat) (cell : Cell) (v : Value), U.vm.findClass C = some c ∧ U.fieldFound? C n d = some (c, k, i, f) ∧ f.isStatic = true ∧ k.statics = some a ∧ H[a]? = some cell ∧
    cell.vm.isStatics = true ∧ cell.cls = c ∧ f.slot < cell.slots.size ∧ k.staticTypes[f.slot]? = some f.type ∧ cell.slots[f.slot]? = some v ∧ v.isRef = true
theorem kt_z.of {C n d : String} {args : Array Value} {s : State} (hl : (Cond.laysStatic C n d).before args s = true) (hr : (Cond.isRef (.static C n d)).before args s = true) : kt_z C n d s s.heap := by
  obtain ⟨c, k, i, f, a, cell, hc, hi, hst, ha, hcell, hs, hcls, hlt, hty⟩ := Cond.laysStatic_spec hl
  have hv : ∃ v, (Term.static C n d).eval args s none [] s = some v ∧ v.isRef = true := by
    simp only [Cond.before, Cond.holds, Cond.value] at hr
    cases hv : (Term.static C n d).eval args s none [] s with
    | none => simp [hv] at hr
    | some v => exact ⟨v, rfl, by rw [hv] at hr; cases v <;> first | rfl | (simp at hr)⟩
  obtain ⟨v, hv, hvr⟩ := hv
  obtain ⟨hst', a', cell', ha', hcell', -, hslot⟩ := Term.static_spec hi hv
  cases ha.symm.trans ha'
  cases hcell.symm.trans hcell'
  exact ⟨c, k, i, f, a, cell, v, hc, hi, hst, ha, hcell, hs, hcls, hlt, hty, hslot, hvr⟩
theorem kt_z.moved {C n d : String} {u U : State} {H : Heap} (hvm : u.vm.Alike U.vm) (h : kt_z C n d u H) : kt_z C n d U H := by
  obtain ⟨c, k, i, f, a, cell, v, h1, h2, h3, h4, h5, h6, h7, h8, h9, h10⟩ := h
  obtain ⟨k', hi', he⟩ := State.fieldFound?_setVm hvm h2
  exact ⟨c, k', i, f, a, cell, v, (hvm.findClass C _).trans h1, hi', h3, by rw [he]; exact h4, h5, h6, h7, h8, by rw [he]; exact h9, h10⟩
theorem kt_z.kept {C n d : String} {U : State} {H H1 : Heap} {A : Nat → Prop} (h : kt_z C n d U H) (hns : ∀ x : Nat, A x → ∀ cell, H[x]? = some cell → cell.vm.isStatics = false) (hq : ∀ x : Nat, x < H.size → ¬ A x → H1[x]? = H[x]?) : kt_z C n d U H1 := by
  obtain ⟨c, k, i, f, a, cell, v, h1, h2, h3, h4, h5, h6, h7⟩ := h
  have hA : ¬ A a := fun ha => by
    have := hns a ha cell h5
    rw [h6] at this; cases this
  exact ⟨c, k, i, f, a, cell, v, h1, h2, h3, h4, by rw [hq a (Array.getElem?_eq_some_iff.mp h5).1 hA]; exact h5, h6, h7⟩
theorem kt_z.lays {C n d : String} {s : State} (args : Array Value) (h : kt_z C n d s s.heap) : (Cond.laysStatic C n d).before args s = true := by
  obtain ⟨c, k, i, f, a, cell, v, h1, h2, h3, h4, h5, h6, h7, h8, h9, h10, h11⟩ := h
  simp [Cond.before, Cond.holds, Cond.value, h1, h2, h3, h4, h5, h6, h7, h8, h9]
theorem kt_z.isref {C n d : String} {s : State} (args : Array Value) (h : kt_z C n d s s.heap) : (Cond.isRef (.static C n d)).before args s = true := by
  obtain ⟨c, k, i, f, a, cell, v, h1, h2, h3, h4, h5, h6, h7, h8, h9, h10, h11⟩ := h
  simp [Cond.before, Cond.holds, Cond.value, Term.eval, State.fieldNamed?, h1, h2, h3, h4, h5, h6, h10]
  cases v <;> first | rfl | (simp [Value.isRef] at h11)
/-- what a throw asks of the state -/
def kt_X (U : State) (H : Heap) : Prop := kt_z Bundle.tN "UNASSIGNED_STACK" Bundle.steD U H ∧ kt_z Bundle.tN "SUPPRESSED_SENTINEL" Bundle.listD U H ∧ ∀ w ∈ lw_b, w.before #[] U = true
theorem kt_X.moved {u U : State} {H : Heap} (hvm : u.vm.Alike U.vm) (h : kt_X u H) : kt_X U H := ⟨h.1.moved hvm, h.2.1.moved hvm, fun w hw => kt_face_moved (List.mem_filter.mp hw).2 hvm (h.2.2 w hw)⟩
theorem kt_X.kept {U : State} {H H1 : Heap} {A : Nat → Prop} (h : kt_X U H) (hns : ∀ x : Nat, A x → ∀ cell, H[x]? = some cell → cell.vm.isStatics = false) (hq : ∀ x : Nat, x < H.size → ¬ A x → H1[x]? = H[x]?) : kt_X U H1 := ⟨h.1.kept hns hq, h.2.1.kept hns hq, h.2.2⟩
/-- the atoms of a 'throw new X()' in the tree's methods -/
abbrev kt_names : List String := ["java/lang/RuntimeException", "java/lang/Exception"]
def kt_okw (w : Cond) : Bool := (decide (w ∈ lw_tbl) && (goodWord w || kt_face w)) || decide (w = .laysStatic Bundle.tN "UNASSIGNED_STACK" Bundle.steD) || decide (w = .laysStatic Bundle.tN "SUPPRESSED_SENTINEL" Bundle.listD) || decide (w = .isRef (.static Bundle.tN "UNASSIGNED_STACK" Bundle.steD)) || decide (w = .isRef (.static Bundle.tN "SUPPRESSED_SENTINEL" Bundle.listD))
abbrev R_IAE : String := "java/lang/IllegalArgumentException"
abbrev R_NSE : String := "java/util/NoSuchElementException"
set_option maxRecDepth 100000 in
theorem kt_iae : (Bundle.ownAtoms0 R_T 43 R_IAE kt_names).all kt_okw = true := by decide +kernel
set_option maxRecDepth 100000 in
theorem kt_nse : (Bundle.ownAtoms0 R_T 64 R_NSE kt_names).all kt_okw = true := by decide +kernel
theorem kt_atoms {ws : List Cond} {args : Array Value} {s : State} (h : ws.all kt_okw = true) (ht : ∀ w ∈ lw_g, w.before args s = true) (hX : kt_X s s.heap) : ∀ w ∈ ws, w.before args s = true := by
  intro w hw
  have h1 := List.all_eq_true.mp h w hw
  simp only [kt_okw, Bool.or_eq_true, Bool.and_eq_true, decide_eq_true_eq] at h1
  rcases h1 with (((⟨h1, h2 | h2⟩ | h1) | h1) | h1) | h1
  · exact ht w (List.mem_filter.mpr ⟨h1, h2⟩)
  · exact kt_face_moved h2 (Vm.Alike.refl s.vm) (hX.2.2 w (List.mem_filter.mpr ⟨h1, h2⟩))
  · rw [h1]; exact hX.1.lays args
  · rw [h1]; exact hX.2.1.lays args
  · rw [h1]; exact hX.1.isref args
  · rw [h1]; exact hX.2.1.isref args
end
section
/-! 'throw new X()' and contracts of methods that throw -/
def kt_End (first : State) (o : Outcome) (t : State) (L : List Loc) (k n : Nat) : Prop :=
  (∃ x, o = .threw x) ∧ first.WarmedH t.vm ∧ first.sameButNew ({ t with vm := first.vm } : State) L k n
def MetT (l : Launch) (y : MethodName) (ws : List Cond) (rm : Room) (Pc : Array Value → State → Prop) (Qc : Array Value → State → Outcome → State → Prop) (mc ms : Nat) (free : Addr → Prop) : Prop :=
  MetFree l y (headSpec ws rm) Pc (fun _ _ _ _ _ => True) (fun a st o t => Qc a st o t ∧ ∃ L, kt_End st o t L mc ms ∧ ∀ q ∈ L, free q.base)
def MQT (below : List Frame) (Qc : Array Value → State → Outcome → State → Prop) (a : Array Value) (s : State) (mc ms : Nat) (free : Addr → Prop) : State → Prop := fun t =>
  ∃ o, t.status = .running ∧ Ended t below o ∧ Qc a s o t ∧ ∃ L, kt_End s o t L mc ms ∧ ∀ q ∈ L, free q.base
theorem MetT.ofW {l : Launch} {y : MethodName} {ws ws' : List Cond} {rm : Room} {Pc : Array Value → State → Prop} {Qc : Array Value → State → Outcome → State → Prop} {mc ms : Nat} {free : Addr → Prop} {cc : ByteArray} {maxL : Nat} {ret : Option FieldType}
    (hy : plainName y.cls = true) (hw : ws = Cond.code y cc maxL ret :: ws')
    (body : ∀ p e s m args below meth c s₁, BodyLoose p l y (headSpec ws rm) cc maxL ret e s m args below meth c s₁ → c.maxLocals = maxL → Pc args s →
      W p l e (headSpec ws rm).room s m args below meth c s.heap [] 0 0 (MQT below Qc args s mc ms free) (entryFrame m args maxL)) : MetT l y ws rm Pc Qc mc ms free := by
  refine MetFree.of_bodyS (code := cc) (maxLocals := maxL) (ret := ret) hy ?_ ?_
  · intro args s m h hn
    obtain ⟨meth, c, h1, h2, h3, h4, h5, h6, -, -⟩ := Cond.code_spec hn (atoms_spec (ws := ws) h _ (by rw [hw]; exact List.mem_cons_self))
    exact ⟨meth, c, h1, h2, h3, h4, h5, h6⟩
  · intro p e s m args below meth c s₁ B hml hP _
    have hh0 : s₁.heap = s.heap := by rw [B.state]; rfl
    obtain ⟨t, a1, o, b1, b2, b3⟩ := body p e s m args below meth c s₁ B hml hP s₁ hh0 (Stand.of_body B)
    exact ⟨t, o, a1, b1, b2, ⟨b3.1, b3.2⟩⟩
/-- an object of the class X at x -/
def kt_is (X : String) (x : Nat) (t : State) : Prop := ∃ cell : Cell, t.heap[x]? = some cell ∧ cell.vm.isStatics = false ∧ t.vm.findClass X = some cell.cls
/-- it threw a new X; 'post u' and the world B u behind it -/
def va_Qt {S : Type} (X : String) (post : S → Prop) (B : S → State → Prop) (A : Nat → Prop) : Array Value → State → Outcome → State → Prop := fun _ st oc t =>
  (∃ (x : Nat) (u : S), oc = .threw x ∧ kt_is X x t ∧ post u ∧ B u t) ∧ va_F A st t
section KT
variable {p : Program} {l : Launch} {e : Env} {R : Room} {s : State} {m : MethodId} {args : Array Value} {below : List Frame} {meth : Method} {c : Code} {H : Heap} {locs : List Loc} {cells slots : Nat} {Q : State → Prop}
variable {cc : ByteArray} {ls : Array Slot} {rest : List Value} {own : String}
set_option maxHeartbeats 4000000 in
theorem kt_ctor {pc : Nat} (C : kx_C p s m args c cc own) (hfl : l.flags = flags0) {X : String} {names : List String} {ic : Nat} (hcls : Bundle.fit X = true) (hnames : ∀ n ∈ names, Bundle.fit n = true)
    (h : ∀ a ∈ Bundle.ownAtoms0 own ic X names, a.before args s = true) (hls : ls.size = c.maxLocals)
    (hlocs : ∀ x ∈ locs, ∀ cell, s.heap[x.base]? = some cell → cell.vm.isStatics = false)
    {a : Addr} {cX : ClassId} {kX : Class} (hfoundX : s.vm.findClass X = some cX) (hkX : s.vm.classes[cX]? = some kX) (hcell : H[a]? = some (freshCell cX kX)) (hnew : s.heap.size ≤ a)
    (hd : decode cc pc = .ok (.invokespecial ic, 3)) (hRframes : names.length + 3 < R.frames) (hRlocals : (rest.map fun v => v.category).sum + (13 * (names.length + 1) + 41) ≤ R.locals)
    (kk : ∀ (ce : Cell) (L : List Loc), ce.cls = cX → ce.vm = .none → (∀ z ∈ L, z.base = a) → W p l e R s m args below meth c (H.setIfInBounds a ce) (locs ++ L) cells slots Q (F0 m (pc + 3) ls rest)) :
    W p l e R s m args below meth c H locs cells slots Q (F0 m pc ls (.ref a :: rest)) := by
  intro V hV Y0
  obtain ⟨hexec, hb, hown, -⟩ := C
  subst hb
  have htr : e.platform.stackTraces = false := Launch.traces_off hfl Y0.admits
  have howns : e.platform.frameOwnsMonitors = true := by rw [Y0.admits.platform]
  have hfin : e.platform.finalization = false := by rw [Y0.admits.platform]
  have hpl : e.platform.magicAccessors = ({} : Platform).magicAccessors := by rw [Y0.admits.platform]
  have at_ : ∀ x, x ∈ Bundle.ownAtoms0 own ic X names → x.holds args s none s [] = true := fun x hx => h x hx
  obtain ⟨T, Z, L, LZ, Y⟩ := ThrowableC.of_atoms (args := args) howns hfin hpl (fun x hx => h x (by simp [Bundle.ownAtoms0, hx]))
  obtain ⟨P1, Ps, hlen, L1, hL, hP1m, hlink1, hlink⟩ := Bundle.chain0 (args := args) hpl Y.init0 names X hcls hnames (fun x hx => h x (by simp [Bundle.ownAtoms0, hx]))
  have hfound : s.vm.findClass X = some P1.m.cls := findClass_of_methodNamed hP1m
  cases Option.some.inj (hfoundX.symm.trans hfound)
  obtain ⟨c1, kX', hc1, hk, hord, -, -, hn6⟩ := Cond.instantiable_spec (at_ (.instantiable X 6) (by simp [Bundle.ownAtoms0]))
  cases Option.some.inj (hc1.symm.trans hfound)
  cases Option.some.inj (hkX.symm.trans hk)
  have sel : ∀ y : MethodName, ∀ i : MethodId, s.methodNamed? y = some i → (y.cls ≠ "java/lang/invoke/MethodHandle" ∧ y.cls ≠ "java/lang/invoke/VarHandle") → (Cond.selects X y y).holds args s none s [] = true → selectMethod e.platform s.vm P1.m.cls i = .method i := by
    intro y i hy hne hs
    obtain ⟨c2, r2, m2, q1, q2, q3, q4, -⟩ := Cond.selects_spec hs
    cases Option.some.inj (q1.symm.trans hfound)
    cases Option.some.inj (q2.symm.trans (State.methodFound?_of_named hy hne))
    cases Option.some.inj (q3.symm.trans hy)
    rw [Launch.admits_selectMethod Y0.admits]; exact q4
  have hsel0 := sel _ _ Y.fill0 (by decide) (at_ (.selects X Bundle.tFill0 Bundle.tFill0) (by simp [Bundle.ownAtoms0]))
  have hselF := sel _ _ Y.fill (by decide) (at_ (.selects X Bundle.tFill Bundle.tFill) (by simp [Bundle.ownAtoms0]))
  obtain ⟨cellS0, hcS0, hiss⟩ := Y.statics
  obtain ⟨u0, hu0⟩ := Cond.staticRefV Y.unassigned L.unassignedStatic L.statics hcS0 hiss (at_ (.isRef (.static Bundle.tN "UNASSIGNED_STACK" Bundle.steD)) (by simp [Bundle.ownAtoms0]))
  obtain ⟨sen, hsen⟩ := Cond.staticRefV Y.sentinel L.sentinelStatic L.statics hcS0 hiss (at_ (.isRef (.static Bundle.tN "SUPPRESSED_SENTINEL" Bundle.listD)) (by simp [Bundle.ownAtoms0]))
  obtain ⟨ci198, i198, fB, hk198, hg198, ha198, hsB, -, hnB, htB, hffB⟩ := Cond.ownField (t := .object "java/lang/Object") Y.found L.cls (by decide +kernel) (at_ (.fieldLink Bundle.tN 198 Bundle.tN "backtrace" "Ljava/lang/Object;") (by simp [Bundle.ownAtoms0])) (at_ (.lays Bundle.tN Bundle.tN "backtrace" "Ljava/lang/Object;") (by simp [Bundle.ownAtoms0])) e.platform hpl
  obtain ⟨cellS, hcS', heS, -, hkeep⟩ := Y0.same.2.2.2.2.2 T.aS cellS0 hcS0
  have hcellS : V.heap[T.aS]? = some cellS := hcS'
  have hout' : ∀ i, (⟨T.aS, i⟩ : Loc) ∉ locs := fun i hmem => by
    have := hlocs _ hmem cellS0 hcS0
    rw [hiss] at this; cases this
  have hknownS : cellS.vm ≠ .unknown := by
    rw [heS]; intro hu
    rw [show cellS0.vm = .unknown from hu] at hiss
    cases hiss
  have hneS : T.aS ≠ a := Nat.ne_of_lt (Nat.lt_of_lt_of_le (Array.getElem?_eq_some_iff.mp hcS0).1 hnew)
  obtain ⟨tyC, dC, hdC, hdnC⟩ := Cond.laysAt hfound hk Y.cause (at_ (.lays X Bundle.tN "cause" "Ljava/lang/Throwable;") (by simp [Bundle.ownAtoms0]))
  obtain ⟨tyS, dS, hdS, hdnS⟩ := Cond.laysAt hfound hk Y.stack (at_ (.lays X Bundle.tN "stackTrace" Bundle.steD) (by simp [Bundle.ownAtoms0]))
  obtain ⟨tyP, dP, hdP, hdnP⟩ := Cond.laysAt hfound hk Y.supp (at_ (.lays X Bundle.tN "suppressedExceptions" Bundle.listD) (by simp [Bundle.ownAtoms0]))
  obtain ⟨tyB, dB, hdB, hdnB⟩ := Cond.laysAt hfound hk hffB (at_ (.lays X Bundle.tN "backtrace" "Ljava/lang/Object;") (by simp [Bundle.ownAtoms0]))
  have bC := Cond.laysApart hdB hdC hdnB hdnC (by rw [hnB, Y.causeName]; decide)
  have bS := Cond.laysApart hdB hdS hdnB hdnS (by rw [hnB, Y.stackName]; decide)
  have bP := Cond.laysApart hdB hdP hdnB hdnP (by rw [hnB, Y.suppName]; decide)
  have hskip : SkipFacts T e.platform s (fun u => u) u0 ((preparedCellV T.toThrowableT (freshCell P1.m.cls kX) a u0 sen).withEntry V.cur) :=
    ⟨{ ci198 := ci198, i198 := i198, fBack := fB }, ⟨hk198, hg198, ha198, hsB⟩, by
      have := fresh_default (c := P1.m.cls) tyB
      rw [htB] at this
      simpa [preparedCellV, Cell.setSlot, Cell.withEntry, Array.getElem?_setIfInBounds, bC, bS, bP, bC.symm, bS.symm, bP.symm, defaultValue] using this, fun _ _ => rfl⟩
  obtain ⟨tm, methC, cdC, kC, vm₁, hnC, -, -, -, -, -, -, -, hW₁, st1⟩ := Steps.initCold (tb := p.tables) (e := e) (below := below) (s := s) (U := V) Y0.here hexec Y0.warmed hpl hown (t := Bundle.init0 X) rfl rfl (Bundle.fit_spec hcls).2
    (at_ (.methodLink own ic (Bundle.init0 X)) (by simp [Bundle.ownAtoms0])) (h (.instanceMethod (Bundle.init0 X)) (by cases names <;> simp [Bundle.ownAtoms0, Bundle.chain0Atoms, Bundle.passAtoms])) (bytes := Bundle.five) (maxL := 1) (h (.code (Bundle.init0 X) Bundle.five 1 none) (by cases names <;> simp [Bundle.ownAtoms0, Bundle.chain0Atoms, Bundle.passAtoms]))
    (f := F0 m pc ls (.ref a :: rest)) rfl (a := a) (rest := rest) rfl hd
  cases Option.some.inj (hnC.symm.trans hP1m)
  obtain ⟨vm₂, X₂, st2⟩ := (Y0.noted hW₁).ctorPlainOffV hexec (g := F0 m pc ls rest) rfl hls T L Z LZ (P1 :: Ps)
    (fun P hP => by rcases List.mem_cons.mp hP with rfl | hP; exact L1; exact hL P hP) ⟨hlink1, hlink⟩ (u0 := u0) (sen := sen) (self := a) (cell := freshCell P1.m.cls kX) (cellS := cellS)
    (by show V.heap[a]? = _; rw [hV]; exact hcell) (fun _ => by simp) (by simp) rfl rfl hsel0 hselF hcellS hneS hknownS (by rw [hkeep _ (hout' _)]; exact hu0) (by rw [hkeep _ (hout' _)]; exact hsen)
    (Takes.of_laid hk hord tyC (by rw [Y.causeType]; rfl)) (Takes.of_laid hk hord tyS (by rw [Y.stackType]; exact fits_refV_array _ u0)) (Takes.of_laid hk hord tyP (by rw [Y.suppType]; exact fits_refV_object _ sen)) Y.objLocals hskip htr [] hd
    (by simp only [List.length_cons, hlen]; omega) (by simp only [List.length_cons, hlen]; show 2 * 0 + _ + _ ≤ _; omega)
  obtain ⟨t, a1, b1⟩ := kk ((preparedCellV T.toThrowableT (freshCell P1.m.cls kX) a u0 sen).setSlot T.fStack.slot u0.v) _ rfl rfl (fun z hz => by
    simp only [List.mem_cons, List.not_mem_nil, or_false] at hz
    rcases hz with rfl | rfl | rfl | rfl <;> rfl) _ (by rw [← hV]; rfl) X₂
  exact ⟨t, st1 _ (fun acts => by rw [doInvoke_state]; exact st2 _ a1), b1⟩
end KT
end
section
/-! a throw that ends a method; calls of methods that throw; a throw that passes through -/
section KT2
variable {p : Program} {l : Launch} {e : Env} {R : Room} {s : State} {m : MethodId} {args : Array Value} {below : List Frame} {meth : Method} {c : Code} {H : Heap} {locs : List Loc} {cells slots : Nat} {Q : State → Prop}
variable {cc : ByteArray} {ls : Array Slot} {rest : List Value} {own : String}
theorem kt_notab (h : c.exceptionTable.isEmpty = true) (pc : Nat) : ∀ x ∈ c.exceptionTable.toList, covers x pc = false := by
  have h0 : c.exceptionTable.size = 0 := by simpa [Array.isEmpty] using h
  have h1 : c.exceptionTable.toList = [] := List.eq_nil_of_length_eq_zero (by simpa using h0)
  intro x hx
  rw [h1] at hx
  cases hx
theorem kt_throw (pc : Nat) (C : kx_C p s m args c cc own) (hfl : l.flags = flags0) (hxt : c.exceptionTable.isEmpty = true) (hlk : meth.locks = false) {X : String} {ia ic : Nat} (hcls : Bundle.fit X = true)
    (hat : (Bundle.ownAtoms0 own ic X kt_names).all kt_okw = true) (hX : kt_X s s.heap) (hcl : Cond.classLink own ia X ∈ lw_g) (hin : Cond.instantiable X 6 ∈ lw_g) (hini : Cond.initialized X ∈ lw_g) (hls : ls.size = c.maxLocals)
    (hlocs : ∀ x ∈ locs, ∀ cell, s.heap[x.base]? = some cell → cell.vm.isStatics = false) (hsz : s.heap.size ≤ H.size)
    (d0 : decode cc pc = .ok (.new ia, 3)) (d1 : decode cc (pc + 3) = .ok (.dup, 1)) (d2 : decode cc (pc + 4) = .ok (.invokespecial ic, 3)) (d3 : decode cc (pc + 7) = .ok (.athrow, 1))
    (hRf : 5 < R.frames) (hRl : (rest.map fun v => v.category).sum + 1 + 80 ≤ R.locals) (hRc : cells + 1 ≤ R.cells) (hRs : slots + 6 ≤ R.slots)
    {Qc : Array Value → State → Outcome → State → Prop} {free : Addr → Prop}
    (hq : ∀ t : State, t.heap.size = H.size + 1 → (∀ z : Nat, z < H.size → t.heap[z]? = H[z]?) → kt_is X H.size t → s.WarmedH t.vm → Qc args s (.threw H.size) t) (hf : ∀ z ∈ locs, free z.base) (hfn : ∀ x : Nat, s.heap.size ≤ x → free x) :
    W p l e R s m args below meth c H locs cells slots (MQT below Qc args s (cells + 1) (slots + 6) free) (F0 m pc ls rest) := by
  refine W.newc (g := F0 m pc ls rest) (n := 6) C.1 C.2.1 C.2.2.1 (C.2.2.2 _ hcl) (C.2.2.2 _ hin) (C.2.2.2 _ hini) rfl d0 hRc hRs (fun cC kC h1 h2 h3 h4 => ?_)
  refine lv_dup (pc := pc + 3) C.1 C.2.1 d1 rfl ?_
  refine kt_ctor (pc := pc + 4) (names := kt_names) C hfl hcls (by decide) (kt_atoms hat C.2.2.2 hX) hls hlocs h1 h2 (a := H.size) (by simp) hsz d2 (by simp only [List.length_cons, List.length_nil]; omega) (by show (1 + (rest.map fun v => v.category).sum) + (13 * 3 + 41) ≤ R.locals; omega) (fun ce L e1 e2 hL => ?_)
  intro T hT Y
  obtain ⟨hwalk, hrun, hended, hWU, hsame⟩ := Y.athrowLeaves C.1 (g := F0 m (pc + 7) ls (.ref H.size :: rest)) rfl rfl rfl (kt_notab hxt _) (a := H.size) (rest := rest) rfl (by rw [C.2.1]; exact d3) hlk
  have hh : ((H.push { cls := cC, slots := kC.instanceTypes.map defaultValue, vm := .none }).setIfInBounds H.size ce).size = H.size + 1 := by simp
  refine ⟨_, hwalk, .threw H.size, hrun, hended, hq _ (by show T.heap.size = _; rw [hT, hh]) (fun z hz => ?_) ⟨ce, ?_, by rw [e2]; rfl, ?_⟩ hWU, locs ++ L, ⟨⟨_, rfl⟩, hWU, hsame⟩, fun z hz => ?_⟩
  · show T.heap[z]? = _
    rw [hT]
    simp [Array.getElem?_setIfInBounds, Array.getElem?_push, Nat.ne_of_gt hz, Nat.ne_of_lt hz]
  · show T.heap[H.size]? = _
    rw [hT]
    simp [Array.getElem?_setIfInBounds]
  · rw [e1]; exact (hWU.alike.findClass X _).trans h1
  · rcases List.mem_append.mp hz with h | h
    · exact hf z h
    · exact hfn _ (by rw [hL z h]; exact hsz)
/-- a call that throws -/
def kt_Run (p : Program) (l : Launch) (e : Env) (R : Room) (s : State) (m : MethodId) (args : Array Value) (below : List Frame) (meth : Method) (c : Code) (H : Heap) (locs : List Loc) (cells slots mc ms : Nat) (g : JFrame) (rest : List Value) (Qa : State → Outcome → State → Prop) (free : Addr → Prop) : Prop :=
  ∀ T : State, T.heap = H → Stand p l e R s m args below meth c T locs cells slots → ∃ (x : Addr) (st₀ t T' : State) (L : List Loc), st₀.heap = H ∧ Stand p l e R s m args below meth c T' (locs ++ L) (cells + mc) (slots + ms) ∧ (∀ z ∈ L, free z.base) ∧ T'.heap = t.heap ∧ T'.vm = t.vm ∧ Qa st₀ (.threw x) t ∧
    ∀ tg, Steps p.tables e below ((T'.setTop { g with stack := rest }).pushFrame (.throwing x)) tg → Steps p.tables e below (T.setTop g) tg
variable {y : MethodName} {ws : List Cond} {rm : Room} {Pc : Array Value → State → Prop} {Qc : Array Value → State → Outcome → State → Prop} {mc ms n idx na nL : Nat} {free : Addr → Prop} {b : ByteArray} {ret : Option FieldType}
theorem kt_back (hM : MetT l y ws rm Pc Qc mc ms free) (hbl : FrameBlind Pc) (hrc : rm.cells = mc) (hrs : rm.slots = ms) (hframes : rm.frames + 1 ≤ R.frames) (hlocals : 8 + (n + 11) + rm.locals ≤ R.locals)
    (hws : ∀ w ∈ ws, ∀ (a' : Array Value) (U : State), s.WarmedH U.vm → w.before a' U = true) (hcode : Cond.code y b n ret ∈ ws) (hini : (Cond.initialized y.cls).before args s = true)
    {T : State} (X : Stand p l e R s m args below meth c T locs cells slots) {g : JFrame} {ig : Instr} {len : Nat} {mk : MethodId} {a : Array Value} (hg : g.method = m) (hsize : g.locals.size = c.maxLocals) (hdg : decode c.code g.pc = .ok (ig, len))
    (hW : 2 * g.monitorRoom + (g.stack.map fun v => v.category).sum ≤ 8) (hn : T.methodNamed? y = some mk) (h4 : cells + mc ≤ R.cells) (h5 : slots + ms ≤ R.slots) (hP : Pc a T) :
    ∃ (x : Addr) (st₀ t T' : State) (L : List Loc), st₀.heap = T.heap ∧ Stand p l e R s m args below meth c T' (locs ++ L) (cells + mc) (slots + ms) ∧ (∀ z ∈ L, free z.base) ∧ T'.heap = t.heap ∧ T'.vm = t.vm ∧ Qc a st₀ (.threw x) t ∧
      Steps p.tables e below (doInvoke e (T.setTop g) [] mk a).1 ((T'.setTop g).pushFrame (.throwing x)) := by
  have h2 := hws _ hcode a T X.warmed
  have h3 : (Cond.initialized y.cls).before a T = true := word_at X.warmed (Or.inl (by first | rfl | simp [Cond.onTables, Cond.keeps, Cond.steady])) hini
  obtain ⟨methY, cY, hmY, hcY, -, hlY, -, -, -, -⟩ := Cond.code_spec hn h2
  obtain ⟨kY, hkY, -⟩ := className_of_methodNamed hn
  have hinitY : kY.init = .initialized := Cond.initialized_spec (findClass_of_methodNamed hn) hkY h3
  have h : At T g.method c below := by rw [hg]; exact X.here
  have happ : (headSpec ws rm).appliesLoose y e.platform (T.calling g mk a) = true :=
    Spec.appliesLoose_calling (g := g) h hdg hn hkY hinitY
      (X.room_calling (g := g) (R' := rm) hsize hmY hcY hframes (by rw [hlY]; omega) (by rw [hrc]; exact h4) (by rw [hrs]; exact h5)) (atoms_intro fun w hw => hws w hw _ _ X.warmed)
  obtain ⟨mid, hmid⟩ := h.above
  have hfr : (T.setTop g).frames = (.java g :: mid) ++ below := by rw [State.frames_setTop' g h.top, hmid]; rfl
  obtain ⟨o, s₂, hsteps, -, hend, hqq⟩ := Steps.callFree hM p X.admits X.cas X.clock (acts := []) hfr happ (hbl _ _ _ _ hP) trivial
  have hq' : Qc a (T.calling g mk a) o s₂ ∧ ∃ L, kt_End (T.calling g mk a) o s₂ L mc ms ∧ ∀ z ∈ L, free z.base := hqq
  obtain ⟨hq, L, ⟨⟨v, rfl⟩, hW₂, e2, q2, q3, q4, q5, q6⟩, hL⟩ := hq'
  rw [State.frames_setTop' g h.top] at hend
  have e3 : s₂ = ({ (T.calling g mk a).setFrames s₂.frames with heap := s₂.heap, slotsUsed := s₂.slotsUsed } : State).setVm s₂.vm := by
    have : s₂ = ({ s₂ with vm := (T.calling g mk a).vm } : State).setVm s₂.vm := rfl
    rw [e2] at this
    exact this
  have hf₂ : s₂.frames = .throwing v :: .java g :: T.frames.tail := hend
  have hW' : T.WarmedH s₂.vm := hW₂
  obtain ⟨g₀, hg0⟩ := Option.isSome_iff_exists.mp h.top
  obtain ⟨r, hr⟩ := State.topJava?_eq_some.mp hg0
  have hs₂ : s₂ = ((({ T with heap := s₂.heap, slotsUsed := s₂.slotsUsed } : State).setVm s₂.vm).setTop g).pushFrame (.throwing v) := by
    have hr' : (({ T with heap := s₂.heap, slotsUsed := s₂.slotsUsed } : State).setVm s₂.vm).frames = .java g₀ :: r := hr
    refine e3.trans ?_
    rw [hf₂, State.calling_eq h.top, State.setFrames_setFrames, State.pushFrame, State.frames_setTop _ hr', State.setTop_of_frames _ hr', State.setFrames_setFrames, hr]
    rfl
  have hsame : T.sameButNew ({ T with heap := s₂.heap, slotsUsed := s₂.slotsUsed } : State) L mc ms := by
    refine ⟨?_, q2, q3, q4, q5, q6⟩
    obtain ⟨t, ht, -⟩ := State.frames_cons hr
    show ({ T with heap := s₂.heap, slotsUsed := s₂.slotsUsed } : State) = { T.setFrames T.frames with heap := s₂.heap, slotsUsed := s₂.slotsUsed }
    rw [State.setFrames_self ht]
  subst hg
  refine ⟨v, T.calling g mk a, s₂, (({ T with heap := s₂.heap, slotsUsed := s₂.slotsUsed } : State).setVm s₂.vm), L, rfl,
    ⟨X.admits, X.cas, X.clock, X.frames, X.room, X.hears, X.method, X.code, (X.here.setHeapUsed s₂.heap s₂.slotsUsed).setVm hW'.alike, X.tail, State.WarmedH.trans X.warmed hW', X.limits, X.bytes, X.same.trans (hsame.setVm s.vm)⟩, hL, rfl, rfl, hq, ?_⟩
  rw [← hs₂]
  exact hsteps
theorem kt_runV {C : String} {b0 : Addr} {As : List Value} {g : JFrame} (S : CallFix p m c cc nL s args lw_g own) (hM : MetT l y ws rm Pc Qc mc ms free) (cw : CallW R s args own C idx y b n ret ws rm mc ms na) (hp : PreV s H C b0 Pc As)
    (hg : g.method = m) (hn : As.length = na) (hsize : g.locals.size = nL) (hstack : g.stack = As.reverse ++ .ref b0 :: rest) (hW : 2 * g.monitorRoom + (rest.map fun v => v.category).sum ≤ 8) (hdg : decode cc g.pc = .ok (.invokevirtual idx, 3)) (hf : cells + mc ≤ R.cells ∧ slots + ms ≤ R.slots) :
    kt_Run p l e R s m args below meth c H locs cells slots mc ms g rest (Qc (Value.ref b0 :: As).toArray) free := by
  obtain ⟨⟨hrc, hrs, hfr, hlo, hws, hcw, hcode, hini, hy, hlen, hl⟩, hin, hse⟩ := cw
  obtain ⟨hx, hb, hml, ho, -⟩ := S
  obtain ⟨hbl, ⟨cellB, hcB, hoB, hclB⟩, hPc⟩ := hp
  intro T hT X
  obtain ⟨mk, methM, hnamed, hmethM, hstM, habM⟩ := Cond.instanceMethod_spec hin
  obtain ⟨methM', cM, hmethM', -, -, -, -, -, -, hsigM⟩ := Cond.code_spec hnamed hcode
  cases hmethM.symm.trans hmethM'
  obtain ⟨c2, r2, m2, q1, q2, q3, q4, kP, hkP, hkPi⟩ := Cond.selects_spec hse
  cases hclB.symm.trans q1
  cases (State.methodFound?_of_named hnamed hy).symm.trans q2
  cases hnamed.symm.trans q3
  have hselP : selectMethod e.platform s.vm cellB.cls mk = .method mk := by rw [Launch.admits_selectMethod X.admits]; exact q4
  obtain ⟨vm₁, X₁, hstep₁⟩ := X.invokevirtual hx ho hl hnamed hmethM hstM hkP hkPi hy (a := b0) (cell := cellB) (by rw [hT]; exact hcB)
    (fun z h => by rw [h] at hoB; cases hoB) hselP hmethM habM hkP hkPi (g := g) hg (argsL := As) (rest := rest) (hn.trans (hlen _ hsigM)) hstack (by rw [hb]; exact hdg)
  obtain ⟨x, st₀, t, T', L, h0, X', hL, e1, e2, hq, hsteps⟩ := kt_back (b := b) (n := n) (ret := ret) hM hbl hrc hrs hfr hlo hws hcw hini X₁ (g := { g with stack := rest }) (a := (Value.ref b0 :: As).toArray) hg (hsize.trans hml.symm) (by rw [hb]; exact hdg) hW (X₁.named hnamed) hf.1 hf.2 (hPc (T.setVm vm₁) hT X₁.warmed)
  exact ⟨x, st₀, t, T', L, h0.trans hT, X', hL, e1, e2, hq, fun tg h => hstep₁ _ fun acts => by rw [doInvoke_state]; exact hsteps.trans h⟩
theorem kt_runS {As : List Value} {g : JFrame} (S : CallFix p m c cc nL s args lw_g own) (hM : MetT l y ws rm Pc Qc mc ms free) (cw : CallB R s args own idx y b n ret ws rm mc ms na ∧ (Cond.static y).before args s = true) (hp : PreS s H Pc As)
    (hg : g.method = m) (hn : As.length = na) (hsize : g.locals.size = nL) (hstack : g.stack = As.reverse ++ rest) (hW : 2 * g.monitorRoom + (rest.map fun v => v.category).sum ≤ 8) (hdg : decode cc g.pc = .ok (.invokestatic idx, 3)) (hf : cells + mc ≤ R.cells ∧ slots + ms ≤ R.slots) :
    kt_Run p l e R s m args below meth c H locs cells slots mc ms g rest (Qc As.toArray) free := by
  obtain ⟨⟨hrc, hrs, hfr, hlo, hws, hcw, hcode, hini, hy, hlen, hl⟩, hstt⟩ := cw
  obtain ⟨hx, hb, hml, ho, -⟩ := S
  obtain ⟨hbl, hPc⟩ := hp
  intro T hT X
  obtain ⟨mk, hnamed⟩ := Cond.code_named hcode
  obtain ⟨methM, cM, hmethM, -, -, -, -, -, -, hsigM⟩ := Cond.code_spec hnamed hcode
  have hstatic : methM.isStatic = true := Cond.static_spec hnamed hmethM hstt
  obtain ⟨kP, hkP, -⟩ := className_of_methodNamed hnamed
  have hinitP : kP.init = .initialized := Cond.initialized_spec (findClass_of_methodNamed hnamed) hkP hini
  obtain ⟨vm₁, X₁, hstep₁⟩ := X.invokestatic hx ho hl hnamed hmethM hstatic hkP hinitP hy (g := g) hg (argsL := As) (rest := rest) (hn.trans (hlen _ hsigM)) hstack (by rw [hb]; exact hdg)
  obtain ⟨x, st₀, t, T', L, h0, X', hL, e1, e2, hq, hsteps⟩ := kt_back (b := b) (n := n) (ret := ret) hM hbl hrc hrs hfr hlo hws hcw hini X₁ (g := { g with stack := rest }) (a := As.toArray) hg (hsize.trans hml.symm) (by rw [hb]; exact hdg) hW (X₁.named hnamed) hf.1 hf.2 (hPc (T.setVm vm₁) hT X₁.warmed)
  exact ⟨x, st₀, t, T', L, h0.trans hT, X', hL, e1, e2, hq, fun tg h => hstep₁ _ fun acts => by rw [doInvoke_state]; exact hsteps.trans h⟩
/-- the callee throws, and so does this method -/
theorem kt_out {pc : Nat} {st0 : List Value} {Qa : State → Outcome → State → Prop} {Qo : Array Value → State → Outcome → State → Prop} {freeo : Addr → Prop} (hxt : c.exceptionTable.isEmpty = true) (hlk : meth.locks = false)
    (hr : kt_Run p l e R s m args below meth c H locs cells slots mc ms (F0 m pc ls st0) rest Qa free) (hf : ∀ z ∈ locs, freeo z.base) (hf2 : ∀ x, free x → freeo x)
    (kk : ∀ (x : Addr) (st₀ t t' : State), st₀.heap = H → Qa st₀ (.threw x) t → t'.heap = t.heap → t'.vm = t.vm → s.WarmedH t'.vm → Qo args s (.threw x) t') :
    W p l e R s m args below meth c H locs cells slots (MQT below Qo args s (cells + mc) (slots + ms) freeo) (F0 m pc ls st0) := by
  intro T hT X
  obtain ⟨x, st₀, t, T', L, h0, X', hL, e1, e2, hq, hst⟩ := hr T hT X
  obtain ⟨hwalk, hrun, hended, hW, hsame⟩ := X'.leaveThrown x (g := F0 m pc ls rest) rfl rfl rfl (kt_notab hxt _) hlk
  exact ⟨_, hst _ hwalk, .threw x, hrun, hended, kk x st₀ t _ h0 hq e1 e2 hW, _, ⟨⟨_, rfl⟩, hW, hsame⟩, fun z hz => (List.mem_append.mp hz).elim (hf z) (fun h => hf2 _ (hL z h))⟩
end KT2
end
section
/-! a throw that is caught: the handler's class may be resolved on the way -/
section KH
variable {e : Env} {s : State} {f : JFrame} {a : Addr}
/-- an entry that covers the place and names a class: resolved or not, it is resolved behind the look -/
theorem kt_go {x : ExceptionTableEntry} {t : List ExceptionTableEntry} {cT : ClassId} {cell : Cell} {vm' : Vm} {Q : Handler → Pre} {E : CtlPost} {d : Bool} {acts : List Action} (hx : covers x f.pc = true) (h0 : x.catchType ≠ 0)
    (hg : (Jvm.resolveClass f.method.cls x.catchType).Gives e.toSetting s.vm (.ok cT) vm') (hsz : vm'.classes.size ≤ s.vm.classes.size) (hcell : s.heap[a]? = some cell) (hobj : ∀ k, cell.vm ≠ .statics k)
    (hk : ∃ k, vm'.classes[cell.cls]? = some k) (hc : ∃ k, vm'.classes[cT]? = some k) :
    wp (findHandler.go f a (x :: t)) Q E e d acts s ↔ if vm'.assignable cell.cls cT = true then Q (.found x.handlerPc) d acts (s.setVm vm') else wp (findHandler.go f a t) Q E e d acts (s.setVm vm') := by
  simp only [covers] at hx
  obtain ⟨ha, ht⟩ := hg.op (op := VmOp.resolveClass f.method.cls x.catchType) rfl
  have hcell' : (s.setVm vm').heap[a]? = some cell := hcell
  cases hfit : vm'.assignable cell.cls cT <;>
    simp [findHandler.go, hx, h0, ha, ht, hsz, hcell, hobj, hk, hc, hfit, VmOp.dirties, VmOp.acts]
/-- what the search gives, and the tables that it leaves -/
def kt_Finds (e : Env) (s : State) (f : JFrame) (a : Addr) (h : Handler) (vm' : Vm) : Prop :=
  ∀ (Q : Handler → Pre) (E : CtlPost) (d : Bool) (acts : List Action), wp (findHandler f a) Q E e d acts s ↔ Q h d acts (s.setVm vm')
theorem kt_stepCatch {r : List Frame} {pc : Nat} {vm' : Vm} (hfind : kt_Finds e s f a (.found pc) vm') :
    (stepThrowing e s a (.java f :: r)).Is ((s.setVm vm').setFrames (.java { f with pc := pc, stack := [.ref a] } :: r)) [] := by
  simp only [stepThrowing, searchFrame, vmDo]
  generalize hr : Sem.go _ e false [] s = res
  obtain ⟨as, rfl, ha⟩ := Sem.eq_ok_of hr (a := Handler.found pc) (s' := s.setVm vm') (acts' := []) (by simp [hfind _ _ _ _])
  exact ⟨rfl, ha⟩
theorem kt_caught {tb : Tables} {target : State} {g : JFrame} {c : Code} {below : List Frame} (h : At s g.method c below) {pc : Nat} {vm' : Vm} (hfind : kt_Finds e ((s.setTop g).pushFrame (.throwing a)) g a (.found pc) vm')
    (hrest : Steps tb e below ((s.setVm vm').setTop { g with pc := pc, stack := [.ref a] }) target) :
    Steps tb e below ((s.setTop g).pushFrame (.throwing a)) target := by
  obtain ⟨hgo, hw⟩ := h.throwing a
  refine Steps.head hgo hw ?_
  rw [stepThread_throwing (frames_entered h.top _), (kt_stepCatch (s := (s.setTop g).pushFrame (.throwing a)) hfind).1]
  obtain ⟨g₀, hg⟩ := Option.isSome_iff_exists.mp h.top
  obtain ⟨r, hr⟩ := State.topJava?_eq_some.mp hg
  have hr' : (s.setVm vm').frames = .java g₀ :: r := hr
  have e1 : ((((s.setTop g).pushFrame (.throwing a)).setVm vm').setFrames (.java { g with pc := pc, stack := [.ref a] } :: s.frames.tail)) = (s.setVm vm').setTop { g with pc := pc, stack := [.ref a] } := by
    rw [State.setTop_of_frames _ hr', State.pushFrame, State.setTop_of_frames _ hr]
    show (((s.setFrames _).setFrames _).setVm vm').setFrames _ = _
    rw [State.setFrames_setFrames]
    show ((s.setFrames _).setFrames _).setVm vm' = (s.setFrames _).setVm vm'
    rw [State.setFrames_setFrames, hr]
    rfl
  rw [e1]
  exact hrest
end KH
section KH2
variable {p : Program} {l : Launch} {e : Env} {R : Room} {s : State} {m : MethodId} {args : Array Value} {below : List Frame} {meth : Method} {c : Code} {H : Heap} {locs : List Loc} {cells slots : Nat} {Q : State → Prop}
variable {cc : ByteArray} {ls : Array Slot} {rest : List Value} {own : String}
/-- the handler's table of a method, as the words give it -/
abbrev kt_tab (c : Code) (hh : List (Nat × Nat × Nat × Nat)) : Prop := c.exceptionTable.toList.map (fun h => (h.startPc, h.endPc, h.handlerPc, h.catchType)) = hh
theorem kt_tab_eq {hh : List (Nat × Nat × Nat × Nat)} (h : kt_tab c hh) : c.exceptionTable.toList = hh.map (fun q => ⟨q.1, q.2.1, q.2.2.1, q.2.2.2⟩) := by
  rw [← h, List.map_map]
  exact (List.map_id _).symm
/-- resolving a handler's class -/
theorem kt_entry {T : State} (X : Stand p l e R s m args below meth c T locs cells slots) (hown : s.vm.findClass own = some m.cls) {i : Nat} {Y : String} (hl : (Cond.classLink own i Y).before args s = true) :
    ∃ (cY : ClassId) (vm' : Vm), s.vm.findClass Y = some cY ∧ (Jvm.resolveClass m.cls i).Gives e.toSetting T.vm (.ok cY) vm' ∧ s.WarmedH vm' := by
  have hpl : e.platform.magicAccessors = ({} : Platform).magicAccessors := by rw [X.admits.platform]
  obtain ⟨cY, hfY, hcl⟩ := Cond.classLink_spec hown hl e.platform hpl
  obtain ⟨hg₁, hwarm₁, -⟩ := State.classEntry (e := e) X.warmed hcl
  exact ⟨cY, _, hfY, hg₁, hwarm₁⟩
/-- caught by the first entry -/
theorem kt_in1 {pc : Nat} {st0 : List Value} {mc ms : Nat} {Qa : State → Outcome → State → Prop} {free : Addr → Prop} (hown : s.vm.findClass own = some m.cls) {b0 e0 h0 i0 : Nat} {hh : List (Nat × Nat × Nat × Nat)} (htab : kt_tab c ((b0, e0, h0, i0) :: hh)) (hcov : (b0 ≤ pc ∧ pc < e0) ∧ i0 ≠ 0) {X : String}
    (hl : (Cond.classLink own i0 X).before args s = true) (hself : (Cond.castable X X).before args s = true)
    (hr : kt_Run p l e R s m args below meth c H locs cells slots mc ms (F0 m pc ls st0) rest Qa free)
    (kk : ∀ (x : Addr) (st₀ t : State) (L : List Loc), st₀.heap = H → Qa st₀ (.threw x) t → (∀ z ∈ L, free z.base) → s.vm.Alike t.vm → kt_is X x t ∧ W p l e R s m args below meth c t.heap (locs ++ L) (cells + mc) (slots + ms) Q (F0 m h0 ls [.ref x])) :
    W p l e R s m args below meth c H locs cells slots Q (F0 m pc ls st0) := by
  intro T hT Y
  obtain ⟨x, st₀, t, T', L, g0, X', hL, e1, e2, hq, hst⟩ := hr T hT Y
  obtain ⟨⟨cell, hc1, hc2, hc3⟩, hW⟩ := kk x st₀ t L g0 hq hL (by rw [← e2]; exact X'.warmed.alike)
  obtain ⟨cY, vm', hfY, hgv, hwv⟩ := kt_entry X' hown hl
  have hcls : cell.cls = cY := by
    have h1 : t.vm.findClass X = s.vm.findClass X := by rw [← e2]; exact X'.warmed.alike.findClass X _
    rw [h1, hfY] at hc3
    exact (Option.some.inj hc3).symm
  obtain ⟨c3, c4, hc4, hc5, hasg⟩ := Cond.castable_spec hself
  cases hfY.symm.trans hc4
  cases hfY.symm.trans hc5
  have hal : T'.vm.Alike vm' := X'.warmed.alike.symm.trans hwv.alike
  obtain ⟨kY, hkY⟩ := Vm.classAt_of_findClass hfY
  obtain ⟨kY', hkY', -⟩ := hwv.alike.2.2 _ _ hkY
  have hfind : kt_Finds e ((T'.setTop (F0 m pc ls rest)).pushFrame (.throwing x)) (F0 m pc ls rest) x (.found h0) vm' := by
    intro Q E d acts
    have hm1 : ((T'.setTop (F0 m pc ls rest)).pushFrame (.throwing x)).vm.method? (F0 m pc ls rest).method = some meth := by rw [Stand.throwing_vm]; exact X'.method'
    rw [W.findHandler_eq hm1 X'.code, kt_tab_eq htab]
    show wp (findHandler.go _ x (⟨b0, e0, h0, i0⟩ :: _)) Q E e d acts _ ↔ _
    rw [kt_go (cT := cY) (cell := cell) (vm' := vm') (by simp [covers, hcov.1.1, hcov.1.2]) hcov.2 (by rw [Stand.throwing_vm]; exact hgv) (by rw [Stand.throwing_vm]; exact hal.size_le) (by rw [Stand.throwing_heap, e1]; exact hc1) (VmData.ne_statics_of hc2) ⟨kY', by rw [hcls]; exact hkY'⟩ ⟨kY', hkY'⟩,
      if_pos (by rw [hcls, hwv.alike.assignable]; exact hasg)]
  obtain ⟨u, a1, b1⟩ := hW (T'.setVm vm') (by show T'.heap = _; exact e1) (X'.noted hwv)
  exact ⟨u, hst _ (kt_caught (by show At T' m c below; exact X'.here) hfind a1), b1⟩
end KH2
end
section
/-! caught by the second of two entries; calls of methods with a table of handlers -/
section KH3
variable {p : Program} {l : Launch} {e : Env} {R : Room} {s : State} {m : MethodId} {args : Array Value} {below : List Frame} {meth : Method} {c : Code} {H : Heap} {locs : List Loc} {cells slots : Nat} {Q : State → Prop}
variable {cc : ByteArray} {ls : Array Slot} {rest : List Value} {own : String}
theorem kt_notcast {X Y : String} {cX cY : ClassId} (h : (Cond.not (.castable X Y)).before args s = true) (hX : s.vm.findClass X = some cX) (hY : s.vm.findClass Y = some cY) : s.vm.assignable cX cY = false := by
  simp only [Cond.before, Cond.holds, Cond.value, hX, hY] at h
  cases hh : s.vm.assignable cX cY with
  | false => rfl
  | true => simp [hh] at h
theorem kt_in2 {pc : Nat} {st0 : List Value} {mc ms : Nat} {Qa : State → Outcome → State → Prop} {free : Addr → Prop} (hown : s.vm.findClass own = some m.cls) {b0 e0 h0 i0 b1 e1 h1 i1 : Nat} (htab : kt_tab c [(b0, e0, h0, i0), (b1, e1, h1, i1)]) (hcov : ((b0 ≤ pc ∧ pc < e0) ∧ i0 ≠ 0) ∧ (b1 ≤ pc ∧ pc < e1) ∧ i1 ≠ 0) {X0 X : String}
    (hl0 : (Cond.classLink own i0 X0).before args s = true) (hl : (Cond.classLink own i1 X).before args s = true) (hnot : ∀ c1 c2, s.vm.findClass X = some c1 → s.vm.findClass X0 = some c2 → s.vm.assignable c1 c2 = false) (hself : (Cond.castable X X).before args s = true)
    (hr : kt_Run p l e R s m args below meth c H locs cells slots mc ms (F0 m pc ls st0) rest Qa free)
    (kk : ∀ (x : Addr) (st₀ t : State) (L : List Loc), st₀.heap = H → Qa st₀ (.threw x) t → (∀ z ∈ L, free z.base) → s.vm.Alike t.vm → kt_is X x t ∧ W p l e R s m args below meth c t.heap (locs ++ L) (cells + mc) (slots + ms) Q (F0 m h1 ls [.ref x])) :
    W p l e R s m args below meth c H locs cells slots Q (F0 m pc ls st0) := by
  intro T hT Y
  obtain ⟨x, st₀, t, T', L, g0, X', hL, q1, q2, hq, hst⟩ := hr T hT Y
  obtain ⟨⟨cell, hc1, hc2, hc3⟩, hW⟩ := kk x st₀ t L g0 hq hL (by rw [← q2]; exact X'.warmed.alike)
  obtain ⟨cZ, vm1, hfZ, hgv1, hwv1⟩ := kt_entry X' hown hl0
  have X1 := X'.noted hwv1
  obtain ⟨cY, vm', hfY, hgv, hwv⟩ := kt_entry X1 hown hl
  have hcls : cell.cls = cY := by
    have h1 : t.vm.findClass X = s.vm.findClass X := by rw [← q2]; exact X'.warmed.alike.findClass X _
    rw [h1, hfY] at hc3
    exact (Option.some.inj hc3).symm
  obtain ⟨c3, c4, hc4, hc5, hasg⟩ := Cond.castable_spec hself
  cases hfY.symm.trans hc4
  cases hfY.symm.trans hc5
  have hal1 : T'.vm.Alike vm1 := X'.warmed.alike.symm.trans hwv1.alike
  have hal : vm1.Alike vm' := hwv1.alike.symm.trans hwv.alike
  obtain ⟨kY, hkY⟩ := Vm.classAt_of_findClass hfY
  obtain ⟨kY', hkY', -⟩ := hwv.alike.2.2 _ _ hkY
  obtain ⟨kY1, hkY1, -⟩ := hwv1.alike.2.2 _ _ hkY
  obtain ⟨kZ, hkZ⟩ := Vm.classAt_of_findClass hfZ
  obtain ⟨kZ', hkZ', -⟩ := hwv1.alike.2.2 _ _ hkZ
  have hfind : kt_Finds e ((T'.setTop (F0 m pc ls rest)).pushFrame (.throwing x)) (F0 m pc ls rest) x (.found h1) vm' := by
    intro Q E d acts
    have hm1 : ((T'.setTop (F0 m pc ls rest)).pushFrame (.throwing x)).vm.method? (F0 m pc ls rest).method = some meth := by rw [Stand.throwing_vm]; exact X'.method'
    rw [W.findHandler_eq hm1 X'.code, kt_tab_eq htab]
    show wp (findHandler.go _ x (⟨b0, e0, h0, i0⟩ :: ⟨b1, e1, h1, i1⟩ :: [])) Q E e d acts _ ↔ _
    rw [kt_go (cT := cZ) (cell := cell) (vm' := vm1) (by simp [covers, hcov.1.1.1, hcov.1.1.2]) hcov.1.2 (by rw [Stand.throwing_vm]; exact hgv1) (by rw [Stand.throwing_vm]; exact hal1.size_le) (by rw [Stand.throwing_heap, q1]; exact hc1) (VmData.ne_statics_of hc2) ⟨kY1, by rw [hcls]; exact hkY1⟩ ⟨kZ', hkZ'⟩,
      if_neg (by rw [hcls, hwv1.alike.assignable, hnot _ _ hfY hfZ]; decide)]
    rw [kt_go (cT := cY) (cell := cell) (vm' := vm') (by simp [covers, hcov.2.1.1, hcov.2.1.2]) hcov.2.2 hgv hal.size_le (by show ((T'.setTop (F0 m pc ls rest)).pushFrame (.throwing x)).heap[x]? = _; rw [Stand.throwing_heap, q1]; exact hc1) (VmData.ne_statics_of hc2) ⟨kY', by rw [hcls]; exact hkY'⟩ ⟨kY', hkY'⟩,
      if_pos (by rw [hcls, hwv.alike.assignable]; exact hasg)]
    rfl
  obtain ⟨u, a1, b1⟩ := hW (T'.setVm vm') (by show T'.heap = _; exact q1) (X'.noted hwv)
  exact ⟨u, hst _ (kt_caught (by show At T' m c below; exact X'.here) hfind a1), b1⟩
/-- a static method with handlers, called: it returns -/
theorem kt_runSW {y : MethodName} {b : ByteArray} {n idx na nL mc ms : Nat} {ret : Option FieldType} {hh : List (Nat × Nat × Nat × Nat)} {ws ws' : List Cond} {rm : Room} {Pc : Array Value → State → Prop} {Qc : Array Value → State → Outcome → State → Prop} {free : Addr → Prop} {As : List Value} {g : JFrame}
    (S : CallFix p m c cc nL s args lw_g own) (hM : Met l y ws rm Pc Qc mc ms free) (hw : ws = .codeWith y b n ret hh :: ws') (hG : GoodIn lw_g ws) (hrc : rm.cells = mc) (hrs : rm.slots = ms) (hR : rm.frames + 1 ≤ R.frames ∧ 8 + (n + 11) + rm.locals ≤ R.locals)
    (hl : Cond.methodLink own idx y ∈ lw_g) (hstt : Cond.static y ∈ lw_g) (hini : Cond.initialized y.cls ∈ lw_g) (hd : y.cls ≠ "java/lang/invoke/MethodHandle" ∧ y.cls ≠ "java/lang/invoke/VarHandle" ∧ (parseMethodDescriptor y.desc).map (fun d => d.parameters.length) = some na)
    (hp : PreS s H Pc As) (hg : g.method = m) (hn : As.length = na) (hsize : g.locals.size = nL) (hstack : g.stack = As.reverse ++ rest) (hW : 2 * g.monitorRoom + (rest.map fun v => v.category).sum ≤ 8) (hdg : decode cc g.pc = .ok (.invokestatic idx, 3)) (hf : cells + mc ≤ R.cells ∧ slots + ms ≤ R.slots) :
    va_Run p l e R s m args below meth c H locs cells slots mc ms g rest (Qc As.toArray) (free) := by
  obtain ⟨hx, hb, hml, ho, ht⟩ := S
  have hc : Cond.codeWith y b n ret hh ∈ ws := by rw [hw]; exact List.mem_cons_self
  have hcode := ht _ (hG _ hc).1
  have hK : Back l R p e below s args y 3 8 (PreOf R mc ms Pc) (PostOf Qc mc ms free) := va_backW (hh := hh) (bytes := b) (maxL := n) (ret := ret) hM hp.1 hrc hrs hR.1 hR.2 (pay_in ht hG) hc (fun a' U hW => word_at hW (Or.inl (by first | rfl | simp [Cond.onTables, Cond.keeps, Cond.steady])) (ht _ hini))
  obtain ⟨mk, methM, cM, hnamed, hmethM, -, -, -, -, -, -, hsigM⟩ := Cond.codeWith_spec hcode
  have hstatic : methM.isStatic = true := Cond.static_spec hnamed hmethM (ht _ hstt)
  obtain ⟨kP, hkP, -⟩ := className_of_methodNamed hnamed
  have hinitP : kP.init = .initialized := Cond.initialized_spec (findClass_of_methodNamed hnamed) hkP (ht _ hini)
  have hlen : As.length = methM.sig.parameters.length := by
    have h2 := hd.2.2
    rw [hsigM] at h2
    exact hn.trans (Option.some.inj h2).symm
  intro T hT X
  obtain ⟨vm₁, X₁, hstep₁⟩ := X.invokestatic hx ho (ht _ hl) hnamed hmethM hstatic hkP hinitP ⟨hd.1, hd.2.1⟩ (g := g) hg (argsL := As) (rest := rest) hlen hstack (by rw [hb]; exact hdg)
  obtain ⟨v, ⟨U', l2, c2, s2⟩, X', ⟨g', mk', t, L, e1, e2, hq, h1, hL, h2, h3⟩, hsteps⟩ := hK m meth c ⟨T.setVm vm₁, locs, cells, slots⟩ { g with stack := rest } (.invokestatic idx) mk As.toArray X₁ hg (hsize.trans hml.symm) (by rw [hb]; exact hdg) hW (X₁.named hnamed) ⟨hf.1, hf.2, hp.2 (T.setVm vm₁) hT X₁.warmed⟩
  dsimp only [Pt.U, Pt.locs, Pt.cells, Pt.slots] at X' e1 e2 h1 h2 h3 hsteps
  subst h1; subst h2; subst h3
  exact ⟨v, (T.setVm vm₁).calling g' mk' As.toArray, t, U', L, hT, X', hL, e1, e2, hq, fun target h => hstep₁ _ fun acts => by rw [doInvoke_state]; exact hsteps.trans h⟩
end KH3
end
section
/-! the tree's methods that throw -/
abbrev T_Qt (D : va_G) (cI : ClassId) (q : Nat → Nat) (A : Nat → Prop) (X : String) (post : (Nat → Int32) → (Nat → Nat → Int32) → Prop) : Array Value → State → Outcome → State → Prop := va_Qt X (fun (u : kx_U) => post u.1 u.2) (T_at D cI q A) A
abbrev T_Mt (l : Launch) (y : MethodName) (b : ByteArray) (n : Nat) (ret : Option FieldType) (rm : Room) (D : va_G) (cI : ClassId) (q : Nat → Nat) (f : Nat → Int32) (G : Nat → Nat → Int32) (As : List Value) (X : String) (post : (Nat → Int32) → (Nat → Nat → Int32) → Prop) : Prop :=
  ∀ sz : Nat, MetT l y (.code y b n ret :: lw_g) rm (va_Pc (.ref (q 0) :: As) (fun U => T_pre D cI q f G sz U ∧ kt_X U U.heap)) (T_Qt D cI q (va_A (wT cI q f G) sz) X post) 1 6 (va_A (wT cI q f G) sz)
/-- no cell of a world is a class's cell of statics -/
theorem kt_ns {D : va_G} {cl : List vw_C} {ws : va_W} {H : Heap} (hP : va_P D cl ws H) : ∀ x : Nat, va_A ws H.size x → ∀ cell, H[x]? = some cell → cell.vm.isStatics = false := by
  intro x hx cell hc
  rcases hx with ⟨k, e0, hk⟩ | hx
  · have h1 := hP k _ hk
    cases e0 with
    | inl a0 =>
      have h2 : H[x]? = some (vp_cell a0.1 a0.2) := h1
      cases hc.symm.trans h2
      obtain ⟨c0, n0, a1⟩ := a0
      rcases a1 with _ | _ | _ | _ | _ <;> rfl
    | inr o0 =>
      obtain ⟨r, -, h2⟩ := h1
      obtain ⟨cell2, h3, -, h4, -⟩ := h2
      cases hc.symm.trans h3
      rw [h4]; rfl
  · have := (Array.getElem?_eq_some_iff.mp hc).1
    omega
theorem T_blindX (av : List Value) (D : va_G) (cI : ClassId) (q : Nat → Nat) (f : Nat → Int32) (G : Nat → Nat → Int32) (sz : Nat) : FrameBlind (va_Pc av (fun U => T_pre D cI q f G sz U ∧ kt_X U U.heap)) := fun a U g mk h => by
  obtain ⟨q0, ⟨q1, qP, qK, qD⟩, hX⟩ := h
  exact ⟨q0, ⟨q1, qP, va_K.moved (u := U) (U := U.calling g mk a) (Vm.Alike.refl U.vm) qK, qD⟩, kt_X.moved (u := U) (U := U.calling g mk a) (Vm.Alike.refl U.vm) hX⟩
theorem T_oft {l : Launch} {y : MethodName} {b : ByteArray} {n : Nat} {ret : Option FieldType} {rm : Room} {D : va_G} {cI : ClassId} {q : Nat → Nat} {f : Nat → Int32} {G : Nat → Nat → Int32} {As : List Value} {X : String} {post : (Nat → Int32) → (Nat → Nat → Int32) → Prop}
    (hy : y.cls = R_T) (hlen : (lg_sl (.ref (q 0) :: As)).length ≤ n)
    (body : ∀ (p : Program) (e : Env) (s : State) (m : MethodId) (args : Array Value) (below : List Frame) (meth : Method) (c : Code) (ls : Array Slot) (A : Nat → Prop), kx_E p s m args c b R_T n meth ret A → kx_T D cI A q f G s s.heap [] → kt_X s s.heap → (∀ x : Nat, A x → ∀ cell, s.heap[x]? = some cell → cell.vm.isStatics = false) → lv_has ls n (lv_args 0 (.ref (q 0) :: As)) →
      W p l e rm s m args below meth c s.heap [] 0 0 (MQT below (T_Qt D cI q A X post) args s 1 6 A) (F0 m 0 ls [])) : T_Mt l y b n ret rm D cI q f G As X post := by
  intro sz
  refine MetT.ofW (cc := b) (maxL := n) (ret := ret) (by rw [hy]; decide) rfl ?_
  intro p e s m args below meth c s₁ B hml hv
  obtain ⟨rfl, ⟨hsz, hP, hK, hD0⟩, hX⟩ := hv
  have hts := atoms_spec (ws := .code y b n ret :: lw_g) B.pre
  have hown : s.vm.findClass R_T = some m.cls := by rw [← hy]; exact findClass_of_methodNamed B.named
  have hxt := BodyLoose.noHandlers B (hts _ List.mem_cons_self)
  subst hsz
  rw [lg_entry_eq]
  exact body p e s m _ below meth c _ _ ⟨⟨B.exec, B.bytes, hown, fun w h => hts w (List.mem_cons_of_mem _ h)⟩, hml, B.returns, B.notSynchronized, hxt, fun x h => Or.inr h⟩ ⟨hP, hD0.self, va_S.rf, hK⟩ hX (kt_ns hP) (lv_entry (.ref (q 0) :: As) hlen)
theorem fit_iae : Bundle.fit R_IAE = true := by decide
theorem fit_nse : Bundle.fit R_NSE = true := by decide
/-- a static method that throws an IllegalArgumentException -/
abbrev S_Mt (l : Launch) (y : MethodName) (b : ByteArray) (n : Nat) (ret : Option FieldType) (rm : Room) (As : List Value) (X : String) : Prop :=
  ∀ sz : Nat, MetT l y (.code y b n ret :: lw_g) rm (va_Pc As (fun U => U.heap.size = sz ∧ kt_X U U.heap)) (va_Qt X (fun (_ : Unit) => True) (fun _ _ => True) (fun x => sz ≤ x)) 1 6 (fun x => sz ≤ x)
section KTT
variable {p : Program} {l : Launch} {e : Env} {R : Room} {s : State} {m : MethodId} {args : Array Value} {below : List Frame} {meth : Method} {c : Code} {H : Heap} {locs : List Loc} {cells slots : Nat} {Q : State → Prop}
variable {cc : ByteArray} {ls : Array Slot} {rest : List Value} {own : String} {D : va_G} {cI : ClassId} {A : Nat → Prop} {q : Nat → Nat} {f : Nat → Int32} {G : Nat → Nat → Int32} {nL : Nat} {retm : Option FieldType}
/-- the world behind a throw: what was there is there -/
theorem T_keep {H1 : Heap} (w : kx_T D cI A q f G s H locs) (h : ∀ z : Nat, z < H.size → H1[z]? = H[z]?) : va_P D cls_ (wT cI q f G) H1 := w.1.kept (fun k x hk => h _ ((w.1 k x hk).lt))
theorem T_throw (pc : Nat) (E : kx_E p s m args c cc R_T nL meth retm A) (hfl : l.flags = flags0) (w : kx_T D cI A q f G s H locs) (hX : kt_X s s.heap) (hns : ∀ x : Nat, A x → ∀ cell, s.heap[x]? = some cell → cell.vm.isStatics = false) (hls : ls.size = nL)
    {X : String} {ia ic : Nat} (hcls : Bundle.fit X = true) (hat : (Bundle.ownAtoms0 R_T ic X kt_names).all kt_okw = true) (hcl : Cond.classLink R_T ia X ∈ lw_g) (hin : Cond.instantiable X 6 ∈ lw_g) (hini : Cond.initialized X ∈ lw_g)
    (d0 : decode cc pc = .ok (.new ia, 3)) (d1 : decode cc (pc + 3) = .ok (.dup, 1)) (d2 : decode cc (pc + 4) = .ok (.invokespecial ic, 3)) (d3 : decode cc (pc + 7) = .ok (.athrow, 1))
    (hR : 5 < R.frames ∧ 81 ≤ R.locals ∧ 1 ≤ R.cells ∧ 6 ≤ R.slots) {post : (Nat → Int32) → (Nat → Nat → Int32) → Prop} (hpost : post f G) :
    W p l e R s m args below meth c H locs 0 0 (MQT below (T_Qt D cI q A X post) args s 1 6 A) (F0 m pc ls []) := by
  refine kt_throw pc E.1 hfl E.2.2.2.2.1 E.2.2.2.1 hcls hat hX hcl hin hini (hls.trans E.2.1.symm) (fun x hx cell hc => hns _ (w.2.2.1.2.2 x hx) cell hc) w.2.2.1.1 d0 d1 d2 d3 hR.1 (by show 0 + 1 + 80 ≤ R.locals; omega) (by omega) (by omega) (fun t h1 h2 h3 hW => ?_) w.2.2.1.2.2 E.2.2.2.2.2
  refine ⟨⟨H.size, (f, G), rfl, h3, hpost, T_keep w h2, va_K.moved hW.alike w.2.2.2, w.2.1⟩, ?_, fun z hz hA => ?_⟩
  · have := w.2.2.1.1
    omega
  · rw [h2 z (Nat.lt_of_lt_of_le hz w.2.2.1.1)]
    exact w.2.2.1.2.1 z hz hA
theorem T_startX (w : kx_T D cI A q f G s H locs) (hX : kt_X s H) (As : List Value) : PreV s H R_T (q 0) (va_Pc (.ref (q 0) :: As) (fun U => T_pre D cI q f G H.size U ∧ kt_X U U.heap)) As :=
  ⟨T_blindX _ D cI q f G H.size, va_recv (ci := 0) w.2.2.2 w.1 rfl (show (wT cI q f G)[0]? = some _ from rfl), fun U hU hW => ⟨rfl, ⟨by rw [hU], by rw [hU]; exact w.1, va_K.moved hW.alike w.2.2.2, w.2.1.weaken (fun _ _ _ _ => trivial)⟩, by rw [hU]; exact hX.moved hW.alike⟩⟩
theorem T_X (w : kx_T D cI A q f G s H locs) (hX : kt_X s s.heap) (hns : ∀ x : Nat, A x → ∀ cell, s.heap[x]? = some cell → cell.vm.isStatics = false) : kt_X s H := hX.kept hns w.2.2.1.2.1
/-- an instance method of the tree's throws, and so does this one -/
theorem T_ct (pc : Nat) (E : kx_E p s m args c cc R_T nL meth retm A) (w : kx_T D cI A q f G s H locs) (hX : kt_X s s.heap) (hns : ∀ x : Nat, A x → ∀ cell, s.heap[x]? = some cell → cell.vm.isStatics = false) {y : MethodName} {b : ByteArray} {n idx na : Nat} {ret : Option FieldType} {rm : Room} {As : List Value} {X : String} {post post' : (Nat → Int32) → (Nat → Nat → Int32) → Prop} {st0 : List Value}
    (hM : T_Mt l y b n ret rm D cI q f G As X post) (cw : CallW R s args R_T R_T idx y b n ret (.code y b n ret :: lw_g) rm 1 6 na) (hR : 1 ≤ R.cells ∧ 6 ≤ R.slots) (hls : ls.size = nL) (hn : As.length = na) (hst : st0 = As.reverse ++ .ref (q 0) :: rest) (hW : (rest.map fun v => v.category).sum ≤ 8) (hdg : decode cc pc = .ok (.invokevirtual idx, 3))
    (hpost : ∀ (f' : Nat → Int32) (G' : Nat → Nat → Int32), post f' G' → post' f' G') :
    W p l e R s m args below meth c H locs 0 0 (MQT below (T_Qt D cI q A X post') args s 1 6 A) (F0 m pc ls st0) := by
  have hFc := T_free E w
  refine kt_out (rest := rest) (mc := 1) (ms := 6) (cells := 0) (slots := 0) E.2.2.2.2.1 E.2.2.2.1 (kt_runV ⟨E.1.1, E.1.2.1, E.2.1, E.1.2.2.1, E.1.2.2.2⟩ (hM H.size) cw (T_startX w (T_X w hX hns) As) rfl hn hls hst (lv_room hW) hdg ⟨by omega, by omega⟩) w.2.2.1.2.2 hFc (fun x st₀ t t' h0 hq e1 e2 hWt => ?_)
  obtain ⟨⟨x', u, h1, ⟨cell, h2, h2', h2''⟩, h3, h4, h5, h6⟩, h7, h8⟩ := hq
  cases h1
  rw [h0] at h7 h8
  refine ⟨⟨_, u, rfl, ⟨cell, by rw [e1]; exact h2, h2', by rw [e2]; exact h2''⟩, hpost _ _ h3, by rw [e1]; exact h4, va_K.moved (by rw [e2]; exact Vm.Alike.refl _) h5, h6.weaken (fun _ _ _ h => hFc _ h)⟩, ?_, fun z hz hA => ?_⟩
  · rw [e1]; exact Nat.le_trans w.2.2.1.1 h7
  · rw [e1, h8 z (Nat.lt_of_lt_of_le hz w.2.2.1.1) (fun h => hA (hFc z h))]
    exact w.2.2.1.2.1 z hz hA
/-- a static method throws, and so does this one -/
theorem T_cst (pc : Nat) (E : kx_E p s m args c cc R_T nL meth retm A) (w : kx_T D cI A q f G s H locs) (hX : kt_X s s.heap) (hns : ∀ x : Nat, A x → ∀ cell, s.heap[x]? = some cell → cell.vm.isStatics = false) {y : MethodName} {b : ByteArray} {n idx na : Nat} {ret : Option FieldType} {rm : Room} {As : List Value} {X : String} {post : (Nat → Int32) → (Nat → Nat → Int32) → Prop} {st0 : List Value}
    (hM : S_Mt l y b n ret rm As X) (cw : CallB R s args R_T idx y b n ret (.code y b n ret :: lw_g) rm 1 6 na ∧ (Cond.static y).before args s = true) (hR : 1 ≤ R.cells ∧ 6 ≤ R.slots) (hls : ls.size = nL) (hn : As.length = na) (hst : st0 = As.reverse ++ rest) (hW : (rest.map fun v => v.category).sum ≤ 8) (hdg : decode cc pc = .ok (.invokestatic idx, 3))
    (hpost : post f G) :
    W p l e R s m args below meth c H locs 0 0 (MQT below (T_Qt D cI q A X post) args s 1 6 A) (F0 m pc ls st0) := by
  have hXH := T_X w hX hns
  refine kt_out (rest := rest) (mc := 1) (ms := 6) (cells := 0) (slots := 0) E.2.2.2.2.1 E.2.2.2.1 (kt_runS ⟨E.1.1, E.1.2.1, E.2.1, E.1.2.2.1, E.1.2.2.2⟩ (hM H.size) cw ⟨fun a U g mk h => ?_, fun U hU hW => ⟨rfl, by rw [hU], by rw [hU]; exact hXH.moved hW.alike⟩⟩ rfl hn hls hst (lv_room hW) hdg ⟨by omega, by omega⟩) w.2.2.1.2.2 (fun x hx => E.2.2.2.2.2 x (Nat.le_trans w.2.2.1.1 hx)) (fun x st₀ t t' h0 hq e1 e2 hWt => ?_)
  · obtain ⟨q0, q1, hX⟩ := h
    exact ⟨q0, q1, kt_X.moved (u := U) (U := U.calling g mk a) (Vm.Alike.refl U.vm) hX⟩
  obtain ⟨⟨x', u, h1, ⟨cell, h2, h2', h2''⟩, -, -⟩, h7, h8⟩ := hq
  cases h1
  rw [h0] at h7 h8
  have hk : ∀ z : Nat, z < H.size → t'.heap[z]? = H[z]? := fun z hz => by rw [e1]; exact h8 z hz (Nat.not_le.mpr hz)
  refine ⟨⟨_, (f, G), rfl, ⟨cell, by rw [e1]; exact h2, h2', by rw [e2]; exact h2''⟩, hpost, T_keep w hk, va_K.moved hWt.alike w.2.2.2, w.2.1⟩, ?_, fun z hz hA => ?_⟩
  · rw [e1]; exact Nat.le_trans w.2.2.1.1 h7
  · rw [hk z (Nat.lt_of_lt_of_le hz w.2.2.1.1)]
    exact w.2.2.1.2.1 z hz hA
end KTT
end
section
/-! locals as a list: each place holds a value or nothing known; no longs -/
def kl_l (L : List (Option Value)) : List (Nat × Value) := (List.range L.length).filterMap (fun i => (L.getD i none).map (fun v => (i, v)))
def kl_c (L : List (Option Value)) : Bool := L.all (fun o => match o with
  | some v => v.category == 1
  | none => true)
def kl (ls : Array Slot) (L : List (Option Value)) : Prop := lv_has ls L.length (kl_l L) ∧ kl_c L = true
theorem kl_mem {L : List (Option Value)} {i : Nat} {v : Value} : (i, v) ∈ kl_l L ↔ L[i]? = some (some v) := by
  unfold kl_l
  rw [List.mem_filterMap]
  constructor
  · rintro ⟨j, hj, h⟩
    have hj := List.mem_range.mp hj
    rw [List.getD_eq_getElem?_getD, List.getElem?_eq_getElem hj] at h
    simp only [Option.getD_some, Option.map_eq_some_iff, Prod.mk.injEq] at h
    obtain ⟨a, h1, rfl, rfl⟩ := h
    rw [List.getElem?_eq_getElem hj, h1]
  · intro h
    obtain ⟨hlt, h1⟩ := List.getElem?_eq_some_iff.mp h
    exact ⟨i, List.mem_range.mpr hlt, by rw [List.getD_eq_getElem?_getD, h]; rfl⟩
theorem kl_at {ls : Array Slot} {L : List (Option Value)} (h : kl ls L) {i : Nat} {v : Value} (hi : L[i]? = some (some v)) : ls[i]? = some (.val v) := h.1.2.2 (i, v) (kl_mem.mpr hi)
theorem kl_sz {ls : Array Slot} {L : List (Option Value)} (h : kl ls L) : ls.size = L.length := h.1.1
theorem kl_cat {L : List (Option Value)} (h : kl_c L = true) {v : Value} (hv : some v ∈ L) : v.category = 1 := by
  have := List.all_eq_true.mp h _ hv
  simpa using this
theorem kl_of {ls : Array Slot} {n : Nat} {lv : List (Nat × Value)} (L : List (Option Value)) (h : lv_has ls n lv) (hn : L.length = n) (hl : kl_l L = lv) (hc : kl_c L = true) : kl ls L := by
  subst hn; subst hl
  exact ⟨h, hc⟩
theorem kl_set {ls : Array Slot} {L : List (Option Value)} {i : Nat} {v : Value} (hc : kl_c L = true) (hv : v.category = 1) (h : lv_has ls L.length ((i, v) :: (kl_l L).filter (fun q => !(q.1 == i) && !(q.1 + 1 == i && q.2.category == 2)))) : kl ls (L.set i (some v)) := by
  refine ⟨⟨by rw [List.length_set]; exact h.1, h.2.1, fun q hq => ?_⟩, ?_⟩
  · obtain ⟨j, u⟩ := q
    have hj := kl_mem.mp hq
    rw [List.getElem?_set] at hj
    by_cases hij : i = j
    · subst hij
      rw [if_pos rfl] at hj
      split at hj
      · cases hj
        exact h.2.2 _ List.mem_cons_self
      · cases hj
    · rw [if_neg hij] at hj
      refine h.2.2 _ (List.mem_cons_of_mem _ (List.mem_filter.mpr ⟨kl_mem.mpr hj, ?_⟩))
      have hu := kl_cat hc (List.mem_of_getElem? hj)
      have hne : ¬ j = i := fun e => hij e.symm
      simp [hne, hu]
  · refine List.all_eq_true.mpr (fun o ho => ?_)
    rcases List.mem_or_eq_of_mem_set ho with h1 | h1
    · exact List.all_eq_true.mp hc o h1
    · rw [h1]; simp [hv]
section KL
variable {p : Program} {l : Launch} {e : Env} {R : Room} {s : State} {m : MethodId} {args : Array Value} {below : List Frame} {meth : Method} {c : Code} {H : Heap} {locs : List Loc} {cells slots : Nat} {Q : State → Prop}
variable {cc : ByteArray} {ls : Array Slot} {rest : List Value} {own : String} {L : List (Option Value)}
theorem kl_iload_n (pc : Nat) (C : kx_C p s m args c cc own) {k : Fin 4} {x : Int32} (hdg : decode cc pc = .ok (.iload_n k, 1)) (hl : kl ls L) (h : L[(k : Nat)]? = some (some (.int x))) (kk : W p l e R s m args below meth c H locs cells slots Q (F0 m (pc + 1) ls (.int x :: rest))) : W p l e R s m args below meth c H locs cells slots Q (F0 m pc ls rest) := lv_iload_n C.1 C.2.1 hdg rfl (kl_at hl h) kk
theorem kl_iload (pc : Nat) (C : kx_C p s m args c cc own) {i : Nat} {x : Int32} (hdg : decode cc pc = .ok (.iload i, 2)) (hl : kl ls L) (h : L[i]? = some (some (.int x))) (kk : W p l e R s m args below meth c H locs cells slots Q (F0 m (pc + 2) ls (.int x :: rest))) : W p l e R s m args below meth c H locs cells slots Q (F0 m pc ls rest) := lv_iload C.1 C.2.1 hdg (kl_at hl h) kk
theorem kl_aload_n (pc : Nat) (C : kx_C p s m args c cc own) {k : Fin 4} {x : Nat} (hdg : decode cc pc = .ok (.aload_n k, 1)) (hl : kl ls L) (h : L[(k : Nat)]? = some (some (.ref x))) (kk : W p l e R s m args below meth c H locs cells slots Q (F0 m (pc + 1) ls (.ref x :: rest))) : W p l e R s m args below meth c H locs cells slots Q (F0 m pc ls rest) := lv_aload_n C.1 C.2.1 hdg rfl (kl_at hl h) kk
theorem kl_aload (pc : Nat) (C : kx_C p s m args c cc own) {i : Nat} {x : Nat} (hdg : decode cc pc = .ok (.aload i, 2)) (hl : kl ls L) (h : L[i]? = some (some (.ref x))) (kk : W p l e R s m args below meth c H locs cells slots Q (F0 m (pc + 2) ls (.ref x :: rest))) : W p l e R s m args below meth c H locs cells slots Q (F0 m pc ls rest) := lv_aload C.1 C.2.1 hdg (kl_at hl h) kk
theorem kl_istore_n (pc : Nat) (C : kx_C p s m args c cc own) {k : Fin 4} {x : Int32} (hdg : decode cc pc = .ok (.istore_n k, 1)) (hl : kl ls L) (hn : (k : Nat) < L.length) (kk : ∀ ls : Array Slot, kl ls (L.set k (some (.int x))) → W p l e R s m args below meth c H locs cells slots Q (F0 m (pc + 1) ls rest)) : W p l e R s m args below meth c H locs cells slots Q (F0 m pc ls (.int x :: rest)) := lv_istore_n C.1 C.2.1 hdg rfl hl.1 hn rfl (fun ls' h => kk ls' (kl_set hl.2 rfl h))
theorem kl_istore (pc : Nat) (C : kx_C p s m args c cc own) {i : Nat} {x : Int32} (hdg : decode cc pc = .ok (.istore i, 2)) (hl : kl ls L) (hn : i < L.length) (kk : ∀ ls : Array Slot, kl ls (L.set i (some (.int x))) → W p l e R s m args below meth c H locs cells slots Q (F0 m (pc + 2) ls rest)) : W p l e R s m args below meth c H locs cells slots Q (F0 m pc ls (.int x :: rest)) := lv_istore C.1 C.2.1 hdg hl.1 hn rfl (fun ls' h => kk ls' (kl_set hl.2 rfl h))
theorem kl_astore_n (pc : Nat) (C : kx_C p s m args c cc own) {k : Fin 4} {x : Nat} (hdg : decode cc pc = .ok (.astore_n k, 1)) (hl : kl ls L) (hn : (k : Nat) < L.length) (kk : ∀ ls : Array Slot, kl ls (L.set k (some (.ref x))) → W p l e R s m args below meth c H locs cells slots Q (F0 m (pc + 1) ls rest)) : W p l e R s m args below meth c H locs cells slots Q (F0 m pc ls (.ref x :: rest)) := lv_astore_n C.1 C.2.1 hdg rfl hl.1 hn rfl (fun ls' h => kk ls' (kl_set hl.2 rfl h))
theorem kl_astore (pc : Nat) (C : kx_C p s m args c cc own) {i : Nat} {x : Nat} (hdg : decode cc pc = .ok (.astore i, 2)) (hl : kl ls L) (hn : i < L.length) (kk : ∀ ls : Array Slot, kl ls (L.set i (some (.ref x))) → W p l e R s m args below meth c H locs cells slots Q (F0 m (pc + 2) ls rest)) : W p l e R s m args below meth c H locs cells slots Q (F0 m pc ls (.ref x :: rest)) := lv_astore C.1 C.2.1 hdg hl.1 hn rfl (fun ls' h => kk ls' (kl_set hl.2 rfl h))
theorem kl_iinc (pc : Nat) (C : kx_C p s m args c cc own) {i : Nat} {n : Int} {x v : Int32} (hdg : decode cc pc = .ok (.iinc i n, 3)) (hl : kl ls L) (h : L[i]? = some (some (.int x))) (hv : x + Int32.ofInt n = v) (kk : ∀ ls : Array Slot, kl ls (L.set i (some (.int v))) → W p l e R s m args below meth c H locs cells slots Q (F0 m (pc + 3) ls rest)) : W p l e R s m args below meth c H locs cells slots Q (F0 m pc ls rest) := by
  have hm := kl_mem.mpr h
  obtain ⟨k, hk⟩ := List.getElem?_of_mem hm
  exact lv_iinc (k := k) C.1 C.2.1 hdg hl.1 hk hv (List.getElem?_eq_some_iff.mp h).1 rfl (fun ls' h => kk ls' (kl_set hl.2 rfl h))
theorem kl_inc1 (pc : Nat) (C : kx_C p s m args c cc own) {i a : Nat} (hdg : decode cc pc = .ok (.iinc i 1, 3)) (hl : kl ls L) (h : L[i]? = some (some (.int (nI a)))) (kk : ∀ ls : Array Slot, kl ls (L.set i (some (.int (nI (a + 1))))) → W p l e R s m args below meth c H locs cells slots Q (F0 m (pc + 3) ls rest)) : W p l e R s m args below meth c H locs cells slots Q (F0 m pc ls rest) := kl_iinc pc C hdg hl h (nI_1 a) kk
end KL
end
section
/-! the tree: bits, ones, is -/
def rm_bits : Room := { frames := 0, cells := 0, slots := 0, locals := 0 }
theorem c_bits (l : Launch) (n : Nat) (hn : n < 2 ^ 32) : S_Mi l y_T_bits b_T_bits 2 rm_bits [.int (nI n)] (nI (pc_n n 32)) := by
  refine S_ofi R_T rfl (by decide) (Nat.le_of_ble_eq_true rfl) ?_
  intro p e s m args below meth c ls C hml hr hlk hl
  have hl : kl ls [some (.int (nI n)), none] := kl_of _ hl rfl rfl rfl
  have h1 : (n / 2 ^ 1 &&& 1431655765) ≤ n := Nat.le_trans Nat.and_le_left (Nat.div_le_self _ _)
  refine kl_iload_n 0 C d_T_bits_0 hl rfl ?_
  refine kl_iload_n 1 C d_T_bits_1 hl rfl ?_
  refine lv_iconst (pc := 2) (v := nI 1) C.1 C.2.1 d_T_bits_2 (by decide) ?_
  refine n_iushr 3 C d_T_bits_3 hn ?_
  refine lv_ldc (pc := 4) C.1 C.2.1 C.2.2.1 (C.2.2.2 _ tw_75) d_T_bits_4 ?_
  refine n_top (show (1431655765 : Int32) = nI 1431655765 by decide) ?_
  refine n_iand 6 C d_T_bits_6 ?_
  refine n_isub 7 C d_T_bits_7 h1 ?_
  generalize hx1 : n - (n / 2 ^ (1 % 32) &&& 1431655765) = x1
  have h2 : x1 < 2 ^ 32 := by rw [← hx1]; exact Nat.lt_of_le_of_lt (Nat.sub_le _ _) hn
  refine kl_istore_n 8 C d_T_bits_8 hl (Nat.le_of_ble_eq_true rfl) (fun ls hl => ?_)
  refine kl_iload_n 9 C d_T_bits_9 hl rfl ?_
  refine lv_ldc (pc := 10) C.1 C.2.1 C.2.2.1 (C.2.2.2 _ tw_76) d_T_bits_10 ?_
  refine n_top (show (858993459 : Int32) = nI 858993459 by decide) ?_
  refine n_iand 12 C d_T_bits_12 ?_
  refine kl_iload_n 13 C d_T_bits_13 hl rfl ?_
  refine lv_iconst (pc := 14) (v := nI 2) C.1 C.2.1 d_T_bits_14 (by decide) ?_
  refine n_iushr 15 C d_T_bits_15 h2 ?_
  refine lv_ldc (pc := 16) C.1 C.2.1 C.2.2.1 (C.2.2.2 _ tw_76) d_T_bits_16 ?_
  refine n_top (show (858993459 : Int32) = nI 858993459 by decide) ?_
  refine n_iand 18 C d_T_bits_18 ?_
  refine n_iadd 19 C d_T_bits_19 ?_
  generalize hx2 : (x1 &&& 858993459) + (x1 / 2 ^ (2 % 32) &&& 858993459) = x2
  have h4 : x2 < 2 ^ 32 := by
    rw [← hx2]
    have a1 : x1 &&& 858993459 ≤ 858993459 := Nat.and_le_right
    have a2 : x1 / 2 ^ (2 % 32) &&& 858993459 ≤ 858993459 := Nat.and_le_right
    omega
  refine kl_istore_n 20 C d_T_bits_20 hl (Nat.le_of_ble_eq_true rfl) (fun ls hl => ?_)
  refine kl_iload_n 21 C d_T_bits_21 hl rfl ?_
  refine kl_iload_n 22 C d_T_bits_22 hl rfl ?_
  refine lv_iconst (pc := 23) (v := nI 4) C.1 C.2.1 d_T_bits_23 (by decide) ?_
  refine n_iushr 24 C d_T_bits_24 h4 ?_
  refine n_iadd 25 C d_T_bits_25 ?_
  refine lv_ldc (pc := 26) C.1 C.2.1 C.2.2.1 (C.2.2.2 _ tw_77) d_T_bits_26 ?_
  refine n_top (show (252645135 : Int32) = nI 252645135 by decide) ?_
  refine n_iand 28 C d_T_bits_28 ?_
  generalize hx3 : (x2 + x2 / 2 ^ (4 % 32)) &&& 252645135 = x3
  refine kl_istore_n 29 C d_T_bits_29 hl (Nat.le_of_ble_eq_true rfl) (fun ls hl => ?_)
  refine kl_iload_n 30 C d_T_bits_30 hl rfl ?_
  refine lv_ldc (pc := 31) C.1 C.2.1 C.2.2.1 (C.2.2.2 _ tw_78) d_T_bits_31 ?_
  refine n_top (show (16843009 : Int32) = nI 16843009 by decide) ?_
  refine n_imul 33 C d_T_bits_33 ?_
  refine n_top (nI_mod (x3 * 16843009)).symm ?_
  refine lv_bipush (pc := 34) (v := nI 24) C.1 C.2.1 d_T_bits_34 (by decide) ?_
  refine n_iushr 36 C d_T_bits_36 (Nat.mod_lt _ (by decide)) ?_
  have hfin : x3 * 16843009 % 2 ^ 32 / 2 ^ (24 % 32) = pc_n n 32 := by
    rw [← pc_ok n hn]
    unfold pc_m
    simp only [← hx3, ← hx2, ← hx1]
  rw [hfin]
  exact S_iret 37 C hr hlk rfl d_T_bits_37
end
section
/-! what the built arrays hold -/
def wm_rk (A : Nat → Nat → Nat) (l i : Nat) : Nat := wm_ct (wm_b (A l) (8 - l)) i
def Bd_l (G : Nat → Nat → Int32) (n : Nat) (A : Nat → Nat → Nat) (l : Nat) : Prop :=
  G 6 l = nI (n - wm_rk A l n) ∧ (∀ w, w < 127 → G 5 (l * 127 + w) = nI (wm_rk A l (min (32 * w) n))) ∧
  ∀ w, w < 127 → ∃ x, x < 2 ^ 32 ∧ G 4 (l * 127 + w) = nI x ∧ ∀ b, b < 32 → x.testBit b = (decide (32 * w + b < n) && (A l (32 * w + b)).testBit (8 - l))
def Bd (G : Nat → Nat → Int32) (n : Nat) (A : Nat → Nat → Nat) : Prop := ∀ l, l < 9 → Bd_l G n A l
theorem wm_rk_le (A : Nat → Nat → Nat) (l i : Nat) : wm_rk A l i ≤ i := wm_ct_le _ _
theorem wm_rk_mono (A : Nat → Nat → Nat) (l : Nat) {i j : Nat} (h : i ≤ j) : wm_rk A l i ≤ wm_rk A l j := wm_ct_mono _ h
/-- ranks within a word -/
theorem wm_rk_word {A : Nat → Nat → Nat} {l n w r x : Nat} (hr : r ≤ 32) (hn : 32 * w + r ≤ n) (hx : ∀ b, b < 32 → x.testBit b = (decide (32 * w + b < n) && (A l (32 * w + b)).testBit (8 - l))) : wm_rk A l (32 * w + r) = wm_rk A l (32 * w) + pc_n x r := by
  unfold wm_rk pc_n
  rw [wm_ct_add]
  congr 1
  refine wm_ct_congr (fun b hb => ?_)
  rw [hx b (by omega), decide_eq_true (show 32 * w + b < n by omega), Bool.true_and]
  rfl
end
section
/-! the tree: ones, is -/
def rm_ones : Room := { frames := 1, cells := 0, slots := 0, locals := 21 }
theorem c_ones (l : Launch) (D : va_G) (cI : ClassId) (q : Nat → Nat) (f : Nat → Int32) (G : Nat → Nat → Int32) {n : Nat} {A0 : Nat → Nat → Nat} {lv i : Nat} (hn : n ≤ 4000) (hlv : lv < 9) (hi : i ≤ n) (hB : Bd_l G n A0 lv) :
    T_Mi l y_T_ones b_T_ones 3 (some .int) rm_ones D cI q f G [.int (nI lv), .int (nI i)] (fun r f' G' => r = nI (wm_rk A0 lv i) ∧ f' = f ∧ G' = G) := by
  refine T_ofi rfl (Nat.le_of_ble_eq_true rfl) ?_
  intro p e s m args below meth c ls A E w hl
  have hl : kl ls [some (.ref (q 0)), some (.int (nI lv)), some (.int (nI i))] := kl_of _ hl rfl rfl rfl
  obtain ⟨-, hB5, hB4⟩ := hB
  have hw : i / 32 < 127 := by omega
  have h5 : G 5 (lv * 127 + i / 32) = nI (wm_rk A0 lv (32 * (i / 32))) := by
    rw [hB5 _ hw]; congr 2; omega
  obtain ⟨x, hx1, hx2, hx3⟩ := hB4 _ hw
  refine kl_aload_n 0 E.1 d_T_ones_0 hl rfl ?_
  refine T_ga 1 E.1 w 5 (by decide) l_T_ones d_T_ones_1 ?_
  refine kl_iload_n 4 E.1 d_T_ones_4 hl rfl ?_
  refine lv_bipush (pc := 5) (v := nI 127) E.1.1 E.1.2.1 d_T_ones_5 (by decide) ?_
  refine n_imul 7 E.1 d_T_ones_7 ?_
  refine kl_iload_n 8 E.1 d_T_ones_8 hl rfl ?_
  refine lv_iconst (pc := 9) (v := nI 5) E.1.1 E.1.2.1 d_T_ones_9 (by decide) ?_
  refine n_ishr 10 E.1 d_T_ones_10 (by omega) ?_
  refine n_top (show nI (i / 2 ^ (5 % 32)) = nI (i / 32) from rfl) ?_
  refine n_iadd 11 E.1 d_T_ones_11 ?_
  refine T_ald 12 E.1 w 5 (by decide) d_T_ones_12 (show _ < 1143 by omega) ?_
  refine n_top (h5) ?_
  refine kl_iload_n 13 E.1 d_T_ones_13 hl rfl ?_
  refine lv_bipush (pc := 14) (v := nI 31) E.1.1 E.1.2.1 d_T_ones_14 (by decide) ?_
  refine n_iand 16 E.1 d_T_ones_16 ?_
  refine n_top (congrArg nI (Nat.and_two_pow_sub_one_eq_mod i 5)) ?_
  refine n_if_ne 17 (tgt := 24) E.1 d_T_ones_17 rfl (by omega) (fun h17 => ?_) (fun h17 => ?_)
  · refine kl_aload_n 24 E.1 d_T_ones_24 hl rfl ?_
    refine T_ga 25 E.1 w 4 (by decide) l_T_word d_T_ones_25 ?_
    refine kl_iload_n 28 E.1 d_T_ones_28 hl rfl ?_
    refine lv_bipush (pc := 29) (v := nI 127) E.1.1 E.1.2.1 d_T_ones_29 (by decide) ?_
    refine n_imul 31 E.1 d_T_ones_31 ?_
    refine kl_iload_n 32 E.1 d_T_ones_32 hl rfl ?_
    refine lv_iconst (pc := 33) (v := nI 5) E.1.1 E.1.2.1 d_T_ones_33 (by decide) ?_
    refine n_ishr 34 E.1 d_T_ones_34 (by omega) ?_
    refine n_top (show nI (i / 2 ^ (5 % 32)) = nI (i / 32) from rfl) ?_
    refine n_iadd 35 E.1 d_T_ones_35 ?_
    refine T_ald 36 E.1 w 4 (by decide) d_T_ones_36 (show _ < 1143 by omega) ?_
    refine n_top (hx2) ?_
    refine lv_bipush (pc := 37) (v := nI 32) E.1.1 E.1.2.1 d_T_ones_37 (by decide) ?_
    refine kl_iload_n 39 E.1 d_T_ones_39 hl rfl ?_
    refine lv_bipush (pc := 40) (v := nI 31) E.1.1 E.1.2.1 d_T_ones_40 (by decide) ?_
    refine n_iand 42 E.1 d_T_ones_42 ?_
    refine n_top (congrArg nI (Nat.and_two_pow_sub_one_eq_mod i 5)) ?_
    refine n_isub 43 E.1 d_T_ones_43 (by omega) ?_
    refine n_ishl 44 E.1 d_T_ones_44 ?_
    refine n_top (show nI (x * 2 ^ ((32 - i % 2 ^ 5) % 32)) = nI (x * 2 ^ (32 - i % 32) % 2 ^ 32) by rw [nI_mod, show (32 - i % 2 ^ 5) % 32 = 32 - i % 32 by omega]) ?_
    refine S_ci 45 E (c_bits l _ (Nat.mod_lt _ (by decide))) (cv_T_T_bits E.1.2.2.2 rfl rfl ⟨by decide, by decide⟩) (kl_sz hl) rfl rfl (Nat.le_of_ble_eq_true rfl) d_T_ones_45 ?_
    rw [pc_top (by omega)]
    refine n_iadd 48 E.1 d_T_ones_48 ?_
    refine T_iret 49 E w d_T_ones_49 ⟨?_, rfl, rfl⟩
    have hk := wm_rk_word (A := A0) (l := lv) (n := n) (w := i / 32) (r := i % 32) (x := x) (by omega) (by omega) hx3
    rw [← hk]
    congr 2; omega
  · refine lv_iconst (pc := 20) (v := nI 0) E.1.1 E.1.2.1 d_T_ones_20 (by decide) ?_
    refine lv_goto (pc := 21) (tgt := 48) E.1.1 E.1.2.1 d_T_ones_21 rfl ?_
    refine n_iadd 48 E.1 d_T_ones_48 ?_
    refine T_iret 49 E w d_T_ones_49 ⟨?_, rfl, rfl⟩
    rw [Nat.add_zero]
    congr 2; have h17 : i % 32 = 0 := h17
    omega
def rm_is : Room := { frames := 0, cells := 0, slots := 0, locals := 0 }
theorem c_is (l : Launch) (D : va_G) (cI : ClassId) (q : Nat → Nat) (f : Nat → Int32) (G : Nat → Nat → Int32) {n : Nat} {A0 : Nat → Nat → Nat} {lv i : Nat} (hn : n ≤ 4000) (hlv : lv < 9) (hi : i < n) (hB : Bd_l G n A0 lv) :
    T_Mi l y_T_is b_T_is 3 (some .boolean) rm_is D cI q f G [.int (nI lv), .int (nI i)] (fun r f' G' => r = nI ((A0 lv i).testBit (8 - lv)).toNat ∧ f' = f ∧ G' = G) := by
  refine T_ofi rfl (Nat.le_of_ble_eq_true rfl) ?_
  intro p e s m args below meth c ls A E w hl
  have hl : kl ls [some (.ref (q 0)), some (.int (nI lv)), some (.int (nI i))] := kl_of _ hl rfl rfl rfl
  obtain ⟨-, -, hB4⟩ := hB
  have hw : i / 32 < 127 := by omega
  obtain ⟨x, hx1, hx2, hx3⟩ := hB4 _ hw
  have hbit : x.testBit (i % 32) = (A0 lv i).testBit (8 - lv) := by
    rw [hx3 (i % 32) (by omega), show 32 * (i / 32) + i % 32 = i by omega, decide_eq_true hi, Bool.true_and]
  have hand : (x / 2 ^ (i % 32) &&& 1) = ((A0 lv i).testBit (8 - lv)).toNat := by
    rw [← hbit, ← wm_tb]; exact Nat.and_two_pow_sub_one_eq_mod _ 1
  refine kl_aload_n 0 E.1 d_T_is_0 hl rfl ?_
  refine T_ga 1 E.1 w 4 (by decide) l_T_word d_T_is_1 ?_
  refine kl_iload_n 4 E.1 d_T_is_4 hl rfl ?_
  refine lv_bipush (pc := 5) (v := nI 127) E.1.1 E.1.2.1 d_T_is_5 (by decide) ?_
  refine n_imul 7 E.1 d_T_is_7 ?_
  refine kl_iload_n 8 E.1 d_T_is_8 hl rfl ?_
  refine lv_iconst (pc := 9) (v := nI 5) E.1.1 E.1.2.1 d_T_is_9 (by decide) ?_
  refine n_ishr 10 E.1 d_T_is_10 (by omega) ?_
  refine n_top (show nI (i / 2 ^ (5 % 32)) = nI (i / 32) from rfl) ?_
  refine n_iadd 11 E.1 d_T_is_11 ?_
  refine T_ald 12 E.1 w 4 (by decide) d_T_is_12 (show _ < 1143 by omega) ?_
  refine n_top (hx2) ?_
  refine kl_iload_n 13 E.1 d_T_is_13 hl rfl ?_
  refine n_iushr 14 E.1 d_T_is_14 hx1 ?_
  refine lv_iconst (pc := 15) (v := nI 1) E.1.1 E.1.2.1 d_T_is_15 (by decide) ?_
  refine n_iand 16 E.1 d_T_is_16 ?_
  refine n_top (congrArg nI hand) ?_
  refine lv_iconst (pc := 17) (v := nI 1) E.1.1 E.1.2.1 d_T_is_17 (by decide) ?_
  have hle := Bool.toNat_le ((A0 lv i).testBit (8 - lv))
  refine n_icmp_ne 18 (tgt := 25) E.1 d_T_is_18 rfl (by omega) (by omega) (fun h18 => ?_) (fun h18 => ?_)
  · refine lv_iconst (pc := 25) (v := nI 0) E.1.1 E.1.2.1 d_T_is_25 (by decide) ?_
    exact T_zret 26 E w d_T_is_26 rfl ⟨by congr 1; omega, rfl, rfl⟩
  · refine lv_iconst (pc := 21) (v := nI 1) E.1.1 E.1.2.1 d_T_is_21 (by decide) ?_
    refine lv_goto (pc := 22) (tgt := 26) E.1.1 E.1.2.1 d_T_is_22 rfl ?_
    exact T_zret 26 E w d_T_is_26 rfl ⟨by congr 1; omega, rfl, rfl⟩
end
section
/-! the tree: part, number(v, most), cut, add, count, number(i); those that throw -/
def rm_0 : Room := { frames := 0, cells := 0, slots := 0, locals := 0 }
def rm_t : Room := { frames := 6, cells := 1, slots := 6, locals := 81 }
/-- a part of the built row -/
def kp_ok (n x y : Int32) : Prop := (0 ≤ x ∧ x ≤ y) ∧ y ≤ n
theorem kp_nat {n : Nat} {x y : Int32} (hn : n ≤ 4000) (h : kp_ok (nI n) x y) : ∃ a b : Nat, x = nI a ∧ y = nI b ∧ a ≤ b ∧ b ≤ n := by
  obtain ⟨⟨h1, h2⟩, h3⟩ := h
  obtain ⟨a, ha, rfl⟩ := nI_of (Int32.not_lt.mpr h1)
  obtain ⟨b, hb, rfl⟩ := nI_of (Int32.not_lt.mpr (Int32.le_trans h1 h2))
  exact ⟨a, b, rfl, rfl, (nI_leI ha hb).mp h2, (nI_leI hb (by omega)).mp h3⟩
/-- all but low and high are as they were -/
def fk (f f' : Nat → Int32) : Prop := ∀ j, j < 5 → f' j = f j
theorem fk.rf (f : Nat → Int32) : fk f f := fun _ _ => rfl
theorem fk.up5 {f f' : Nat → Int32} (h : fk f f') (v : Int32) : fk f (upd f' 5 v) := fun j hj => by rw [pk_un (by omega)]; exact h j hj
theorem fk.up6 {f f' : Nat → Int32} (h : fk f f') (v : Int32) : fk f (upd f' 6 v) := fun j hj => by rw [pk_un (by omega)]; exact h j hj
theorem fk.tr {f f' f'' : Nat → Int32} (h : fk f f') (h' : fk f' f'') : fk f f'' := fun j hj => (h' j hj).trans (h j hj)
theorem c_part (l : Launch) (D : va_G) (cI : ClassId) (q : Nat → Nat) (f : Nat → Int32) (G : Nat → Nat → Int32) {n a b : Nat} (hn : n ≤ 4000) (hf : f 1 = nI n) (hab : a ≤ b) (hb : b ≤ n) : T_Mv l y_T_part b_T_part 3 rm_0 D cI q f G [.int (nI a), .int (nI b)] (fun f' G' => f' = f ∧ G' = G) := by
  refine T_ofv rfl (Nat.le_of_ble_eq_true rfl) ?_
  intro p e s m args below meth c ls A E w hl
  have hl : kl ls [some (.ref (q 0)), some (.int (nI a)), some (.int (nI b))] := kl_of _ hl rfl rfl rfl
  refine kl_iload_n 0 E.1 d_T_part_0 hl rfl ?_
  refine n_if_lt 1 E.1 d_T_part_1 (by omega) 17 rfl ?_
  refine kl_iload_n 4 E.1 d_T_part_4 hl rfl ?_
  refine kl_iload_n 5 E.1 d_T_part_5 hl rfl ?_
  refine n_icmp_lt 6 (tgt := 17) E.1 d_T_part_6 rfl (by omega) (by omega) (fun h6 => ?_) (fun h6 => ?_)
  · exact absurd h6 (by omega)
  · refine kl_iload_n 9 E.1 d_T_part_9 hl rfl ?_
    refine kl_aload_n 10 E.1 d_T_part_10 hl rfl ?_
    refine T_gi 11 E.1 w 1 (by decide) l_T_size d_T_part_11 ?_
    refine n_top (hf) ?_
    refine n_icmp_le 14 (tgt := 25) E.1 d_T_part_14 rfl (by omega) (by omega) (fun h14 => ?_) (fun h14 => ?_)
    · exact T_vret 25 E w d_T_part_25 ⟨rfl, rfl⟩
    · exact absurd h14 (by omega)
theorem c_part_t (l : Launch) (D : va_G) (cI : ClassId) (q : Nat → Nat) (f : Nat → Int32) (G : Nat → Nat → Int32) (hfl : l.flags = flags0) {x y : Int32} (hbad : ¬ kp_ok (f 1) x y) : T_Mt l y_T_part b_T_part 3 none rm_t D cI q f G [.int x, .int y] R_IAE (fun f' G' => f' = f ∧ G' = G) := by
  refine T_oft rfl (Nat.le_of_ble_eq_true rfl) ?_
  intro p e s m args below meth c ls A E w hX hns hl
  have hl : kl ls [some (.ref (q 0)), some (.int x), some (.int y)] := kl_of _ hl rfl rfl rfl
  refine kl_iload_n 0 E.1 d_T_part_0 hl rfl ?_
  refine lv_if_lt (pc := 1) (tgt := 17) E.1.1 E.1.2.1 d_T_part_1 rfl (fun h1 => ?_) (fun h1 => ?_)
  · exact T_throw 17 E hfl w hX hns (kl_sz hl) fit_iae kt_iae tw_162 tw_163 tw_7 d_T_part_17 d_T_part_20 d_T_part_21 d_T_part_24 (by decide) ⟨rfl, rfl⟩
  · refine kl_iload_n 4 E.1 d_T_part_4 hl rfl ?_
    refine kl_iload_n 5 E.1 d_T_part_5 hl rfl ?_
    refine lv_icmp_lt (pc := 6) (tgt := 17) E.1.1 E.1.2.1 d_T_part_6 rfl (fun h6 => ?_) (fun h6 => ?_)
    · exact T_throw 17 E hfl w hX hns (kl_sz hl) fit_iae kt_iae tw_162 tw_163 tw_7 d_T_part_17 d_T_part_20 d_T_part_21 d_T_part_24 (by decide) ⟨rfl, rfl⟩
    · refine kl_iload_n 9 E.1 d_T_part_9 hl rfl ?_
      refine kl_aload_n 10 E.1 d_T_part_10 hl rfl ?_
      refine T_gi 11 E.1 w 1 (by decide) l_T_size d_T_part_11 ?_
      refine lv_icmp_le (pc := 14) (tgt := 25) E.1.1 E.1.2.1 d_T_part_14 rfl (fun h14 => ?_) (fun h14 => ?_)
      · exact absurd ⟨⟨Int32.not_lt.mp h1, Int32.not_lt.mp h6⟩, h14⟩ hbad
      · exact T_throw 17 E hfl w hX hns (kl_sz hl) fit_iae kt_iae tw_162 tw_163 tw_7 d_T_part_17 d_T_part_20 d_T_part_21 d_T_part_24 (by decide) ⟨rfl, rfl⟩
theorem c_numchk (l : Launch) {v mx : Nat} (hv : v ≤ mx) (hm : mx ≤ 512) : S_Mv l y_T_numchk b_T_numchk 2 rm_0 [.int (nI v), .int (nI mx)] := by
  refine S_ofv R_T rfl (by decide) (Nat.le_of_ble_eq_true rfl) ?_
  intro p e s m args below meth c ls C hml hr hlk hl
  have hl : kl ls [some (.int (nI v)), some (.int (nI mx))] := kl_of _ hl rfl rfl rfl
  refine kl_iload_n 0 C d_T_numchk_0 hl rfl ?_
  refine n_if_lt 1 C d_T_numchk_1 (by omega) 9 rfl ?_
  refine kl_iload_n 4 C d_T_numchk_4 hl rfl ?_
  refine kl_iload_n 5 C d_T_numchk_5 hl rfl ?_
  refine n_icmp_le 6 (tgt := 17) C d_T_numchk_6 rfl (by omega) (by omega) (fun h6 => ?_) (fun h6 => ?_)
  · exact S_vret 17 C hr hlk rfl d_T_numchk_17
  · exact absurd h6 (by omega)
theorem c_numchk_t (l : Launch) (hfl : l.flags = flags0) {x y : Int32} (hbad : ¬ (0 ≤ x ∧ x ≤ y)) : S_Mt l y_T_numchk b_T_numchk 2 none rm_t [.int x, .int y] R_IAE := by
  intro sz
  refine MetT.ofW (cc := b_T_numchk) (maxL := 2) (ret := none) (by decide) rfl ?_
  intro p e s m args below meth c s₁ B hml hv
  obtain ⟨rfl, hsz, hX⟩ := hv
  have hts := atoms_spec (ws := .code y_T_numchk b_T_numchk 2 none :: lw_g) B.pre
  have hown : s.vm.findClass R_T = some m.cls := findClass_of_methodNamed B.named
  have hxt := BodyLoose.noHandlers B (hts _ List.mem_cons_self)
  subst hsz
  rw [lg_entry_eq]
  have hl := lv_entry [.int x, .int y] (n := 2) (Nat.le_of_ble_eq_true rfl)
  generalize (lg_sl ([.int x, .int y]) ++ List.replicate (2 - (lg_sl ([.int x, .int y])).length) Slot.unset).toArray = ls at hl ⊢
  have hl : kl ls [some (.int x), some (.int y)] := kl_of _ hl rfl rfl rfl
  have C : kx_C p s m ([.int x, .int y] : List Value).toArray c b_T_numchk R_T := ⟨B.exec, B.bytes, hown, fun w h => hts w (List.mem_cons_of_mem _ h)⟩
  have fin : ∀ pc : Nat, pc = 9 → W p l e rm_t s m ([.int x, .int y] : List Value).toArray below meth c s.heap [] 0 0 (MQT below (va_Qt R_IAE (fun (_ : Unit) => True) (fun _ _ => True) (fun z => s.heap.size ≤ z)) ([.int x, .int y] : List Value).toArray s 1 6 (fun z => s.heap.size ≤ z)) (F0 m 9 ls []) := by
    intro pc _
    refine kt_throw 9 C hfl hxt B.notSynchronized fit_iae kt_iae hX tw_162 tw_163 tw_7 ((kl_sz hl).trans hml.symm) (fun x hx => by cases hx) (Nat.le_refl _) d_T_numchk_9 d_T_numchk_12 d_T_numchk_13 d_T_numchk_16 (by decide) (by decide) (by decide) (by decide) (fun t h1 h2 h3 hW => ⟨⟨s.heap.size, (), rfl, h3, trivial, trivial⟩, by omega, fun z hz hA => h2 z hz⟩) (fun z hz => by cases hz) (fun z hz => hz)
  refine kl_iload_n 0 C d_T_numchk_0 hl rfl ?_
  refine lv_if_lt (pc := 1) (tgt := 9) C.1 C.2.1 d_T_numchk_1 rfl (fun h1 => ?_) (fun h1 => ?_)
  · exact fin 9 rfl
  · refine kl_iload_n 4 C d_T_numchk_4 hl rfl ?_
    refine kl_iload_n 5 C d_T_numchk_5 hl rfl ?_
    refine lv_icmp_le (pc := 6) (tgt := 17) C.1 C.2.1 d_T_numchk_6 rfl (fun h6 => ?_) (fun h6 => ?_)
    · exact absurd ⟨Int32.not_lt.mp h1, h6⟩ hbad
    · exact fin 9 rfl
theorem c_cut (l : Launch) (D : va_G) (cI : ClassId) (q : Nat → Nat) (f : Nat → Int32) (G : Nat → Nat → Int32) {n a : Nat} (hn : n ≤ 4000) (hf : f 0 = nI n) (ha : a ≤ n) : T_Mi l y_T_cut b_T_cut 2 (some .int) rm_0 D cI q f G [.int (nI a)] (fun r f' G' => r = nI a ∧ f' = upd f 0 (nI a) ∧ G' = G) := by
  refine T_ofi rfl (Nat.le_of_ble_eq_true rfl) ?_
  intro p e s m args below meth c ls A E w hl
  have hl : kl ls [some (.ref (q 0)), some (.int (nI a))] := kl_of _ hl rfl rfl rfl
  refine kl_iload_n 0 E.1 d_T_cut_0 hl rfl ?_
  refine n_if_lt 1 E.1 d_T_cut_1 (by omega) 12 rfl ?_
  refine kl_iload_n 4 E.1 d_T_cut_4 hl rfl ?_
  refine kl_aload_n 5 E.1 d_T_cut_5 hl rfl ?_
  refine T_gi 6 E.1 w 0 (by decide) l_T_length d_T_cut_6 ?_
  refine n_top (hf) ?_
  refine n_icmp_le 9 (tgt := 20) E.1 d_T_cut_9 rfl (by omega) (by omega) (fun h9 => ?_) (fun h9 => ?_)
  · refine kl_aload_n 20 E.1 d_T_cut_20 hl rfl ?_
    refine kl_iload_n 21 E.1 d_T_cut_21 hl rfl ?_
    refine T_pi 22 E.1 w 0 (by decide) l_T_length d_T_cut_22 (fun H locs w => ?_)
    refine kl_iload_n 25 E.1 d_T_cut_25 hl rfl ?_
    exact T_iret 26 E w d_T_cut_26 ⟨rfl, rfl, rfl⟩
  · exact absurd h9 (by omega)
theorem c_cut_t (l : Launch) (D : va_G) (cI : ClassId) (q : Nat → Nat) (f : Nat → Int32) (G : Nat → Nat → Int32) (hfl : l.flags = flags0) {x : Int32} (hbad : ¬ (0 ≤ x ∧ x ≤ f 0)) : T_Mt l y_T_cut b_T_cut 2 (some .int) rm_t D cI q f G [.int x] R_IAE (fun f' G' => f' = f ∧ G' = G) := by
  refine T_oft rfl (Nat.le_of_ble_eq_true rfl) ?_
  intro p e s m args below meth c ls A E w hX hns hl
  have hl : kl ls [some (.ref (q 0)), some (.int x)] := kl_of _ hl rfl rfl rfl
  refine kl_iload_n 0 E.1 d_T_cut_0 hl rfl ?_
  refine lv_if_lt (pc := 1) (tgt := 12) E.1.1 E.1.2.1 d_T_cut_1 rfl (fun h1 => ?_) (fun h1 => ?_)
  · exact T_throw 12 E hfl w hX hns (kl_sz hl) fit_iae kt_iae tw_162 tw_163 tw_7 d_T_cut_12 d_T_cut_15 d_T_cut_16 d_T_cut_19 (by decide) ⟨rfl, rfl⟩
  · refine kl_iload_n 4 E.1 d_T_cut_4 hl rfl ?_
    refine kl_aload_n 5 E.1 d_T_cut_5 hl rfl ?_
    refine T_gi 6 E.1 w 0 (by decide) l_T_length d_T_cut_6 ?_
    refine lv_icmp_le (pc := 9) (tgt := 20) E.1.1 E.1.2.1 d_T_cut_9 rfl (fun h9 => ?_) (fun h9 => ?_)
    · exact absurd ⟨Int32.not_lt.mp h1, h9⟩ hbad
    · exact T_throw 12 E hfl w hX hns (kl_sz hl) fit_iae kt_iae tw_162 tw_163 tw_7 d_T_cut_12 d_T_cut_15 d_T_cut_16 d_T_cut_19 (by decide) ⟨rfl, rfl⟩
theorem c_at_t (l : Launch) (D : va_G) (cI : ClassId) (q : Nat → Nat) (f : Nat → Int32) (G : Nat → Nat → Int32) (hfl : l.flags = flags0) {x : Int32} (hbad : ¬ (0 ≤ x ∧ x < f 1)) : T_Mt l y_T_at b_T_at 6 (some .int) rm_t D cI q f G [.int x] R_NSE (fun f' G' => f' = f ∧ G' = G) := by
  refine T_oft rfl (Nat.le_of_ble_eq_true rfl) ?_
  intro p e s m args below meth c ls A E w hX hns hl
  have hl : kl ls [some (.ref (q 0)), some (.int x), none, none, none, none] := kl_of _ hl rfl rfl rfl
  refine kl_iload_n 0 E.1 d_T_at_0 hl rfl ?_
  refine lv_if_lt (pc := 1) (tgt := 12) E.1.1 E.1.2.1 d_T_at_1 rfl (fun h1 => ?_) (fun h1 => ?_)
  · exact T_throw 12 E hfl w hX hns (kl_sz hl) fit_nse kt_nse tw_185 tw_186 tw_8 d_T_at_12 d_T_at_15 d_T_at_16 d_T_at_19 (by decide) ⟨rfl, rfl⟩
  · refine kl_iload_n 4 E.1 d_T_at_4 hl rfl ?_
    refine kl_aload_n 5 E.1 d_T_at_5 hl rfl ?_
    refine T_gi 6 E.1 w 1 (by decide) l_T_size d_T_at_6 ?_
    refine lv_icmp_lt (pc := 9) (tgt := 20) E.1.1 E.1.2.1 d_T_at_9 rfl (fun h9 => ?_) (fun h9 => ?_)
    · exact absurd ⟨Int32.not_lt.mp h1, h9⟩ hbad
    · exact T_throw 12 E hfl w hX hns (kl_sz hl) fit_nse kt_nse tw_185 tw_186 tw_8 d_T_at_12 d_T_at_15 d_T_at_16 d_T_at_19 (by decide) ⟨rfl, rfl⟩
theorem c_number_t (l : Launch) (D : va_G) (cI : ClassId) (q : Nat → Nat) (f : Nat → Int32) (G : Nat → Nat → Int32) (hfl : l.flags = flags0) {x : Int32} (hbad : ¬ (0 ≤ x ∧ x < f 2)) : T_Mt l y_T_number b_T_number 2 (some .int) rm_t D cI q f G [.int x] R_NSE (fun f' G' => f' = f ∧ G' = G) := by
  refine T_oft rfl (Nat.le_of_ble_eq_true rfl) ?_
  intro p e s m args below meth c ls A E w hX hns hl
  have hl : kl ls [some (.ref (q 0)), some (.int x)] := kl_of _ hl rfl rfl rfl
  refine kl_iload_n 0 E.1 d_T_number_0 hl rfl ?_
  refine lv_if_lt (pc := 1) (tgt := 12) E.1.1 E.1.2.1 d_T_number_1 rfl (fun h1 => ?_) (fun h1 => ?_)
  · exact T_throw 12 E hfl w hX hns (kl_sz hl) fit_nse kt_nse tw_185 tw_186 tw_8 d_T_number_12 d_T_number_15 d_T_number_16 d_T_number_19 (by decide) ⟨rfl, rfl⟩
  · refine kl_iload_n 4 E.1 d_T_number_4 hl rfl ?_
    refine kl_aload_n 5 E.1 d_T_number_5 hl rfl ?_
    refine T_gi 6 E.1 w 2 (by decide) l_T_founds d_T_number_6 ?_
    refine lv_icmp_lt (pc := 9) (tgt := 20) E.1.1 E.1.2.1 d_T_number_9 rfl (fun h9 => ?_) (fun h9 => ?_)
    · exact absurd ⟨Int32.not_lt.mp h1, h9⟩ hbad
    · exact T_throw 12 E hfl w hX hns (kl_sz hl) fit_nse kt_nse tw_185 tw_186 tw_8 d_T_number_12 d_T_number_15 d_T_number_16 d_T_number_19 (by decide) ⟨rfl, rfl⟩
theorem c_count (l : Launch) (D : va_G) (cI : ClassId) (q : Nat → Nat) (f : Nat → Int32) (G : Nat → Nat → Int32) (x : Int32) : T_Mi l y_T_count b_T_count 2 (some .int) rm_0 D cI q f G [.int x] (fun r f' G' => r = (if x = 0 then f 0 else if x = 1 then f 1 else -1) ∧ f' = f ∧ G' = G) := by
  refine T_ofi rfl (Nat.le_of_ble_eq_true rfl) ?_
  intro p e s m args below meth c ls A E w hl
  have hl : kl ls [some (.ref (q 0)), some (.int x)] := kl_of _ hl rfl rfl rfl
  refine kl_iload_n 0 E.1 d_T_count_0 hl rfl ?_
  refine lv_if_ne (pc := 1) (tgt := 11) E.1.1 E.1.2.1 d_T_count_1 rfl (fun h1 => ?_) (fun h1 => ?_)
  · refine kl_iload_n 11 E.1 d_T_count_11 hl rfl ?_
    refine lv_iconst (pc := 12) (v := nI 1) E.1.1 E.1.2.1 d_T_count_12 (by decide) ?_
    refine lv_icmp_ne (pc := 13) (tgt := 23) E.1.1 E.1.2.1 d_T_count_13 rfl (fun h13 => ?_) (fun h13 => ?_)
    · refine lv_iconst (pc := 23) (v := -1) E.1.1 E.1.2.1 d_T_count_23 (by decide) ?_
      exact T_iret 24 E w d_T_count_24 ⟨by rw [if_neg h1, if_neg (show ¬ x = 1 from h13)], rfl, rfl⟩
    · refine kl_aload_n 16 E.1 d_T_count_16 hl rfl ?_
      refine T_gi 17 E.1 w 1 (by decide) l_T_size d_T_count_17 ?_
      refine lv_goto (pc := 20) (tgt := 24) E.1.1 E.1.2.1 d_T_count_20 rfl ?_
      exact T_iret 24 E w d_T_count_24 ⟨by rw [if_neg h1, if_pos (show x = 1 from h13)], rfl, rfl⟩
  · refine kl_aload_n 4 E.1 d_T_count_4 hl rfl ?_
    refine T_gi 5 E.1 w 0 (by decide) l_T_length d_T_count_5 ?_
    refine lv_goto (pc := 8) (tgt := 24) E.1.1 E.1.2.1 d_T_count_8 rfl ?_
    exact T_iret 24 E w d_T_count_24 ⟨by rw [if_pos h1], rfl, rfl⟩
theorem c_add (l : Launch) (D : va_G) (cI : ClassId) (q : Nat → Nat) (f : Nat → Int32) (G : Nat → Nat → Int32) {n : Nat} (hn : n + 3 ≤ 4000) (hf : f 0 = nI n) (x y z : Int32) : T_Mi l y_T_add b_T_add 4 (some .int) rm_0 D cI q f G [.int x, .int y, .int z] (fun r f' G' => r = nI (n + 3) ∧ f' = upd f 0 (nI (n + 3)) ∧ G' = va_up G 1 (upd (upd (upd (G 1) n (nI (x.toBitVec.toNat % 512))) (n + 1) (nI (y.toBitVec.toNat % 512))) (n + 2) (nI (z.toBitVec.toNat % 512)))) := by
  refine T_ofi rfl (Nat.le_of_ble_eq_true rfl) ?_
  intro p e s m args below meth c ls A E w hl
  have hl : kl ls [some (.ref (q 0)), some (.int x), some (.int y), some (.int z)] := kl_of _ hl rfl rfl rfl
  have hm : ∀ u : Int32, u &&& nI 511 = nI (u.toBitVec.toNat % 512) := fun u => pk_and u 9 rfl
  refine kl_aload_n 0 E.1 d_T_add_0 hl rfl ?_
  refine T_gi 1 E.1 w 0 (by decide) l_T_length d_T_add_1 ?_
  refine n_top (hf) ?_
  refine lv_iconst (pc := 4) (v := nI 3) E.1.1 E.1.2.1 d_T_add_4 (by decide) ?_
  refine n_iadd 5 E.1 d_T_add_5 ?_
  refine lv_sipush (pc := 6) (v := nI 4000) E.1.1 E.1.2.1 d_T_add_6 (by decide) ?_
  refine n_icmp_le 9 (tgt := 20) E.1 d_T_add_9 rfl (by omega) (by omega) (fun h9 => ?_) (fun h9 => ?_)
  · refine kl_aload_n 20 E.1 d_T_add_20 hl rfl ?_
    refine T_ga 21 E.1 w 1 (by decide) l_T_row d_T_add_21 ?_
    refine kl_aload_n 24 E.1 d_T_add_24 hl rfl ?_
    refine T_gi 25 E.1 w 0 (by decide) l_T_length d_T_add_25 ?_
    refine n_top (hf) ?_
    refine kl_iload_n 28 E.1 d_T_add_28 hl rfl ?_
    refine lv_sipush (pc := 29) (v := nI 511) E.1.1 E.1.2.1 d_T_add_29 (by decide) ?_
    refine lv_iand (pc := 32) E.1.1 E.1.2.1 d_T_add_32 ?_
    refine n_top (hm x) ?_
    refine T_ast 33 E.1 w 1 (by decide) d_T_add_33 (show _ < 4000 by omega) (fun H locs w => ?_)
    refine kl_aload_n 34 E.1 d_T_add_34 hl rfl ?_
    refine T_ga 35 E.1 w 1 (by decide) l_T_row d_T_add_35 ?_
    refine kl_aload_n 38 E.1 d_T_add_38 hl rfl ?_
    refine T_gi 39 E.1 w 0 (by decide) l_T_length d_T_add_39 ?_
    refine n_top (hf) ?_
    refine lv_iconst (pc := 42) (v := nI 1) E.1.1 E.1.2.1 d_T_add_42 (by decide) ?_
    refine n_iadd 43 E.1 d_T_add_43 ?_
    refine kl_iload_n 44 E.1 d_T_add_44 hl rfl ?_
    refine lv_sipush (pc := 45) (v := nI 511) E.1.1 E.1.2.1 d_T_add_45 (by decide) ?_
    refine lv_iand (pc := 48) E.1.1 E.1.2.1 d_T_add_48 ?_
    refine n_top (hm y) ?_
    refine T_ast 49 E.1 w 1 (by decide) d_T_add_49 (show _ < 4000 by omega) (fun H locs w => ?_)
    refine kl_aload_n 50 E.1 d_T_add_50 hl rfl ?_
    refine T_ga 51 E.1 w 1 (by decide) l_T_row d_T_add_51 ?_
    refine kl_aload_n 54 E.1 d_T_add_54 hl rfl ?_
    refine T_gi 55 E.1 w 0 (by decide) l_T_length d_T_add_55 ?_
    refine n_top (hf) ?_
    refine lv_iconst (pc := 58) (v := nI 2) E.1.1 E.1.2.1 d_T_add_58 (by decide) ?_
    refine n_iadd 59 E.1 d_T_add_59 ?_
    refine kl_iload_n 60 E.1 d_T_add_60 hl rfl ?_
    refine lv_sipush (pc := 61) (v := nI 511) E.1.1 E.1.2.1 d_T_add_61 (by decide) ?_
    refine lv_iand (pc := 64) E.1.1 E.1.2.1 d_T_add_64 ?_
    refine n_top (hm z) ?_
    refine T_ast 65 E.1 w 1 (by decide) d_T_add_65 (show _ < 4000 by omega) (fun H locs w => ?_)
    refine kl_aload_n 66 E.1 d_T_add_66 hl rfl ?_
    refine lv_dup (pc := 67) E.1.1 E.1.2.1 d_T_add_67 rfl ?_
    refine T_gi 68 E.1 w 0 (by decide) l_T_length d_T_add_68 ?_
    refine n_top (hf) ?_
    refine lv_iconst (pc := 71) (v := nI 3) E.1.1 E.1.2.1 d_T_add_71 (by decide) ?_
    refine n_iadd 72 E.1 d_T_add_72 ?_
    refine T_pi 73 E.1 w 0 (by decide) l_T_length d_T_add_73 (fun H locs w => ?_)
    refine kl_aload_n 76 E.1 d_T_add_76 hl rfl ?_
    refine T_gi 77 E.1 w 0 (by decide) l_T_length d_T_add_77 ?_
    exact T_iret 80 E w d_T_add_80 ⟨rfl, rfl, by simp only [bx_uu, va_up_self]⟩
  · exact absurd h9 (by omega)
theorem c_number (l : Launch) (D : va_G) (cI : ClassId) (q : Nat → Nat) (f : Nat → Int32) (G : Nat → Nat → Int32) {F i v t : Nat} (hF : F ≤ 512) (hf : f 2 = nI F) (hi : i < F) (h7 : G 7 i = nI v) (h8 : G 8 i = nI t) (hv : v < 512) (ht : t < 4096) : T_Mi l y_T_number b_T_number 2 (some .int) rm_0 D cI q f G [.int (nI i)] (fun r f' G' => r = nI (4096 * v + t) ∧ f' = f ∧ G' = G) := by
  refine T_ofi rfl (Nat.le_of_ble_eq_true rfl) ?_
  intro p e s m args below meth c ls A E w hl
  have hl : kl ls [some (.ref (q 0)), some (.int (nI i))] := kl_of _ hl rfl rfl rfl
  refine kl_iload_n 0 E.1 d_T_number_0 hl rfl ?_
  refine n_if_lt 1 E.1 d_T_number_1 (by omega) 12 rfl ?_
  refine kl_iload_n 4 E.1 d_T_number_4 hl rfl ?_
  refine kl_aload_n 5 E.1 d_T_number_5 hl rfl ?_
  refine T_gi 6 E.1 w 2 (by decide) l_T_founds d_T_number_6 ?_
  refine n_top (hf) ?_
  refine n_icmp_lt 9 (tgt := 20) E.1 d_T_number_9 rfl (by omega) (by omega) (fun h9 => ?_) (fun h9 => ?_)
  · refine kl_aload_n 20 E.1 d_T_number_20 hl rfl ?_
    refine T_ga 21 E.1 w 7 (by decide) l_T_found d_T_number_21 ?_
    refine kl_iload_n 24 E.1 d_T_number_24 hl rfl ?_
    refine T_ald 25 E.1 w 7 (by decide) d_T_number_25 (show _ < 512 by omega) ?_
    refine n_top (h7) ?_
    refine lv_bipush (pc := 26) (v := nI 12) E.1.1 E.1.2.1 d_T_number_26 (by decide) ?_
    refine n_ishl 28 E.1 d_T_number_28 ?_
    refine kl_aload_n 29 E.1 d_T_number_29 hl rfl ?_
    refine T_ga 30 E.1 w 8 (by decide) l_T_times d_T_number_30 ?_
    refine kl_iload_n 33 E.1 d_T_number_33 hl rfl ?_
    refine T_ald 34 E.1 w 8 (by decide) d_T_number_34 (show _ < 512 by omega) ?_
    refine n_top (h8) ?_
    refine n_ior 35 E.1 d_T_number_35 ?_
    refine T_iret 36 E w d_T_number_36 ⟨?_, rfl, rfl⟩
    congr 1
    have h := Nat.two_pow_add_eq_or_of_lt (i := 12) ht v
    rw [show v * 2 ^ (12 % 32) = 2 ^ 12 * v from Nat.mul_comm _ _, ← h]
  · exact absurd h9 (by omega)
end
section
/-! the tree: down, select -/
def rm_down : Room := { frames := 2, cells := 0, slots := 0, locals := 60 }
theorem c_down (l : Launch) (D : va_G) (cI : ClassId) (q : Nat → Nat) (f : Nat → Int32) (G : Nat → Nat → Int32) {n : Nat} {A0 : Nat → Nat → Nat} {lv lo hi : Nat} (t : Bool) (hn : n ≤ 4000) (hlv : lv < 9) (hlo : lo ≤ n) (hhi : hi ≤ n) (hB : Bd_l G n A0 lv) (h5 : f 5 = nI lo) (h6 : f 6 = nI hi) :
    T_Mv l y_T_down b_T_down 5 rm_down D cI q f G [.int (nI lv), .int (nI t.toNat)] (fun f' G' => f' = upd (upd f 5 (nI (wm_ps (A0 lv) (8 - lv) n t lo))) 6 (nI (wm_ps (A0 lv) (8 - lv) n t hi)) ∧ G' = G) := by
  refine T_ofv rfl (Nat.le_of_ble_eq_true rfl) ?_
  intro p e s m args below meth c ls A E w hl
  have hl : kl ls [some (.ref (q 0)), some (.int (nI lv)), some (.int (nI t.toNat)), none, none] := kl_of _ hl rfl rfl rfl
  have hz := hB.1
  have hr1 := wm_rk_le A0 lv lo
  have hr2 := wm_rk_le A0 lv hi
  cases t with
  | false =>
    refine kl_aload_n 0 E.1 d_T_down_0 hl rfl ?_
    refine kl_iload_n 1 E.1 d_T_down_1 hl rfl ?_
    refine kl_aload_n 2 E.1 d_T_down_2 hl rfl ?_
    refine T_gi 3 E.1 w 5 (by decide) l_T_low d_T_down_3 ?_
    refine n_top (h5) ?_
    refine T_ci 6 E w (c_ones l D cI q f G hn hlv (hlo) hB) (cv_T_T_ones E.1.2.2.2 rfl rfl ⟨by decide, by decide⟩) (kl_sz hl) rfl rfl (Nat.le_of_ble_eq_true rfl) d_T_down_6 (fun r f1 G1 H locs hp w => ?_)
    obtain ⟨rfl, e1, e2⟩ := hp
    rw [e1, e2] at w
    refine kl_istore_n 9 E.1 d_T_down_9 hl (Nat.le_of_ble_eq_true rfl) (fun ls hl => ?_)
    refine kl_aload_n 10 E.1 d_T_down_10 hl rfl ?_
    refine kl_iload_n 11 E.1 d_T_down_11 hl rfl ?_
    refine kl_aload_n 12 E.1 d_T_down_12 hl rfl ?_
    refine T_gi 13 E.1 w 6 (by decide) l_T_high d_T_down_13 ?_
    refine n_top (h6) ?_
    refine T_ci 16 E w (c_ones l D cI q f G hn hlv (hhi) hB) (cv_T_T_ones E.1.2.2.2 rfl rfl ⟨by decide, by decide⟩) (kl_sz hl) rfl rfl (Nat.le_of_ble_eq_true rfl) d_T_down_16 (fun r f1 G1 H locs hp w => ?_)
    obtain ⟨rfl, e1, e2⟩ := hp
    rw [e1, e2] at w
    refine kl_istore 19 E.1 d_T_down_19 hl (Nat.le_of_ble_eq_true rfl) (fun ls hl => ?_)
    refine kl_aload_n 21 E.1 d_T_down_21 hl rfl ?_
    refine kl_iload_n 22 E.1 d_T_down_22 hl rfl ?_
    refine n_if_eq 23 (tgt := 37) E.1 d_T_down_23 rfl (by decide) (fun h23 => ?_) (fun h23 => ?_)
    · refine kl_aload_n 37 E.1 d_T_down_37 hl rfl ?_
      refine T_gi 38 E.1 w 5 (by decide) l_T_low d_T_down_38 ?_
      refine n_top (h5) ?_
      refine kl_iload_n 41 E.1 d_T_down_41 hl rfl ?_
      refine n_isub 42 E.1 d_T_down_42 (by omega) ?_
      refine T_pi 43 E.1 w 5 (by decide) l_T_low d_T_down_43 (fun H locs w => ?_)
      refine kl_aload_n 46 E.1 d_T_down_46 hl rfl ?_
      refine kl_iload_n 47 E.1 d_T_down_47 hl rfl ?_
      refine n_if_eq 48 (tgt := 63) E.1 d_T_down_48 rfl (by decide) (fun h48 => ?_) (fun h48 => ?_)
      · refine kl_aload_n 63 E.1 d_T_down_63 hl rfl ?_
        refine T_gi 64 E.1 w 6 (by decide) l_T_high d_T_down_64 ?_
        refine n_top (h6) ?_
        refine kl_iload 67 E.1 d_T_down_67 hl rfl ?_
        refine n_isub 69 E.1 d_T_down_69 (by omega) ?_
        refine T_pi 70 E.1 w 6 (by decide) l_T_high d_T_down_70 (fun H locs w => ?_)
        exact T_vret 73 E w d_T_down_73 ⟨rfl, rfl⟩
      · exact absurd h48 (by decide)
    · exact absurd h23 (by decide)
  | true =>
    refine kl_aload_n 0 E.1 d_T_down_0 hl rfl ?_
    refine kl_iload_n 1 E.1 d_T_down_1 hl rfl ?_
    refine kl_aload_n 2 E.1 d_T_down_2 hl rfl ?_
    refine T_gi 3 E.1 w 5 (by decide) l_T_low d_T_down_3 ?_
    refine n_top (h5) ?_
    refine T_ci 6 E w (c_ones l D cI q f G hn hlv (hlo) hB) (cv_T_T_ones E.1.2.2.2 rfl rfl ⟨by decide, by decide⟩) (kl_sz hl) rfl rfl (Nat.le_of_ble_eq_true rfl) d_T_down_6 (fun r f1 G1 H locs hp w => ?_)
    obtain ⟨rfl, e1, e2⟩ := hp
    rw [e1, e2] at w
    refine kl_istore_n 9 E.1 d_T_down_9 hl (Nat.le_of_ble_eq_true rfl) (fun ls hl => ?_)
    refine kl_aload_n 10 E.1 d_T_down_10 hl rfl ?_
    refine kl_iload_n 11 E.1 d_T_down_11 hl rfl ?_
    refine kl_aload_n 12 E.1 d_T_down_12 hl rfl ?_
    refine T_gi 13 E.1 w 6 (by decide) l_T_high d_T_down_13 ?_
    refine n_top (h6) ?_
    refine T_ci 16 E w (c_ones l D cI q f G hn hlv (hhi) hB) (cv_T_T_ones E.1.2.2.2 rfl rfl ⟨by decide, by decide⟩) (kl_sz hl) rfl rfl (Nat.le_of_ble_eq_true rfl) d_T_down_16 (fun r f1 G1 H locs hp w => ?_)
    obtain ⟨rfl, e1, e2⟩ := hp
    rw [e1, e2] at w
    refine kl_istore 19 E.1 d_T_down_19 hl (Nat.le_of_ble_eq_true rfl) (fun ls hl => ?_)
    refine kl_aload_n 21 E.1 d_T_down_21 hl rfl ?_
    refine kl_iload_n 22 E.1 d_T_down_22 hl rfl ?_
    refine n_if_eq 23 (tgt := 37) E.1 d_T_down_23 rfl (by decide) (fun h23 => ?_) (fun h23 => ?_)
    · exact absurd h23 (by decide)
    · refine kl_aload_n 26 E.1 d_T_down_26 hl rfl ?_
      refine T_ga 27 E.1 w 6 (by decide) l_T_zeros d_T_down_27 ?_
      refine kl_iload_n 30 E.1 d_T_down_30 hl rfl ?_
      refine T_ald 31 E.1 w 6 (by decide) d_T_down_31 (show _ < 9 by omega) ?_
      refine n_top (hz) ?_
      refine kl_iload_n 32 E.1 d_T_down_32 hl rfl ?_
      refine n_iadd 33 E.1 d_T_down_33 ?_
      refine lv_goto (pc := 34) (tgt := 43) E.1.1 E.1.2.1 d_T_down_34 rfl ?_
      refine T_pi 43 E.1 w 5 (by decide) l_T_low d_T_down_43 (fun H locs w => ?_)
      refine kl_aload_n 46 E.1 d_T_down_46 hl rfl ?_
      refine kl_iload_n 47 E.1 d_T_down_47 hl rfl ?_
      refine n_if_eq 48 (tgt := 63) E.1 d_T_down_48 rfl (by decide) (fun h48 => ?_) (fun h48 => ?_)
      · exact absurd h48 (by decide)
      · refine kl_aload_n 51 E.1 d_T_down_51 hl rfl ?_
        refine T_ga 52 E.1 w 6 (by decide) l_T_zeros d_T_down_52 ?_
        refine kl_iload_n 55 E.1 d_T_down_55 hl rfl ?_
        refine T_ald 56 E.1 w 6 (by decide) d_T_down_56 (show _ < 9 by omega) ?_
        refine n_top (hz) ?_
        refine kl_iload 57 E.1 d_T_down_57 hl rfl ?_
        refine n_iadd 59 E.1 d_T_down_59 ?_
        refine lv_goto (pc := 60) (tgt := 70) E.1.1 E.1.2.1 d_T_down_60 rfl ?_
        refine T_pi 70 E.1 w 6 (by decide) l_T_high d_T_down_70 (fun H locs w => ?_)
        exact T_vret 73 E w d_T_down_73 ⟨rfl, rfl⟩
/-- how many bits that are (or aren't) 1 stand before a place -/
def wm_N (A0 : Nat → Nat → Nat) (lv : Nat) (t : Bool) (x : Nat) : Nat := if t then wm_rk A0 lv x else x - wm_rk A0 lv x
theorem wm_N_mono (A0 : Nat → Nat → Nat) (lv : Nat) (t : Bool) {x y : Nat} (h : x ≤ y) : wm_N A0 lv t x ≤ wm_N A0 lv t y := by
  have h1 := wm_ct_mono (wm_b (A0 lv) (8 - lv)) h
  have h2 := wm_ct_gap (wm_b (A0 lv) (8 - lv)) h
  have h3 := wm_ct_le (wm_b (A0 lv) (8 - lv)) x
  cases t with
  | true => exact h1
  | false => show x - wm_ct (wm_b (A0 lv) (8 - lv)) x ≤ y - wm_ct (wm_b (A0 lv) (8 - lv)) y; omega
/-- the place that the halving finds holds the k-th such bit -/
theorem wm_N_at {A0 : Nat → Nat → Nat} {lv : Nat} {t : Bool} {n k x : Nat} (hk : k < wm_N A0 lv t n) (hx : x ≤ n) (h1 : wm_N A0 lv t x ≤ k) (h2 : x < n → k < wm_N A0 lv t (x + 1)) : x < n ∧ wm_N A0 lv t x = k ∧ wm_b (A0 lv) (8 - lv) x = t := by
  have hxn : x < n := by
    rcases Nat.lt_or_ge x n with h | h
    · exact h
    · have : x = n := by omega
      subst this; omega
  have h3 := h2 hxn
  have h4 := wm_ct_le (wm_b (A0 lv) (8 - lv)) x
  refine ⟨hxn, ?_⟩
  cases t with
  | true =>
    have h5 : wm_N A0 lv true (x + 1) = wm_ct (wm_b (A0 lv) (8 - lv)) (x + 1) := rfl
    have h6 : wm_N A0 lv true x = wm_ct (wm_b (A0 lv) (8 - lv)) x := rfl
    cases hb : wm_b (A0 lv) (8 - lv) x with
    | true => rw [h5, wm_ct_t hb] at h3; exact ⟨by omega, rfl⟩
    | false => rw [h5, wm_ct_f hb] at h3; omega
  | false =>
    have h5 : wm_N A0 lv false (x + 1) = x + 1 - wm_ct (wm_b (A0 lv) (8 - lv)) (x + 1) := rfl
    have h6 : wm_N A0 lv false x = x - wm_ct (wm_b (A0 lv) (8 - lv)) x := rfl
    cases hb : wm_b (A0 lv) (8 - lv) x with
    | false => rw [h5, wm_ct_f hb] at h3; exact ⟨by omega, rfl⟩
    | true => rw [h5, wm_ct_t hb] at h3; omega
def rm_select : Room := { frames := 2, cells := 0, slots := 0, locals := 60 }
section LPsel
variable {p : Program} {l : Launch} {e : Env} {R : Room} {s : State} {m : MethodId} {args : Array Value} {below : List Frame} {meth : Method} {c : Code} {H : Heap} {locs : List Loc} {Q : State → Prop} {ls : Array Slot} {D : va_G} {cI : ClassId} {A : Nat → Prop} {q : Nat → Nat} {f : Nat → Int32} {G : Nat → Nat → Int32}
theorem lp_select {n : Nat} {A0 : Nat → Nat → Nat} {lv k : Nat} {t : Bool} (E : kx_E p s m args c b_T_select R_T 8 meth (some .int) A) (hR : rm_ones.frames + 1 ≤ R.frames ∧ 8 + (3 + 11) + rm_ones.locals ≤ R.locals) (hn : n ≤ 4000) (hlv : lv < 9) (hB : Bd_l G n A0 lv) (hk : k < wm_N A0 lv t n)
    (K : ∀ (x : Nat) (H : Heap) (locs : List Loc) (ls : Array Slot) (L : List (Option Value)), x ≤ n → wm_N A0 lv t x ≤ k → (x < n → k < wm_N A0 lv t (x + 1)) → kx_T D cI A q f G s H locs → kl ls L → L[4]? = some (some (.int (nI x))) → W p l e R s m args below meth c H locs 0 0 Q (F0 m 75 ls [])) :
    ∀ (u a b : Nat) (H : Heap) (locs : List Loc) (ls : Array Slot) (x6 x7 : Option Value), b - a ≤ u → a ≤ b → b ≤ n → wm_N A0 lv t a ≤ k → (b < n → k < wm_N A0 lv t (b + 1)) → kl_c [x6, x7] = true → kx_T D cI A q f G s H locs → kl ls [some (.ref (q 0)), some (.int (nI lv)), some (.int (nI t.toNat)), some (.int (nI k)), some (.int (nI a)), some (.int (nI b)), x6, x7] →
      W p l e R s m args below meth c H locs 0 0 Q (F0 m 9 ls []) := by
  intro u
  induction u with
  | zero =>
    intro a b H locs ls x6 x7 hu hab hb h1 h2 hc w hl
    have hab : a = b := by omega
    subst hab
    refine kl_iload 9 E.1 d_T_select_9 hl rfl ?_
    refine kl_iload 11 E.1 d_T_select_11 hl rfl ?_
    refine n_icmp_ge 13 (tgt := 75) E.1 d_T_select_13 rfl (by omega) (by omega) (fun h13 => ?_) (fun h13 => ?_)
    · exact K a H locs ls _ hb h1 h2 w hl rfl
    · exact absurd h13 (by omega)
  | succ u ih =>
    intro a b H locs ls x6 x7 hu hab hb h1 h2 hc w hl
    refine kl_iload 9 E.1 d_T_select_9 hl rfl ?_
    refine kl_iload 11 E.1 d_T_select_11 hl rfl ?_
    refine n_icmp_ge 13 (tgt := 75) E.1 d_T_select_13 rfl (by omega) (by omega) (fun h13 => ?_) (fun h13 => ?_)
    · have hab : a = b := by omega
      subst hab
      exact K a H locs ls _ hb h1 h2 w hl rfl
    · refine kl_iload 16 E.1 d_T_select_16 hl rfl ?_
      refine kl_iload 18 E.1 d_T_select_18 hl rfl ?_
      refine n_iadd 20 E.1 d_T_select_20 ?_
      refine lv_iconst (pc := 21) (v := nI 1) E.1.1 E.1.2.1 d_T_select_21 (by decide) ?_
      refine n_iadd 22 E.1 d_T_select_22 ?_
      refine lv_iconst (pc := 23) (v := nI 1) E.1.1 E.1.2.1 d_T_select_23 (by decide) ?_
      refine n_iushr 24 E.1 d_T_select_24 (by omega) ?_
      refine n_top (show nI ((a + b + 1) / 2 ^ (1 % 32)) = nI ((a + b + 1) / 2) from rfl) ?_
      generalize hmid : (a + b + 1) / 2 = mid
      have hm1 : a < mid := by omega
      have hm2 : mid ≤ b := by omega
      have hk2 : k < 2 ^ 31 := by
        have h := wm_N_mono A0 lv t (show n ≤ 4000 from hn)
        have h9 : wm_N A0 lv t 4000 ≤ 4000 := by
          unfold wm_N
          have := wm_rk_le A0 lv 4000
          split <;> omega
        omega
      have hNm : wm_N A0 lv t mid ≤ mid := by
        unfold wm_N
        have := wm_rk_le A0 lv mid
        split <;> omega
      refine kl_istore 25 E.1 d_T_select_25 hl (Nat.le_of_ble_eq_true rfl) (fun ls hl => ?_)
      refine kl_iload_n 27 E.1 d_T_select_27 hl rfl ?_
      have tail : ∀ (H : Heap) (locs : List Loc), kx_T D cI A q f G s H locs → W p l e R s m args below meth c H locs 0 0 Q (F0 m 51 ls [.int (nI (wm_N A0 lv t mid))]) := by
        intro H locs w
        refine kl_istore 51 E.1 d_T_select_51 hl (Nat.le_of_ble_eq_true rfl) (fun ls hl => ?_)
        refine kl_iload 53 E.1 d_T_select_53 hl rfl ?_
        refine kl_iload_n 55 E.1 d_T_select_55 hl rfl ?_
        refine n_icmp_gt 56 (tgt := 66) E.1 d_T_select_56 rfl (by omega) (by omega) (fun h56 => ?_) (fun h56 => ?_)
        · refine kl_iload 66 E.1 d_T_select_66 hl rfl ?_
          refine lv_iconst (pc := 68) (v := nI 1) E.1.1 E.1.2.1 d_T_select_68 (by decide) ?_
          refine n_isub 69 E.1 d_T_select_69 (by omega) ?_
          refine kl_istore 70 E.1 d_T_select_70 hl (Nat.le_of_ble_eq_true rfl) (fun ls hl => ?_)
          refine lv_goto (pc := 72) (tgt := 9) E.1.1 E.1.2.1 d_T_select_72 rfl ?_
          exact ih a (mid - 1) H locs ls _ _ (by omega) (by omega) (by omega) h1 (fun _ => by rw [show mid - 1 + 1 = mid by omega]; exact h56) rfl w hl
        · refine kl_iload 59 E.1 d_T_select_59 hl rfl ?_
          refine kl_istore 61 E.1 d_T_select_61 hl (Nat.le_of_ble_eq_true rfl) (fun ls hl => ?_)
          refine lv_goto (pc := 63) (tgt := 72) E.1.1 E.1.2.1 d_T_select_63 rfl ?_
          refine lv_goto (pc := 72) (tgt := 9) E.1.1 E.1.2.1 d_T_select_72 rfl ?_
          exact ih mid b H locs ls _ _ (by omega) (by omega) hb h56 h2 rfl w hl
      cases t with
      | false =>
        refine n_if_eq 28 (tgt := 41) E.1 d_T_select_28 rfl (by decide) (fun h28 => ?_) (fun h28 => ?_)
        · refine kl_iload 41 E.1 d_T_select_41 hl rfl ?_
          refine kl_aload_n 43 E.1 d_T_select_43 hl rfl ?_
          refine kl_iload_n 44 E.1 d_T_select_44 hl rfl ?_
          refine kl_iload 45 E.1 d_T_select_45 hl rfl ?_
          refine T_ci 47 E w (c_ones l D cI q f G hn hlv (show mid ≤ n by omega) hB) (cv_T_T_ones E.1.2.2.2 rfl rfl hR) (kl_sz hl) rfl rfl (Nat.le_of_ble_eq_true rfl) d_T_select_47 (fun r f1 G1 H locs hp w => ?_)
          obtain ⟨rfl, e1, e2⟩ := hp
          rw [e1, e2] at w
          refine n_isub 50 E.1 d_T_select_50 (wm_rk_le A0 lv mid) ?_
          exact tail H locs w
        · exact absurd h28 (by decide)
      | true =>
        refine n_if_eq 28 (tgt := 41) E.1 d_T_select_28 rfl (by decide) (fun h28 => ?_) (fun h28 => ?_)
        · exact absurd h28 (by decide)
        · refine kl_aload_n 31 E.1 d_T_select_31 hl rfl ?_
          refine kl_iload_n 32 E.1 d_T_select_32 hl rfl ?_
          refine kl_iload 33 E.1 d_T_select_33 hl rfl ?_
          refine T_ci 35 E w (c_ones l D cI q f G hn hlv (show mid ≤ n by omega) hB) (cv_T_T_ones E.1.2.2.2 rfl rfl hR) (kl_sz hl) rfl rfl (Nat.le_of_ble_eq_true rfl) d_T_select_35 (fun r f1 G1 H locs hp w => ?_)
          obtain ⟨rfl, e1, e2⟩ := hp
          rw [e1, e2] at w
          refine lv_goto (pc := 38) (tgt := 51) E.1.1 E.1.2.1 d_T_select_38 rfl ?_
          exact tail H locs w
end LPsel

theorem c_select (l : Launch) (D : va_G) (cI : ClassId) (q : Nat → Nat) (f : Nat → Int32) (G : Nat → Nat → Int32) {n : Nat} {A0 : Nat → Nat → Nat} {lv k : Nat} {t : Bool} (hn : n ≤ 4000) (hlv : lv < 9) (hB : Bd_l G n A0 lv) (hf : f 1 = nI n) (hk : k < wm_N A0 lv t n) :
    T_Mi l y_T_select b_T_select 8 (some .int) rm_select D cI q f G [.int (nI lv), .int (nI t.toNat), .int (nI k)] (fun r f' G' => (∃ x, r = nI x ∧ x < n ∧ wm_N A0 lv t x = k ∧ wm_b (A0 lv) (8 - lv) x = t) ∧ f' = f ∧ G' = G) := by
  refine T_ofi rfl (Nat.le_of_ble_eq_true rfl) ?_
  intro p e s m args below meth c ls A E w hl
  have hl : kl ls [some (.ref (q 0)), some (.int (nI lv)), some (.int (nI t.toNat)), some (.int (nI k)), none, none, none, none] := kl_of _ hl rfl rfl rfl
  refine lv_iconst (pc := 0) (v := nI 0) E.1.1 E.1.2.1 d_T_select_0 (by decide) ?_
  refine kl_istore 1 E.1 d_T_select_1 hl (Nat.le_of_ble_eq_true rfl) (fun ls hl => ?_)
  refine kl_aload_n 3 E.1 d_T_select_3 hl rfl ?_
  refine T_gi 4 E.1 w 1 (by decide) l_T_size d_T_select_4 ?_
  refine n_top (hf) ?_
  refine kl_istore 7 E.1 d_T_select_7 hl (Nat.le_of_ble_eq_true rfl) (fun ls hl => ?_)
  refine lp_select E (by decide) hn hlv hB hk (fun x H locs ls L hx h1 h2 w hl h4 => ?_) n 0 n s.heap [] ls none none (by omega) (Nat.zero_le _) (Nat.le_refl _) ?_ (fun h => absurd h (Nat.lt_irrefl _)) rfl w hl
  · refine kl_iload 75 E.1 d_T_select_75 hl h4 ?_
    obtain ⟨g1, g2, g3⟩ := wm_N_at hk hx h1 h2
    exact T_iret 77 E w d_T_select_77 ⟨⟨x, rfl, g1, g2, g3⟩, rfl, rfl⟩
  · have : wm_N A0 lv t 0 = 0 := by unfold wm_N; split <;> rfl
    omega
end
section
/-! the nine levels: what a way down counts -/
def wm_Lv (A0 : Nat → Nat → Nat) (n : Nat) : Prop := (∀ l, l < 9 → wm_Nx (A0 l) (8 - l) n (A0 (l + 1))) ∧ ∀ j, j < n → A0 0 j < 512
/-- the part lo .. hi of level l holds those of a .. b whose upper l bits are v -/
def wm_In (A0 : Nat → Nat → Nat) (n a b l v lo hi : Nat) : Prop := (lo ≤ hi ∧ hi ≤ n) ∧ ∀ p : Nat → Bool, wm_cn (A0 l) p lo hi = wm_cn (A0 0) (fun x => p x && (x / 2 ^ (9 - l) == v)) a b
theorem wm_In_0 {A0 : Nat → Nat → Nat} {n a b : Nat} (h : wm_Lv A0 n) (hab : a ≤ b) (hb : b ≤ n) : wm_In A0 n a b 0 0 a b := by
  refine ⟨⟨hab, hb⟩, fun p => wm_cn_congr hab (fun j h1 h2 => ?_)⟩
  have h3 : A0 0 j / 2 ^ (9 - 0) = 0 := Nat.div_eq_of_lt (h.2 j (by omega))
  rw [h3]; simp
theorem wm_eqb {x y : Nat} {t : Bool} {v : Nat} (h : y = 2 * x + t.toNat) (t' : Bool) : (y == 2 * v + t'.toNat) = ((t == t') && (x == v)) := by
  subst h
  rw [Bool.eq_iff_iff]
  simp only [beq_iff_eq, Bool.and_eq_true]
  constructor
  · intro h
    cases t <;> cases t' <;> simp only [Bool.toNat_true, Bool.toNat_false] at h <;> first | exact ⟨rfl, by omega⟩ | omega
  · rintro ⟨rfl, rfl⟩; rfl
theorem wm_In_s {A0 : Nat → Nat → Nat} {n a b l v lo hi : Nat} (h : wm_Lv A0 n) (hl : l < 9) (hI : wm_In A0 n a b l v lo hi) (hab : a ≤ b) (t : Bool) :
    wm_In A0 n a b (l + 1) (2 * v + t.toNat) (wm_ps (A0 l) (8 - l) n t lo) (wm_ps (A0 l) (8 - l) n t hi) := by
  obtain ⟨⟨h1, h2⟩, h3⟩ := hI
  refine ⟨⟨wm_ps_mono t h1, wm_ps_le t h2⟩, fun p => ?_⟩
  rw [wm_sc (h.1 l hl) p t h1 h2, h3]
  refine wm_cn_congr hab (fun j _ _ => ?_)
  have h4 := wm_div (A0 0 j) (8 - l)
  rw [show 8 - l + 1 = 9 - l by omega] at h4
  rw [show 9 - (l + 1) = 8 - l by omega, wm_eqb h4 t, Bool.and_assoc]
theorem wm_In_c {A0 : Nat → Nat → Nat} {n a b l v lo hi : Nat} (hI : wm_In A0 n a b l v lo hi) : hi - lo = wm_cn (A0 0) (fun x => x / 2 ^ (9 - l) == v) a b := by
  have h := hI.2 (fun _ => true)
  rw [wm_cn_all _ hI.1.1] at h
  rw [h]; simp
/-- the zeros of a part -/
theorem wm_In_z {A0 : Nat → Nat → Nat} {n a b l v lo hi : Nat} (h : wm_Lv A0 n) (hl : l < 9) (hI : wm_In A0 n a b l v lo hi) (hab : a ≤ b) :
    hi - lo - (wm_rk A0 l hi - wm_rk A0 l lo) = wm_cn (A0 0) (fun x => x / 2 ^ (8 - l) == 2 * v) a b ∧ wm_rk A0 l lo ≤ wm_rk A0 l hi ∧ wm_rk A0 l hi - wm_rk A0 l lo ≤ hi - lo := by
  have h1 := wm_In_c (wm_In_s h hl hI hab false)
  have h2 := wm_ct_mono (wm_b (A0 l) (8 - l)) hI.1.1
  have h3 := wm_ct_gap (wm_b (A0 l) (8 - l)) hI.1.1
  have h4 := wm_ct_le (wm_b (A0 l) (8 - l)) lo
  have h5 := wm_ct_le (wm_b (A0 l) (8 - l)) hi
  have h6 := hI.1.1
  rw [wm_ps_0, wm_ps_0, show 9 - (l + 1) = 8 - l by omega] at h1
  refine ⟨?_, h2, by unfold wm_rk; omega⟩
  have h7 : wm_cn (A0 0) (fun x => x / 2 ^ (8 - l) == 2 * v + false.toNat) a b = wm_cn (A0 0) (fun x => x / 2 ^ (8 - l) == 2 * v) a b := rfl
  rw [← h7, ← h1]
  unfold wm_rk
  omega
/-- fewer than: one bit more -/
theorem wm_lt_s (f : Nat → Nat) {a b l u : Nat} (hl : l < 9) (hab : a ≤ b) (t : Bool) :
    wm_cn f (fun x => decide (x / 2 ^ (8 - l) < 2 * u + t.toNat)) a b = wm_cn f (fun x => decide (x / 2 ^ (9 - l) < u)) a b + (if t then wm_cn f (fun x => x / 2 ^ (8 - l) == 2 * u) a b else 0) := by
  have hd : ∀ x : Nat, x / 2 ^ (9 - l) = x / 2 ^ (8 - l) / 2 := fun x => by
    rw [Nat.div_div_eq_div_mul, ← Nat.pow_succ, show (8 - l).succ = 9 - l by omega]
  cases t with
  | false =>
    rw [if_neg (by decide), Nat.add_zero]
    refine wm_cn_congr hab (fun j _ _ => ?_)
    rw [hd, decide_eq_decide]
    show _ < 2 * u + 0 ↔ _
    omega
  | true =>
    rw [if_pos rfl]
    refine wm_cn_split f hab (fun x => ?_)
    rw [hd]
    generalize x / 2 ^ (8 - l) = y
    show (decide (y < 2 * u + 1)).toNat = _
    rcases Nat.lt_trichotomy y (2 * u) with h | h | h
    · rw [decide_eq_true (by omega), decide_eq_true (by omega), show (y == 2 * u) = false by simp; omega]; rfl
    · subst h
      rw [decide_eq_true (by omega), decide_eq_false (by omega)]; simp
    · rw [decide_eq_false (by omega), decide_eq_false (by omega), show (y == 2 * u) = false by simp; omega]; rfl
theorem wm_lt_1 (f : Nat → Nat) {a b v : Nat} (hab : a ≤ b) : wm_cn f (fun x => decide (x < v + 1)) a b = wm_cn f (fun x => decide (x < v)) a b + wm_cn f (fun x => x == v) a b := by
  refine wm_cn_split f hab (fun x => ?_)
  rcases Nat.lt_trichotomy x v with h | h | h
  · rw [decide_eq_true (by omega), decide_eq_true (by omega), show (x == v) = false by simp; omega]; rfl
  · subst h
    rw [decide_eq_true (by omega), decide_eq_false (by omega)]; simp
  · rw [decide_eq_false (by omega), decide_eq_false (by omega), show (x == v) = false by simp; omega]; rfl
/-- the k-th smallest of a part -/
def wm_Qt (f : Nat → Nat) (a b k v : Nat) : Prop := v < 512 ∧ wm_cn f (fun x => decide (x < v)) a b ≤ k ∧ k < wm_cn f (fun x => decide (x < v + 1)) a b
theorem wm_Qt_one {f : Nat → Nat} {a b k v w : Nat} (hab : a ≤ b) (h1 : wm_Qt f a b k v) (h2 : wm_Qt f a b k w) : v = w := by
  have mono : ∀ x y : Nat, x ≤ y → wm_cn f (fun z => decide (z < x)) a b ≤ wm_cn f (fun z => decide (z < y)) a b := fun x y hxy =>
    wm_cn_sub f hab (fun z hz => by simp only [decide_eq_true_eq] at hz ⊢; omega)
  rcases Nat.lt_trichotomy v w with h | h | h
  · have := mono (v + 1) w h
    have := h1.2.2
    have := h2.2.1
    omega
  · exact h
  · have := mono (w + 1) v h
    have := h2.2.2
    have := h1.2.1
    omega
theorem wm_or1 (v : Nat) (t : Bool) : v * 2 ^ (1 % 32) ||| t.toNat = 2 * v + t.toNat := by
  have h := Nat.two_pow_add_eq_or_of_lt (i := 1) (b := t.toNat) (by cases t <;> decide) v
  rw [show v * 2 ^ (1 % 32) = 2 ^ 1 * v from Nat.mul_comm _ _, ← h]
theorem wm_bitv {v l : Nat} (hl : l < 9) : (v / 2 ^ ((8 - l) % 32) &&& 1) = (v.testBit (8 - l)).toNat := by
  rw [show (8 - l) % 32 = 8 - l by omega, ← wm_tb]
  exact Nat.and_two_pow_sub_one_eq_mod _ 1
theorem wm_div' {v l : Nat} (hl : l < 9) : v / 2 ^ (9 - (l + 1)) = 2 * (v / 2 ^ (9 - l)) + (v.testBit (8 - l)).toNat := by
  have h := wm_div v (8 - l)
  rw [show 8 - l + 1 = 9 - l by omega] at h
  rw [show 9 - (l + 1) = 8 - l by omega]
  exact h
end
section
/-! a border on its way down to the number nu -/
def wm_dn (A0 : Nat → Nat → Nat) (n nu x : Nat) : Nat → Nat
  | 0 => x
  | l + 1 => wm_ps (A0 l) (8 - l) n (nu.testBit (8 - l)) (wm_dn A0 n nu x l)
theorem wm_dn_s (A0 : Nat → Nat → Nat) (n nu x l : Nat) : wm_dn A0 n nu x (l + 1) = wm_ps (A0 l) (8 - l) n (nu.testBit (8 - l)) (wm_dn A0 n nu x l) := rfl
theorem wm_dn_In {A0 : Nat → Nat → Nat} {n nu a b : Nat} (h : wm_Lv A0 n) (hnu : nu < 512) (hab : a ≤ b) (hb : b ≤ n) : ∀ l, l ≤ 9 → wm_In A0 n a b l (nu / 2 ^ (9 - l)) (wm_dn A0 n nu a l) (wm_dn A0 n nu b l) := by
  intro l
  induction l with
  | zero =>
    intro _
    rw [show nu / 2 ^ (9 - 0) = 0 from Nat.div_eq_of_lt hnu]
    exact wm_In_0 h hab hb
  | succ l ih =>
    intro hl
    have h1 := wm_In_s h (show l < 9 by omega) (ih (by omega)) hab (nu.testBit (8 - l))
    rw [← wm_div' (show l < 9 by omega)] at h1
    exact h1
/-- what a query asks of the tree -/
def kq (f : Nat → Int32) (G : Nat → Nat → Int32) (n : Nat) (A0 : Nat → Nat → Nat) : Prop := f 1 = nI n ∧ n ≤ 4000 ∧ Bd G n A0 ∧ wm_Lv A0 n
theorem kq.fk {f f' : Nat → Int32} {G : Nat → Nat → Int32} {n : Nat} {A0 : Nat → Nat → Nat} (h : kq f G n A0) (hf : fk f f') : kq f' G n A0 := ⟨(hf 1 (by decide)).trans h.1, h.2⟩
theorem wm_cn_eq9 (f : Nat → Nat) (nu a b : Nat) : wm_cn f (fun x => x / 2 ^ (9 - 9) == nu / 2 ^ (9 - 9)) a b = wm_cn f (fun x => x == nu) a b := by simp
theorem wm_cn_eq9' (f : Nat → Nat) (v a b : Nat) : wm_cn f (fun x => x / 2 ^ (9 - 9) == v) a b = wm_cn f (fun x => x == v) a b := by simp
theorem wm_cn_lt9 (f : Nat → Nat) (nu a b : Nat) : wm_cn f (fun x => decide (x / 2 ^ (9 - 9) < nu)) a b = wm_cn f (fun x => decide (x < nu)) a b := by simp
end
section
/-! the tree: at, often, quantile, below, least -/
section LPat
variable {p : Program} {l : Launch} {e : Env} {R : Room} {s : State} {m : MethodId} {args : Array Value} {below : List Frame} {meth : Method} {c : Code} {H : Heap} {locs : List Loc} {Q : State → Prop} {ls : Array Slot} {D : va_G} {cI : ClassId} {A : Nat → Prop} {q : Nat → Nat} {f : Nat → Int32} {G : Nat → Nat → Int32}
theorem lp_at {n : Nat} {A0 : Nat → Nat → Nat} {pl : Nat} (E : kx_E p s m args c b_T_at R_T 6 meth (some .int) A) (hR : 2 ≤ R.frames ∧ 60 ≤ R.locals) (hq : kq f G n A0) (hpl : pl < n)
    (K : ∀ (H : Heap) (locs : List Loc) (ls : Array Slot) (L : List (Option Value)), kx_T D cI A q f G s H locs → kl ls L → L[3]? = some (some (.int (nI (A0 0 pl)))) → W p l e R s m args below meth c H locs 0 0 Q (F0 m 97 ls [])) :
    ∀ (u lv i : Nat) (H : Heap) (locs : List Loc) (ls : Array Slot) (x5 : Option Value), 9 - lv = u → lv ≤ 9 → i < n → A0 lv i = A0 0 pl → kx_T D cI A q f G s H locs → kl ls [some (.ref (q 0)), some (.int (nI pl)), some (.int (nI i)), some (.int (nI (A0 0 pl / 2 ^ (9 - lv)))), some (.int (nI lv)), x5] →
      W p l e R s m args below meth c H locs 0 0 Q (F0 m 27 ls []) := by
  obtain ⟨hf, hn, hB, hLv⟩ := hq
  intro u
  induction u with
  | zero =>
    intro lv i H locs ls x5 hu hlv hi hx w hl
    have : lv = 9 := by omega
    subst this
    refine kl_iload 27 E.1 d_T_at_27 hl rfl ?_
    refine lv_bipush (pc := 29) (v := nI 9) E.1.1 E.1.2.1 d_T_at_29 (by decide) ?_
    refine n_icmp_ge 31 (tgt := 97) E.1 d_T_at_31 rfl (by omega) (by omega) (fun h31 => ?_) (fun h31 => ?_)
    · exact K H locs ls _ w hl (by show some (some (Value.int (nI (A0 0 pl / 2 ^ (9 - 9))))) = _; rw [show A0 0 pl / 2 ^ (9 - 9) = A0 0 pl from Nat.div_one _])
    · exact absurd h31 (by omega)
  | succ u ih =>
    intro lv i H locs ls x5 hu hlv9 hi hx w hl
    have hlv : lv < 9 := by omega
    have hz := (hB lv hlv).1
    have hrk := wm_rk_le A0 lv i
    have hNx := hLv.1 lv hlv i hi
    refine kl_iload 27 E.1 d_T_at_27 hl rfl ?_
    refine lv_bipush (pc := 29) (v := nI 9) E.1.1 E.1.2.1 d_T_at_29 (by decide) ?_
    refine n_icmp_ge 31 (tgt := 97) E.1 d_T_at_31 rfl (by omega) (by omega) (fun h31 => ?_) (fun h31 => ?_)
    · exact absurd h31 (by omega)
    · refine kl_aload_n 34 E.1 d_T_at_34 hl rfl ?_
      refine kl_iload 35 E.1 d_T_at_35 hl rfl ?_
      refine kl_iload_n 37 E.1 d_T_at_37 hl rfl ?_
      refine T_ci 38 E w (c_is l D cI q f G hn hlv hi (hB lv hlv)) (cv_T_T_is E.1.2.2.2 rfl rfl ⟨Nat.le_trans (by decide) hR.1, Nat.le_trans (by decide) hR.2⟩) (kl_sz hl) rfl rfl (Nat.le_of_ble_eq_true rfl) d_T_at_38 (fun r f1 G1 H locs hp w => ?_)
      obtain ⟨rfl, e1, e2⟩ := hp
      rw [e1, e2] at w
      have hvs := wm_div' (v := A0 0 pl) hlv
      rw [← hx] at hvs
      cases hb : (A0 lv i).testBit (8 - lv) with
      | false =>
        rw [hb] at hvs
        have hNx : A0 (lv + 1) (wm_ps (A0 lv) (8 - lv) n false i) = A0 lv i := by
          have h : wm_b (A0 lv) (8 - lv) i = false := hb
          rw [h] at hNx; exact hNx
        refine kl_istore 41 E.1 d_T_at_41 hl (Nat.le_of_ble_eq_true rfl) (fun ls hl => ?_)
        refine kl_iload_n 43 E.1 d_T_at_43 hl rfl ?_
        refine lv_iconst (pc := 44) (v := nI 1) E.1.1 E.1.2.1 d_T_at_44 (by decide) ?_
        refine n_ishl 45 E.1 d_T_at_45 ?_
        refine kl_iload 46 E.1 d_T_at_46 hl rfl ?_
        refine n_if_eq 48 (tgt := 55) E.1 d_T_at_48 rfl (by decide) (fun h48 => ?_) (fun h48 => ?_)
        · refine lv_iconst (pc := 55) (v := nI 0) E.1.1 E.1.2.1 d_T_at_55 (by decide) ?_
          refine n_ior 56 E.1 d_T_at_56 ?_
          refine n_top (show nI (A0 0 pl / 2 ^ (9 - lv) * 2 ^ (1 % 32) ||| Bool.toNat false) = nI (A0 0 pl / 2 ^ (9 - (lv + 1))) by rw [wm_or1, ← hx, hvs]) ?_
          refine kl_istore_n 57 E.1 d_T_at_57 hl (Nat.le_of_ble_eq_true rfl) (fun ls hl => ?_)
          refine kl_iload 58 E.1 d_T_at_58 hl rfl ?_
          refine n_if_eq 60 (tgt := 81) E.1 d_T_at_60 rfl (by decide) (fun h60 => ?_) (fun h60 => ?_)
          · refine kl_iload_n 81 E.1 d_T_at_81 hl rfl ?_
            refine kl_aload_n 82 E.1 d_T_at_82 hl rfl ?_
            refine kl_iload 83 E.1 d_T_at_83 hl rfl ?_
            refine kl_iload_n 85 E.1 d_T_at_85 hl rfl ?_
            refine T_ci 86 E w (c_ones l D cI q f G hn hlv (Nat.le_of_lt hi) (hB lv hlv)) (cv_T_T_ones E.1.2.2.2 rfl rfl ⟨Nat.le_trans (by decide) hR.1, Nat.le_trans (by decide) hR.2⟩) (kl_sz hl) rfl rfl (Nat.le_of_ble_eq_true rfl) d_T_at_86 (fun r f1 G1 H locs hp w => ?_)
            obtain ⟨rfl, e1, e2⟩ := hp
            rw [e1, e2] at w
            refine n_isub 89 E.1 d_T_at_89 hrk ?_
            refine kl_istore_n 90 E.1 d_T_at_90 hl (Nat.le_of_ble_eq_true rfl) (fun ls hl => ?_)
            refine kl_inc1 91 E.1 d_T_at_91 hl rfl (fun ls hl => ?_)
            refine lv_goto (pc := 94) (tgt := 27) E.1.1 E.1.2.1 d_T_at_94 rfl ?_
            refine ih (lv + 1) (wm_ps (A0 lv) (8 - lv) n false i) H locs ls _ (by omega) (by omega) ?_ (hNx.trans hx) w hl
            have hb' : wm_b (A0 lv) (8 - lv) i = false := hb
            have h1 := wm_ps_lt (f := A0 lv) (c := 8 - lv) (n := n) hi
            have h2 := wm_ps_le (f := A0 lv) (c := 8 - lv) (n := n) false (Nat.le_refl n)
            rw [hb'] at h1
            omega
          · exact absurd h60 (by decide)
        · exact absurd h48 (by decide)
      | true =>
        rw [hb] at hvs
        have hNx : A0 (lv + 1) (wm_ps (A0 lv) (8 - lv) n true i) = A0 lv i := by
          have h : wm_b (A0 lv) (8 - lv) i = true := hb
          rw [h] at hNx; exact hNx
        refine kl_istore 41 E.1 d_T_at_41 hl (Nat.le_of_ble_eq_true rfl) (fun ls hl => ?_)
        refine kl_iload_n 43 E.1 d_T_at_43 hl rfl ?_
        refine lv_iconst (pc := 44) (v := nI 1) E.1.1 E.1.2.1 d_T_at_44 (by decide) ?_
        refine n_ishl 45 E.1 d_T_at_45 ?_
        refine kl_iload 46 E.1 d_T_at_46 hl rfl ?_
        refine n_if_eq 48 (tgt := 55) E.1 d_T_at_48 rfl (by decide) (fun h48 => ?_) (fun h48 => ?_)
        · exact absurd h48 (by decide)
        · refine lv_iconst (pc := 51) (v := nI 1) E.1.1 E.1.2.1 d_T_at_51 (by decide) ?_
          refine lv_goto (pc := 52) (tgt := 56) E.1.1 E.1.2.1 d_T_at_52 rfl ?_
          refine n_ior 56 E.1 d_T_at_56 ?_
          refine n_top (show nI (A0 0 pl / 2 ^ (9 - lv) * 2 ^ (1 % 32) ||| Bool.toNat true) = nI (A0 0 pl / 2 ^ (9 - (lv + 1))) by rw [wm_or1, ← hx, hvs]) ?_
          refine kl_istore_n 57 E.1 d_T_at_57 hl (Nat.le_of_ble_eq_true rfl) (fun ls hl => ?_)
          refine kl_iload 58 E.1 d_T_at_58 hl rfl ?_
          refine n_if_eq 60 (tgt := 81) E.1 d_T_at_60 rfl (by decide) (fun h60 => ?_) (fun h60 => ?_)
          · exact absurd h60 (by decide)
          · refine kl_aload_n 63 E.1 d_T_at_63 hl rfl ?_
            refine T_ga 64 E.1 w 6 (by decide) l_T_zeros d_T_at_64 ?_
            refine kl_iload 67 E.1 d_T_at_67 hl rfl ?_
            refine T_ald 69 E.1 w 6 (by decide) d_T_at_69 (show _ < 9 by omega) ?_
            refine n_top (hz) ?_
            refine kl_aload_n 70 E.1 d_T_at_70 hl rfl ?_
            refine kl_iload 71 E.1 d_T_at_71 hl rfl ?_
            refine kl_iload_n 73 E.1 d_T_at_73 hl rfl ?_
            refine T_ci 74 E w (c_ones l D cI q f G hn hlv (Nat.le_of_lt hi) (hB lv hlv)) (cv_T_T_ones E.1.2.2.2 rfl rfl ⟨Nat.le_trans (by decide) hR.1, Nat.le_trans (by decide) hR.2⟩) (kl_sz hl) rfl rfl (Nat.le_of_ble_eq_true rfl) d_T_at_74 (fun r f1 G1 H locs hp w => ?_)
            obtain ⟨rfl, e1, e2⟩ := hp
            rw [e1, e2] at w
            refine n_iadd 77 E.1 d_T_at_77 ?_
            refine lv_goto (pc := 78) (tgt := 90) E.1.1 E.1.2.1 d_T_at_78 rfl ?_
            refine kl_istore_n 90 E.1 d_T_at_90 hl (Nat.le_of_ble_eq_true rfl) (fun ls hl => ?_)
            refine kl_inc1 91 E.1 d_T_at_91 hl rfl (fun ls hl => ?_)
            refine lv_goto (pc := 94) (tgt := 27) E.1.1 E.1.2.1 d_T_at_94 rfl ?_
            refine ih (lv + 1) (wm_ps (A0 lv) (8 - lv) n true i) H locs ls _ (by omega) (by omega) ?_ (hNx.trans hx) w hl
            have hb' : wm_b (A0 lv) (8 - lv) i = true := hb
            have h1 := wm_ps_lt (f := A0 lv) (c := 8 - lv) (n := n) hi
            have h2 := wm_ps_le (f := A0 lv) (c := 8 - lv) (n := n) true (Nat.le_refl n)
            rw [hb'] at h1
            omega
end LPat

def rm_at : Room := { frames := 2, cells := 0, slots := 0, locals := 60 }
theorem c_at (l : Launch) (D : va_G) (cI : ClassId) (q : Nat → Nat) (f : Nat → Int32) (G : Nat → Nat → Int32) {n : Nat} {A0 : Nat → Nat → Nat} {pl : Nat} (hq : kq f G n A0) (hpl : pl < n) : T_Mi l y_T_at b_T_at 6 (some .int) rm_at D cI q f G [.int (nI pl)] (fun r f' G' => r = nI (A0 0 pl) ∧ f' = f ∧ G' = G) := by
  refine T_ofi rfl (Nat.le_of_ble_eq_true rfl) ?_
  intro p e s m args below meth c ls A E w hl
  have hl : kl ls [some (.ref (q 0)), some (.int (nI pl)), none, none, none, none] := kl_of _ hl rfl rfl rfl
  have hn := hq.2.1
  refine kl_iload_n 0 E.1 d_T_at_0 hl rfl ?_
  refine n_if_lt 1 E.1 d_T_at_1 (by omega) 12 rfl ?_
  refine kl_iload_n 4 E.1 d_T_at_4 hl rfl ?_
  refine kl_aload_n 5 E.1 d_T_at_5 hl rfl ?_
  refine T_gi 6 E.1 w 1 (by decide) l_T_size d_T_at_6 ?_
  refine n_top (hq.1) ?_
  refine n_icmp_lt 9 (tgt := 20) E.1 d_T_at_9 rfl (by omega) (by omega) (fun h9 => ?_) (fun h9 => ?_)
  · refine kl_iload_n 20 E.1 d_T_at_20 hl rfl ?_
    refine kl_istore_n 21 E.1 d_T_at_21 hl (Nat.le_of_ble_eq_true rfl) (fun ls hl => ?_)
    refine lv_iconst (pc := 22) (v := nI 0) E.1.1 E.1.2.1 d_T_at_22 (by decide) ?_
    refine kl_istore_n 23 E.1 d_T_at_23 hl (Nat.le_of_ble_eq_true rfl) (fun ls hl => ?_)
    refine lv_iconst (pc := 24) (v := nI 0) E.1.1 E.1.2.1 d_T_at_24 (by decide) ?_
    refine kl_istore 25 E.1 d_T_at_25 hl (Nat.le_of_ble_eq_true rfl) (fun ls hl => ?_)
    refine lp_at E (by decide) hq hpl (fun H locs ls L w hl h3 => ?_) 9 0 pl s.heap [] ls none rfl (by decide) hpl rfl w ?_
    · refine kl_iload_n 97 E.1 d_T_at_97 hl h3 ?_
      exact T_iret 98 E w d_T_at_98 ⟨rfl, rfl, rfl⟩
    · rw [show A0 0 pl / 2 ^ (9 - 0) = 0 from Nat.div_eq_of_lt (hq.2.2.2.2 pl hpl)]
      exact hl
  · exact absurd h9 (by omega)
section LPoften
variable {p : Program} {l : Launch} {e : Env} {R : Room} {s : State} {m : MethodId} {args : Array Value} {below : List Frame} {meth : Method} {c : Code} {H : Heap} {locs : List Loc} {Q : State → Prop} {ls : Array Slot} {D : va_G} {cI : ClassId} {A : Nat → Prop} {q : Nat → Nat} {f : Nat → Int32} {G : Nat → Nat → Int32}
theorem lp_often {n : Nat} {A0 : Nat → Nat → Nat} {nu a b : Nat} (E : kx_E p s m args c b_T_often R_T 5 meth (some .int) A) (hR : 3 ≤ R.frames ∧ 84 ≤ R.locals) (hq : kq f G n A0) (hnu : nu < 512) (hab : a ≤ b) (hb : b ≤ n)
    (K : ∀ (f' : Nat → Int32) (H : Heap) (locs : List Loc) (ls : Array Slot), fk f f' → f' 5 = nI (wm_dn A0 n nu a 9) → f' 6 = nI (wm_dn A0 n nu b 9) → kx_T D cI A q f' G s H locs → kl ls [some (.ref (q 0)), some (.int (nI nu)), some (.int (nI a)), some (.int (nI b)), some (.int (nI 9))] → W p l e R s m args below meth c H locs 0 0 Q (F0 m 63 ls [])) :
    ∀ (u lv : Nat) (f' : Nat → Int32) (H : Heap) (locs : List Loc) (ls : Array Slot), 9 - lv = u → lv ≤ 9 → fk f f' → f' 5 = nI (wm_dn A0 n nu a lv) → f' 6 = nI (wm_dn A0 n nu b lv) → kx_T D cI A q f' G s H locs → kl ls [some (.ref (q 0)), some (.int (nI nu)), some (.int (nI a)), some (.int (nI b)), some (.int (nI lv))] →
      W p l e R s m args below meth c H locs 0 0 Q (F0 m 26 ls []) := by
  obtain ⟨hf, hn, hB, hLv⟩ := hq
  intro u
  induction u with
  | zero =>
    intro lv f' H locs ls hu hlv hfk h5 h6 w hl
    have : lv = 9 := by omega
    subst this
    refine kl_iload 26 E.1 d_T_often_26 hl rfl ?_
    refine lv_bipush (pc := 28) (v := nI 9) E.1.1 E.1.2.1 d_T_often_28 (by decide) ?_
    refine n_icmp_ge 30 (tgt := 63) E.1 d_T_often_30 rfl (by omega) (by omega) (fun h30 => ?_) (fun h30 => ?_)
    · exact K f' H locs ls hfk h5 h6 w hl
    · exact absurd h30 (by omega)
  | succ u ih =>
    intro lv f' H locs ls hu hlv9 hfk h5 h6 w hl
    have hlv : lv < 9 := by omega
    have hI := (wm_dn_In hLv hnu hab hb lv hlv9).1
    have hbit := wm_bitv (v := nu) hlv
    have hs1 := wm_dn_s A0 n nu a lv
    have hs2 := wm_dn_s A0 n nu b lv
    refine kl_iload 26 E.1 d_T_often_26 hl rfl ?_
    refine lv_bipush (pc := 28) (v := nI 9) E.1.1 E.1.2.1 d_T_often_28 (by decide) ?_
    refine n_icmp_ge 30 (tgt := 63) E.1 d_T_often_30 rfl (by omega) (by omega) (fun h30 => ?_) (fun h30 => ?_)
    · exact absurd h30 (by omega)
    · cases ht : nu.testBit (8 - lv) with
      | false =>
        rw [ht] at hbit hs1 hs2
        refine kl_aload_n 33 E.1 d_T_often_33 hl rfl ?_
        refine kl_iload 34 E.1 d_T_often_34 hl rfl ?_
        refine kl_iload_n 36 E.1 d_T_often_36 hl rfl ?_
        refine lv_bipush (pc := 37) (v := nI 8) E.1.1 E.1.2.1 d_T_often_37 (by decide) ?_
        refine kl_iload 39 E.1 d_T_often_39 hl rfl ?_
        refine n_isub 41 E.1 d_T_often_41 (by omega) ?_
        refine n_ishr 42 E.1 d_T_often_42 (by omega) ?_
        refine lv_iconst (pc := 43) (v := nI 1) E.1.1 E.1.2.1 d_T_often_43 (by decide) ?_
        refine n_iand 44 E.1 d_T_often_44 ?_
        refine n_top (congrArg nI hbit) ?_
        refine lv_iconst (pc := 45) (v := nI 1) E.1.1 E.1.2.1 d_T_often_45 (by decide) ?_
        refine n_icmp_ne 46 (tgt := 53) E.1 d_T_often_46 rfl (by decide) (by decide) (fun h46 => ?_) (fun h46 => ?_)
        · refine lv_iconst (pc := 53) (v := nI 0) E.1.1 E.1.2.1 d_T_often_53 (by decide) ?_
          refine T_cv 54 E w (c_down l D cI q f' G (A0 := A0) false hn hlv (Nat.le_trans hI.1 hI.2) hI.2 (hB lv hlv) h5 h6) (cv_T_T_down E.1.2.2.2 rfl rfl ⟨Nat.le_trans (by decide) hR.1, Nat.le_trans (by decide) hR.2⟩) (kl_sz hl) rfl rfl (Nat.le_of_ble_eq_true rfl) d_T_often_54 (fun f1 G1 H locs hp w => ?_)
          obtain ⟨e1, e2⟩ := hp
          rw [e1, e2] at w
          refine kl_inc1 57 E.1 d_T_often_57 hl rfl (fun ls hl => ?_)
          refine lv_goto (pc := 60) (tgt := 26) E.1.1 E.1.2.1 d_T_often_60 rfl ?_
          exact ih (lv + 1) _ H locs ls (by omega) (by omega) ((hfk.up5 _).up6 _) (by rw [hs1]; rfl) (by rw [hs2]; rfl) w hl
        · exact absurd h46 (by decide)
      | true =>
        rw [ht] at hbit hs1 hs2
        refine kl_aload_n 33 E.1 d_T_often_33 hl rfl ?_
        refine kl_iload 34 E.1 d_T_often_34 hl rfl ?_
        refine kl_iload_n 36 E.1 d_T_often_36 hl rfl ?_
        refine lv_bipush (pc := 37) (v := nI 8) E.1.1 E.1.2.1 d_T_often_37 (by decide) ?_
        refine kl_iload 39 E.1 d_T_often_39 hl rfl ?_
        refine n_isub 41 E.1 d_T_often_41 (by omega) ?_
        refine n_ishr 42 E.1 d_T_often_42 (by omega) ?_
        refine lv_iconst (pc := 43) (v := nI 1) E.1.1 E.1.2.1 d_T_often_43 (by decide) ?_
        refine n_iand 44 E.1 d_T_often_44 ?_
        refine n_top (congrArg nI hbit) ?_
        refine lv_iconst (pc := 45) (v := nI 1) E.1.1 E.1.2.1 d_T_often_45 (by decide) ?_
        refine n_icmp_ne 46 (tgt := 53) E.1 d_T_often_46 rfl (by decide) (by decide) (fun h46 => ?_) (fun h46 => ?_)
        · exact absurd h46 (by decide)
        · refine lv_iconst (pc := 49) (v := nI 1) E.1.1 E.1.2.1 d_T_often_49 (by decide) ?_
          refine lv_goto (pc := 50) (tgt := 54) E.1.1 E.1.2.1 d_T_often_50 rfl ?_
          refine T_cv 54 E w (c_down l D cI q f' G (A0 := A0) true hn hlv (Nat.le_trans hI.1 hI.2) hI.2 (hB lv hlv) h5 h6) (cv_T_T_down E.1.2.2.2 rfl rfl ⟨Nat.le_trans (by decide) hR.1, Nat.le_trans (by decide) hR.2⟩) (kl_sz hl) rfl rfl (Nat.le_of_ble_eq_true rfl) d_T_often_54 (fun f1 G1 H locs hp w => ?_)
          obtain ⟨e1, e2⟩ := hp
          rw [e1, e2] at w
          refine kl_inc1 57 E.1 d_T_often_57 hl rfl (fun ls hl => ?_)
          refine lv_goto (pc := 60) (tgt := 26) E.1.1 E.1.2.1 d_T_often_60 rfl ?_
          exact ih (lv + 1) _ H locs ls (by omega) (by omega) ((hfk.up5 _).up6 _) (by rw [hs1]; rfl) (by rw [hs2]; rfl) w hl
end LPoften

def rm_often : Room := { frames := 3, cells := 0, slots := 0, locals := 84 }
theorem c_often (l : Launch) (D : va_G) (cI : ClassId) (q : Nat → Nat) (f : Nat → Int32) (G : Nat → Nat → Int32) {n : Nat} {A0 : Nat → Nat → Nat} {nu a b : Nat} (hq : kq f G n A0) (hnu : nu < 512) (hab : a ≤ b) (hb : b ≤ n) : T_Mi l y_T_often b_T_often 5 (some .int) rm_often D cI q f G [.int (nI nu), .int (nI a), .int (nI b)]
    (fun r f' G' => r = nI (wm_cn (A0 0) (fun x => x == nu) a b) ∧ fk f f' ∧ f' 5 = nI (wm_dn A0 n nu a 9) ∧ G' = G) := by
  refine T_ofi rfl (Nat.le_of_ble_eq_true rfl) ?_
  intro p e s m args below meth c ls A E w hl
  have hl : kl ls [some (.ref (q 0)), some (.int (nI nu)), some (.int (nI a)), some (.int (nI b)), none] := kl_of _ hl rfl rfl rfl
  have hn := hq.2.1
  refine kl_iload_n 0 E.1 d_T_often_0 hl rfl ?_
  refine lv_sipush (pc := 1) (v := nI 511) E.1.1 E.1.2.1 d_T_often_1 (by decide) ?_
  refine S_cv 4 E (c_numchk l (v := nu) (mx := 511) (by omega) (by decide)) (cv_T_T_numchk E.1.2.2.2 rfl rfl ⟨by decide, by decide⟩) (kl_sz hl) rfl rfl (Nat.le_of_ble_eq_true rfl) d_T_often_4 ?_
  refine kl_aload_n 7 E.1 d_T_often_7 hl rfl ?_
  refine kl_iload_n 8 E.1 d_T_often_8 hl rfl ?_
  refine kl_iload_n 9 E.1 d_T_often_9 hl rfl ?_
  refine T_cv 10 E w (c_part l D cI q f G hn hq.1 hab hb) (cv_T_T_part E.1.2.2.2 rfl rfl ⟨by decide, by decide⟩) (kl_sz hl) rfl rfl (Nat.le_of_ble_eq_true rfl) d_T_often_10 (fun f1 G1 H locs hp w => ?_)
  obtain ⟨e1, e2⟩ := hp
  rw [e1, e2] at w
  refine kl_aload_n 13 E.1 d_T_often_13 hl rfl ?_
  refine kl_iload_n 14 E.1 d_T_often_14 hl rfl ?_
  refine T_pi 15 E.1 w 5 (by decide) l_T_low d_T_often_15 (fun H locs w => ?_)
  refine kl_aload_n 18 E.1 d_T_often_18 hl rfl ?_
  refine kl_iload_n 19 E.1 d_T_often_19 hl rfl ?_
  refine T_pi 20 E.1 w 6 (by decide) l_T_high d_T_often_20 (fun H locs w => ?_)
  refine lv_iconst (pc := 23) (v := nI 0) E.1.1 E.1.2.1 d_T_often_23 (by decide) ?_
  refine kl_istore 24 E.1 d_T_often_24 hl (Nat.le_of_ble_eq_true rfl) (fun ls hl => ?_)
  refine lp_often E (by decide) hq hnu hab hb (fun f' H locs ls hfk h5 h6 w hl => ?_) 9 0 _ H locs ls rfl (by decide) (((fk.rf f).up5 _).up6 _) rfl rfl w hl
  have hI := wm_dn_In hq.2.2.2 hnu hab hb 9 (Nat.le_refl _)
  have hc := wm_In_c hI
  rw [wm_cn_eq9] at hc
  refine kl_aload_n 63 E.1 d_T_often_63 hl rfl ?_
  refine T_gi 64 E.1 w 6 (by decide) l_T_high d_T_often_64 ?_
  refine n_top (h6) ?_
  refine kl_aload_n 67 E.1 d_T_often_67 hl rfl ?_
  refine T_gi 68 E.1 w 5 (by decide) l_T_low d_T_often_68 ?_
  refine n_top (h5) ?_
  refine n_isub 71 E.1 d_T_often_71 hI.1.1 ?_
  exact T_iret 72 E w d_T_often_72 ⟨by rw [hc], hfk, h5, rfl⟩
end
section
/-! the tree: quantile, least, below -/
section LPquant
variable {p : Program} {l : Launch} {e : Env} {R : Room} {s : State} {m : MethodId} {args : Array Value} {below : List Frame} {meth : Method} {c : Code} {H : Heap} {locs : List Loc} {Q : State → Prop} {ls : Array Slot} {D : va_G} {cI : ClassId} {A : Nat → Prop} {q : Nat → Nat} {f : Nat → Int32} {G : Nat → Nat → Int32}
theorem lp_quantile {n : Nat} {A0 : Nat → Nat → Nat} {a b k : Nat} (E : kx_E p s m args c b_T_quantile R_T 9 meth (some .int) A) (hR : 3 ≤ R.frames ∧ 84 ≤ R.locals) (hq : kq f G n A0) (hab : a ≤ b) (hb : b ≤ n)
    (K : ∀ (f' : Nat → Int32) (v : Nat) (H : Heap) (locs : List Loc) (ls : Array Slot) (L : List (Option Value)), fk f f' → wm_Qt (A0 0) a b k v → kx_T D cI A q f' G s H locs → kl ls L → L[5]? = some (some (.int (nI v))) → W p l e R s m args below meth c H locs 0 0 Q (F0 m 116 ls [])) :
    ∀ (u lv lo hi left v : Nat) (f' : Nat → Int32) (H : Heap) (locs : List Loc) (ls : Array Slot) (x7 x8 : Option Value), 9 - lv = u → lv ≤ 9 → fk f f' → f' 5 = nI lo → f' 6 = nI hi → wm_In A0 n a b lv v lo hi → left + wm_cn (A0 0) (fun x => decide (x / 2 ^ (9 - lv) < v)) a b = k → left < hi - lo → v < 2 ^ lv → kx_T D cI A q f' G s H locs →
      kl ls [some (.ref (q 0)), some (.int (nI a)), some (.int (nI b)), some (.int (nI k)), some (.int (nI left)), some (.int (nI v)), some (.int (nI lv)), x7, x8] →
      W p l e R s m args below meth c H locs 0 0 Q (F0 m 19 ls []) := by
  obtain ⟨hf, hn, hB, hLv⟩ := hq
  intro u
  induction u with
  | zero =>
    intro lv lo hi left v f' H locs ls x7 x8 hu hlv hfk h5 h6 hI hk hleft hv w hl
    have : lv = 9 := by omega
    subst this
    refine kl_iload 19 E.1 d_T_quantile_19 hl rfl ?_
    refine lv_bipush (pc := 21) (v := nI 9) E.1.1 E.1.2.1 d_T_quantile_21 (by decide) ?_
    refine n_icmp_ge 23 (tgt := 116) E.1 d_T_quantile_23 rfl (by omega) (by omega) (fun h23 => ?_) (fun h23 => ?_)
    · refine K f' v H locs ls _ hfk ⟨hv, ?_, ?_⟩ w hl rfl
      · rw [wm_cn_lt9] at hk; omega
      · have hc := wm_In_c hI
        rw [wm_cn_eq9'] at hc
        rw [wm_cn_lt9] at hk
        rw [wm_lt_1 _ hab]; omega
    · exact absurd h23 (by omega)
  | succ u ih =>
    intro lv lo hi left v f' H locs ls x7 x8 hu hlv9 hfk h5 h6 hI hk hleft hv w hl
    have hlv : lv < 9 := by omega
    obtain ⟨hz, hz1, hz2⟩ := wm_In_z hLv hlv hI hab
    have hlo := Nat.le_trans hI.1.1 hI.1.2
    have hhi := hI.1.2
    refine kl_iload 19 E.1 d_T_quantile_19 hl rfl ?_
    refine lv_bipush (pc := 21) (v := nI 9) E.1.1 E.1.2.1 d_T_quantile_21 (by decide) ?_
    refine n_icmp_ge 23 (tgt := 116) E.1 d_T_quantile_23 rfl (by omega) (by omega) (fun h23 => ?_) (fun h23 => ?_)
    · exact absurd h23 (by omega)
    · refine kl_aload_n 26 E.1 d_T_quantile_26 hl rfl ?_
      refine T_gi 27 E.1 w 6 (by decide) l_T_high d_T_quantile_27 ?_
      refine n_top (h6) ?_
      refine kl_aload_n 30 E.1 d_T_quantile_30 hl rfl ?_
      refine T_gi 31 E.1 w 5 (by decide) l_T_low d_T_quantile_31 ?_
      refine n_top (h5) ?_
      refine n_isub 34 E.1 d_T_quantile_34 (by omega) ?_
      refine kl_aload_n 35 E.1 d_T_quantile_35 hl rfl ?_
      refine kl_iload 36 E.1 d_T_quantile_36 hl rfl ?_
      refine kl_aload_n 38 E.1 d_T_quantile_38 hl rfl ?_
      refine T_gi 39 E.1 w 6 (by decide) l_T_high d_T_quantile_39 ?_
      refine n_top (h6) ?_
      refine T_ci 42 E w (c_ones l D cI q f' G hn hlv (hhi) (hB lv hlv)) (cv_T_T_ones E.1.2.2.2 rfl rfl ⟨Nat.le_trans (by decide) hR.1, Nat.le_trans (by decide) hR.2⟩) (kl_sz hl) rfl rfl (Nat.le_of_ble_eq_true rfl) d_T_quantile_42 (fun r f1 G1 H locs hp w => ?_)
      obtain ⟨rfl, e1, e2⟩ := hp
      rw [e1, e2] at w
      refine kl_aload_n 45 E.1 d_T_quantile_45 hl rfl ?_
      refine kl_iload 46 E.1 d_T_quantile_46 hl rfl ?_
      refine kl_aload_n 48 E.1 d_T_quantile_48 hl rfl ?_
      refine T_gi 49 E.1 w 5 (by decide) l_T_low d_T_quantile_49 ?_
      refine n_top (h5) ?_
      refine T_ci 52 E w (c_ones l D cI q f' G hn hlv (hlo) (hB lv hlv)) (cv_T_T_ones E.1.2.2.2 rfl rfl ⟨Nat.le_trans (by decide) hR.1, Nat.le_trans (by decide) hR.2⟩) (kl_sz hl) rfl rfl (Nat.le_of_ble_eq_true rfl) d_T_quantile_52 (fun r f1 G1 H locs hp w => ?_)
      obtain ⟨rfl, e1, e2⟩ := hp
      rw [e1, e2] at w
      refine n_isub 55 E.1 d_T_quantile_55 (by omega) ?_
      refine n_isub 56 E.1 d_T_quantile_56 (by omega) ?_
      generalize hzz : hi - lo - (wm_rk A0 lv hi - wm_rk A0 lv lo) = z at hz ⊢
      refine kl_istore 57 E.1 d_T_quantile_57 hl (Nat.le_of_ble_eq_true rfl) (fun ls hl => ?_)
      refine kl_iload 59 E.1 d_T_quantile_59 hl rfl ?_
      refine kl_iload 61 E.1 d_T_quantile_61 hl rfl ?_
      refine n_icmp_lt 63 (tgt := 70) E.1 d_T_quantile_63 rfl (by omega) (by omega) (fun h63 => ?_) (fun h63 => ?_)
      · have hs := wm_In_s hLv hlv hI hab false
        have hc := wm_In_c hs
        have hlt := wm_lt_s (A0 0) (u := v) hlv hab false
        rw [if_neg (by decide), Nat.add_zero] at hlt
        refine lv_iconst (pc := 70) (v := nI 0) E.1.1 E.1.2.1 d_T_quantile_70 (by decide) ?_
        refine kl_istore 71 E.1 d_T_quantile_71 hl (Nat.le_of_ble_eq_true rfl) (fun ls hl => ?_)
        refine kl_iload 73 E.1 d_T_quantile_73 hl rfl ?_
        refine n_if_eq 75 (tgt := 85) E.1 d_T_quantile_75 rfl (by decide) (fun h75 => ?_) (fun h75 => ?_)
        · refine kl_aload_n 85 E.1 d_T_quantile_85 hl rfl ?_
          refine kl_iload 86 E.1 d_T_quantile_86 hl rfl ?_
          refine kl_iload 88 E.1 d_T_quantile_88 hl rfl ?_
          refine T_cv 90 E w (c_down l D cI q f' G (A0 := A0) false hn hlv hlo hhi (hB lv hlv) h5 h6) (cv_T_T_down E.1.2.2.2 rfl rfl ⟨Nat.le_trans (by decide) hR.1, Nat.le_trans (by decide) hR.2⟩) (kl_sz hl) rfl rfl (Nat.le_of_ble_eq_true rfl) d_T_quantile_90 (fun f1 G1 H locs hp w => ?_)
          obtain ⟨e1, e2⟩ := hp
          rw [e1, e2] at w
          refine kl_iload 93 E.1 d_T_quantile_93 hl rfl ?_
          refine lv_iconst (pc := 95) (v := nI 1) E.1.1 E.1.2.1 d_T_quantile_95 (by decide) ?_
          refine n_ishl 96 E.1 d_T_quantile_96 ?_
          refine kl_iload 97 E.1 d_T_quantile_97 hl rfl ?_
          refine n_if_eq 99 (tgt := 106) E.1 d_T_quantile_99 rfl (by decide) (fun h99 => ?_) (fun h99 => ?_)
          · refine lv_iconst (pc := 106) (v := nI 0) E.1.1 E.1.2.1 d_T_quantile_106 (by decide) ?_
            refine n_ior 107 E.1 d_T_quantile_107 ?_
            refine n_top (congrArg nI (wm_or1 v false)) ?_
            refine kl_istore 108 E.1 d_T_quantile_108 hl (Nat.le_of_ble_eq_true rfl) (fun ls hl => ?_)
            refine kl_inc1 110 E.1 d_T_quantile_110 hl rfl (fun ls hl => ?_)
            refine lv_goto (pc := 113) (tgt := 19) E.1.1 E.1.2.1 d_T_quantile_113 rfl ?_
            refine ih (lv + 1) _ _ left _ _ H locs ls _ _ (by omega) (by omega) ((hfk.up5 _).up6 _) rfl rfl hs ?_ ?_ ?_ w hl
            · rw [show 9 - (lv + 1) = 8 - lv by omega, hlt]; omega
            · rw [hc, show 9 - (lv + 1) = 8 - lv by omega]
              show left < wm_cn (A0 0) (fun x => x / 2 ^ (8 - lv) == 2 * v) a b
              omega
            · rw [Nat.pow_succ]; have : Bool.toNat false ≤ 1 := Bool.toNat_le _
              omega
          · exact absurd h99 (by decide)
        · exact absurd h75 (by decide)
      · have hs := wm_In_s hLv hlv hI hab true
        have hc := wm_In_c hs
        have hlt := wm_lt_s (A0 0) (u := v) hlv hab true
        rw [if_pos rfl, ← hz] at hlt
        refine lv_iconst (pc := 66) (v := nI 1) E.1.1 E.1.2.1 d_T_quantile_66 (by decide) ?_
        refine lv_goto (pc := 67) (tgt := 71) E.1.1 E.1.2.1 d_T_quantile_67 rfl ?_
        refine kl_istore 71 E.1 d_T_quantile_71 hl (Nat.le_of_ble_eq_true rfl) (fun ls hl => ?_)
        refine kl_iload 73 E.1 d_T_quantile_73 hl rfl ?_
        refine n_if_eq 75 (tgt := 85) E.1 d_T_quantile_75 rfl (by decide) (fun h75 => ?_) (fun h75 => ?_)
        · exact absurd h75 (by decide)
        · refine kl_iload 78 E.1 d_T_quantile_78 hl rfl ?_
          refine kl_iload 80 E.1 d_T_quantile_80 hl rfl ?_
          refine n_isub 82 E.1 d_T_quantile_82 (by omega) ?_
          refine kl_istore 83 E.1 d_T_quantile_83 hl (Nat.le_of_ble_eq_true rfl) (fun ls hl => ?_)
          refine kl_aload_n 85 E.1 d_T_quantile_85 hl rfl ?_
          refine kl_iload 86 E.1 d_T_quantile_86 hl rfl ?_
          refine kl_iload 88 E.1 d_T_quantile_88 hl rfl ?_
          refine T_cv 90 E w (c_down l D cI q f' G (A0 := A0) true hn hlv hlo hhi (hB lv hlv) h5 h6) (cv_T_T_down E.1.2.2.2 rfl rfl ⟨Nat.le_trans (by decide) hR.1, Nat.le_trans (by decide) hR.2⟩) (kl_sz hl) rfl rfl (Nat.le_of_ble_eq_true rfl) d_T_quantile_90 (fun f1 G1 H locs hp w => ?_)
          obtain ⟨e1, e2⟩ := hp
          rw [e1, e2] at w
          refine kl_iload 93 E.1 d_T_quantile_93 hl rfl ?_
          refine lv_iconst (pc := 95) (v := nI 1) E.1.1 E.1.2.1 d_T_quantile_95 (by decide) ?_
          refine n_ishl 96 E.1 d_T_quantile_96 ?_
          refine kl_iload 97 E.1 d_T_quantile_97 hl rfl ?_
          refine n_if_eq 99 (tgt := 106) E.1 d_T_quantile_99 rfl (by decide) (fun h99 => ?_) (fun h99 => ?_)
          · exact absurd h99 (by decide)
          · refine lv_iconst (pc := 102) (v := nI 1) E.1.1 E.1.2.1 d_T_quantile_102 (by decide) ?_
            refine lv_goto (pc := 103) (tgt := 107) E.1.1 E.1.2.1 d_T_quantile_103 rfl ?_
            refine n_ior 107 E.1 d_T_quantile_107 ?_
            refine n_top (congrArg nI (wm_or1 v true)) ?_
            refine kl_istore 108 E.1 d_T_quantile_108 hl (Nat.le_of_ble_eq_true rfl) (fun ls hl => ?_)
            refine kl_inc1 110 E.1 d_T_quantile_110 hl rfl (fun ls hl => ?_)
            refine lv_goto (pc := 113) (tgt := 19) E.1.1 E.1.2.1 d_T_quantile_113 rfl ?_
            refine ih (lv + 1) _ _ (left - z) _ _ H locs ls _ _ (by omega) (by omega) ((hfk.up5 _).up6 _) rfl rfl hs ?_ ?_ ?_ w hl
            · rw [show 9 - (lv + 1) = 8 - lv by omega, hlt]; omega
            · have hall := wm_In_c hI
              have hsp : wm_cn (A0 0) (fun x => x / 2 ^ (9 - lv) == v) a b = wm_cn (A0 0) (fun x => x / 2 ^ (8 - lv) == 2 * v) a b + wm_cn (A0 0) (fun x => x / 2 ^ (8 - lv) == 2 * v + 1) a b := by
                refine wm_cn_split _ hab (fun x => ?_)
                have hd : x / 2 ^ (9 - lv) = x / 2 ^ (8 - lv) / 2 := by rw [Nat.div_div_eq_div_mul, ← Nat.pow_succ, show (8 - lv).succ = 9 - lv by omega]
                rw [hd]
                generalize x / 2 ^ (8 - lv) = y
                rcases (show y / 2 ≠ v ∨ y = 2 * v ∨ y = 2 * v + 1 by omega) with h | h | h
                · rw [show (y / 2 == v) = false by simp; omega, show (y == 2 * v) = false by simp; omega, show (y == 2 * v + 1) = false by simp; omega]; rfl
                · subst h
                  rw [show (2 * v / 2 == v) = true by simp, show (2 * v == 2 * v + 1) = false by simp]; simp
                · subst h
                  rw [show ((2 * v + 1) / 2 == v) = true by simp; omega, show (2 * v + 1 == 2 * v) = false by simp]; simp
              rw [hc, show 9 - (lv + 1) = 8 - lv by omega]
              show left - z < wm_cn (A0 0) (fun x => x / 2 ^ (8 - lv) == 2 * v + 1) a b
              omega
            · rw [Nat.pow_succ]; have : Bool.toNat true ≤ 1 := Bool.toNat_le _
              omega
end LPquant

def rm_quantile : Room := { frames := 3, cells := 0, slots := 0, locals := 84 }
theorem c_quantile (l : Launch) (D : va_G) (cI : ClassId) (q : Nat → Nat) (f : Nat → Int32) (G : Nat → Nat → Int32) {n : Nat} {A0 : Nat → Nat → Nat} {a b k : Nat} (hq : kq f G n A0) (hab : a ≤ b) (hb : b ≤ n) (hk : k < b - a) : T_Mi l y_T_quantile b_T_quantile 9 (some .int) rm_quantile D cI q f G [.int (nI a), .int (nI b), .int (nI k)]
    (fun r f' G' => (∃ v, r = nI v ∧ wm_Qt (A0 0) a b k v) ∧ fk f f' ∧ G' = G) := by
  refine T_ofi rfl (Nat.le_of_ble_eq_true rfl) ?_
  intro p e s m args below meth c ls A E w hl
  have hl : kl ls [some (.ref (q 0)), some (.int (nI a)), some (.int (nI b)), some (.int (nI k)), none, none, none, none, none] := kl_of _ hl rfl rfl rfl
  refine kl_aload_n 0 E.1 d_T_quantile_0 hl rfl ?_
  refine kl_iload_n 1 E.1 d_T_quantile_1 hl rfl ?_
  refine T_pi 2 E.1 w 5 (by decide) l_T_low d_T_quantile_2 (fun H locs w => ?_)
  refine kl_aload_n 5 E.1 d_T_quantile_5 hl rfl ?_
  refine kl_iload_n 6 E.1 d_T_quantile_6 hl rfl ?_
  refine T_pi 7 E.1 w 6 (by decide) l_T_high d_T_quantile_7 (fun H locs w => ?_)
  refine kl_iload_n 10 E.1 d_T_quantile_10 hl rfl ?_
  refine kl_istore 11 E.1 d_T_quantile_11 hl (Nat.le_of_ble_eq_true rfl) (fun ls hl => ?_)
  refine lv_iconst (pc := 13) (v := nI 0) E.1.1 E.1.2.1 d_T_quantile_13 (by decide) ?_
  refine kl_istore 14 E.1 d_T_quantile_14 hl (Nat.le_of_ble_eq_true rfl) (fun ls hl => ?_)
  refine lv_iconst (pc := 16) (v := nI 0) E.1.1 E.1.2.1 d_T_quantile_16 (by decide) ?_
  refine kl_istore 17 E.1 d_T_quantile_17 hl (Nat.le_of_ble_eq_true rfl) (fun ls hl => ?_)
  refine lp_quantile E (by decide) hq hab hb (fun f' v H locs ls L hfk hQ w hl h5 => ?_) 9 0 a b k 0 _ H locs ls none none rfl (by decide) (((fk.rf f).up5 _).up6 _) rfl rfl (wm_In_0 hq.2.2.2 hab hb) ?_ hk (by decide) w hl
  · refine kl_iload 116 E.1 d_T_quantile_116 hl h5 ?_
    exact T_iret 118 E w d_T_quantile_118 ⟨⟨v, rfl, hQ⟩, hfk, rfl⟩
  · rw [wm_cn_none _ hab (fun v => decide_eq_false (Nat.not_lt_zero _)), Nat.add_zero]
def rm_least : Room := { frames := 4, cells := 0, slots := 0, locals := 120 }
theorem c_least (l : Launch) (D : va_G) (cI : ClassId) (q : Nat → Nat) (f : Nat → Int32) (G : Nat → Nat → Int32) {n : Nat} {A0 : Nat → Nat → Nat} {a b k : Nat} (hq : kq f G n A0) (hab : a ≤ b) (hb : b ≤ n) (hk : k < b - a) : T_Mi l y_T_least b_T_least 4 (some .int) rm_least D cI q f G [.int (nI a), .int (nI b), .int (nI k)]
    (fun r f' G' => (∃ v, r = nI v ∧ wm_Qt (A0 0) a b k v) ∧ fk f f' ∧ G' = G) := by
  refine T_ofi rfl (Nat.le_of_ble_eq_true rfl) ?_
  intro p e s m args below meth c ls A E w hl
  have hl : kl ls [some (.ref (q 0)), some (.int (nI a)), some (.int (nI b)), some (.int (nI k))] := kl_of _ hl rfl rfl rfl
  have hn := hq.2.1
  refine kl_aload_n 0 E.1 d_T_least_0 hl rfl ?_
  refine kl_iload_n 1 E.1 d_T_least_1 hl rfl ?_
  refine kl_iload_n 2 E.1 d_T_least_2 hl rfl ?_
  refine T_cv 3 E w (c_part l D cI q f G hn hq.1 hab hb) (cv_T_T_part E.1.2.2.2 rfl rfl ⟨by decide, by decide⟩) (kl_sz hl) rfl rfl (Nat.le_of_ble_eq_true rfl) d_T_least_3 (fun f1 G1 H locs hp w => ?_)
  obtain ⟨e1, e2⟩ := hp
  rw [e1, e2] at w
  refine kl_iload_n 6 E.1 d_T_least_6 hl rfl ?_
  refine n_if_lt 7 E.1 d_T_least_7 (by omega) 17 rfl ?_
  refine kl_iload_n 10 E.1 d_T_least_10 hl rfl ?_
  refine kl_iload_n 11 E.1 d_T_least_11 hl rfl ?_
  refine kl_iload_n 12 E.1 d_T_least_12 hl rfl ?_
  refine n_isub 13 E.1 d_T_least_13 (by omega) ?_
  refine n_icmp_lt 14 (tgt := 25) E.1 d_T_least_14 rfl (by omega) (by omega) (fun h14 => ?_) (fun h14 => ?_)
  · refine kl_aload_n 25 E.1 d_T_least_25 hl rfl ?_
    refine kl_iload_n 26 E.1 d_T_least_26 hl rfl ?_
    refine kl_iload_n 27 E.1 d_T_least_27 hl rfl ?_
    refine kl_iload_n 28 E.1 d_T_least_28 hl rfl ?_
    refine T_ci 29 E w (c_quantile l D cI q f G hq hab hb hk) (cv_T_T_quantile E.1.2.2.2 rfl rfl ⟨by decide, by decide⟩) (kl_sz hl) rfl rfl (Nat.le_of_ble_eq_true rfl) d_T_least_29 (fun r f1 G1 H locs hp w => ?_)
    obtain ⟨h1, h2, e2⟩ := hp
    rw [e2] at w
    exact T_iret 32 E w d_T_least_32 ⟨h1, h2, rfl⟩
  · exact absurd h14 (by omega)
section LPbelow
variable {p : Program} {l : Launch} {e : Env} {R : Room} {s : State} {m : MethodId} {args : Array Value} {below : List Frame} {meth : Method} {c : Code} {H : Heap} {locs : List Loc} {Q : State → Prop} {ls : Array Slot} {D : va_G} {cI : ClassId} {A : Nat → Prop} {q : Nat → Nat} {f : Nat → Int32} {G : Nat → Nat → Int32}
theorem lp_below {n : Nat} {A0 : Nat → Nat → Nat} {nu a b : Nat} (E : kx_E p s m args c b_T_below R_T 7 meth (some .int) A) (hR : 3 ≤ R.frames ∧ 84 ≤ R.locals) (hq : kq f G n A0) (hnu : nu < 512) (hab : a ≤ b) (hb : b ≤ n)
    (K : ∀ (f' : Nat → Int32) (H : Heap) (locs : List Loc) (ls : Array Slot) (L : List (Option Value)), fk f f' → kx_T D cI A q f' G s H locs → kl ls L → L[4]? = some (some (.int (nI (wm_cn (A0 0) (fun x => decide (x < nu)) a b)))) → W p l e R s m args below meth c H locs 0 0 Q (F0 m 122 ls [])) :
    ∀ (u lv : Nat) (f' : Nat → Int32) (H : Heap) (locs : List Loc) (ls : Array Slot) (x6 : Option Value), 9 - lv = u → lv ≤ 9 → fk f f' → f' 5 = nI (wm_dn A0 n nu a lv) → f' 6 = nI (wm_dn A0 n nu b lv) → kx_T D cI A q f' G s H locs →
      kl ls [some (.ref (q 0)), some (.int (nI nu)), some (.int (nI a)), some (.int (nI b)), some (.int (nI (wm_cn (A0 0) (fun x => decide (x / 2 ^ (9 - lv) < nu / 2 ^ (9 - lv))) a b))), some (.int (nI lv)), x6] →
      W p l e R s m args below meth c H locs 0 0 Q (F0 m 40 ls []) := by
  obtain ⟨hf, hn, hB, hLv⟩ := hq
  intro u
  induction u with
  | zero =>
    intro lv f' H locs ls x6 hu hlv hfk h5 h6 w hl
    have : lv = 9 := by omega
    subst this
    refine kl_iload 40 E.1 d_T_below_40 hl rfl ?_
    refine lv_bipush (pc := 42) (v := nI 9) E.1.1 E.1.2.1 d_T_below_42 (by decide) ?_
    refine n_icmp_ge 44 (tgt := 122) E.1 d_T_below_44 rfl (by omega) (by omega) (fun h44 => ?_) (fun h44 => ?_)
    · rw [show nu / 2 ^ (9 - 9) = nu from Nat.div_one _, wm_cn_lt9] at hl
      exact K f' H locs ls _ hfk w hl rfl
    · exact absurd h44 (by omega)
  | succ u ih =>
    intro lv f' H locs ls x6 hu hlv9 hfk h5 h6 w hl
    have hlv : lv < 9 := by omega
    have hI := wm_dn_In hLv hnu hab hb lv hlv9
    have hbit := wm_bitv (v := nu) hlv
    have hs1 := wm_dn_s A0 n nu a lv
    have hs2 := wm_dn_s A0 n nu b lv
    obtain ⟨hz, hz1, hz2⟩ := wm_In_z hLv hlv hI hab
    have hlo := Nat.le_trans hI.1.1 hI.1.2
    have hhi := hI.1.2
    have hle := hI.1.1
    have hdv := wm_div' (v := nu) hlv
    refine kl_iload 40 E.1 d_T_below_40 hl rfl ?_
    refine lv_bipush (pc := 42) (v := nI 9) E.1.1 E.1.2.1 d_T_below_42 (by decide) ?_
    refine n_icmp_ge 44 (tgt := 122) E.1 d_T_below_44 rfl (by omega) (by omega) (fun h44 => ?_) (fun h44 => ?_)
    · exact absurd h44 (by omega)
    · cases ht : nu.testBit (8 - lv) with
      | false =>
        rw [ht] at hbit hs1 hs2 hdv
        have hlt := wm_lt_s (A0 0) (u := nu / 2 ^ (9 - lv)) hlv hab false
        rw [if_neg (by decide), Nat.add_zero] at hlt
        rw [← hdv, show 8 - lv = 9 - (lv + 1) by omega] at hlt
        refine kl_iload_n 47 E.1 d_T_below_47 hl rfl ?_
        refine lv_bipush (pc := 48) (v := nI 8) E.1.1 E.1.2.1 d_T_below_48 (by decide) ?_
        refine kl_iload 50 E.1 d_T_below_50 hl rfl ?_
        refine n_isub 52 E.1 d_T_below_52 (by omega) ?_
        refine n_ishr 53 E.1 d_T_below_53 (by omega) ?_
        refine lv_iconst (pc := 54) (v := nI 1) E.1.1 E.1.2.1 d_T_below_54 (by decide) ?_
        refine n_iand 55 E.1 d_T_below_55 ?_
        refine n_top (congrArg nI hbit) ?_
        refine lv_iconst (pc := 56) (v := nI 1) E.1.1 E.1.2.1 d_T_below_56 (by decide) ?_
        refine n_icmp_ne 57 (tgt := 64) E.1 d_T_below_57 rfl (by decide) (by decide) (fun h57 => ?_) (fun h57 => ?_)
        · refine lv_iconst (pc := 64) (v := nI 0) E.1.1 E.1.2.1 d_T_below_64 (by decide) ?_
          refine kl_istore 65 E.1 d_T_below_65 hl (Nat.le_of_ble_eq_true rfl) (fun ls hl => ?_)
          refine kl_iload 67 E.1 d_T_below_67 hl rfl ?_
          refine n_if_eq 69 (tgt := 108) E.1 d_T_below_69 rfl (by decide) (fun h69 => ?_) (fun h69 => ?_)
          · refine kl_aload_n 108 E.1 d_T_below_108 hl rfl ?_
            refine kl_iload 109 E.1 d_T_below_109 hl rfl ?_
            refine kl_iload 111 E.1 d_T_below_111 hl rfl ?_
            refine T_cv 113 E w (c_down l D cI q f' G (A0 := A0) false hn hlv hlo hhi (hB lv hlv) h5 h6) (cv_T_T_down E.1.2.2.2 rfl rfl ⟨Nat.le_trans (by decide) hR.1, Nat.le_trans (by decide) hR.2⟩) (kl_sz hl) rfl rfl (Nat.le_of_ble_eq_true rfl) d_T_below_113 (fun f1 G1 H locs hp w => ?_)
            obtain ⟨e1, e2⟩ := hp
            rw [e1, e2] at w
            refine kl_inc1 116 E.1 d_T_below_116 hl rfl (fun ls hl => ?_)
            refine lv_goto (pc := 119) (tgt := 40) E.1.1 E.1.2.1 d_T_below_119 rfl ?_
            rw [← hlt] at hl
            exact ih (lv + 1) _ H locs ls _ (by omega) (by omega) ((hfk.up5 _).up6 _) (by rw [hs1]; rfl) (by rw [hs2]; rfl) w hl
          · exact absurd h69 (by decide)
        · exact absurd h57 (by decide)
      | true =>
        rw [ht] at hbit hs1 hs2 hdv
        have hlt := wm_lt_s (A0 0) (u := nu / 2 ^ (9 - lv)) hlv hab true
        rw [if_pos rfl, ← hz] at hlt
        rw [← hdv, show 8 - lv = 9 - (lv + 1) by omega] at hlt
        refine kl_iload_n 47 E.1 d_T_below_47 hl rfl ?_
        refine lv_bipush (pc := 48) (v := nI 8) E.1.1 E.1.2.1 d_T_below_48 (by decide) ?_
        refine kl_iload 50 E.1 d_T_below_50 hl rfl ?_
        refine n_isub 52 E.1 d_T_below_52 (by omega) ?_
        refine n_ishr 53 E.1 d_T_below_53 (by omega) ?_
        refine lv_iconst (pc := 54) (v := nI 1) E.1.1 E.1.2.1 d_T_below_54 (by decide) ?_
        refine n_iand 55 E.1 d_T_below_55 ?_
        refine n_top (congrArg nI hbit) ?_
        refine lv_iconst (pc := 56) (v := nI 1) E.1.1 E.1.2.1 d_T_below_56 (by decide) ?_
        refine n_icmp_ne 57 (tgt := 64) E.1 d_T_below_57 rfl (by decide) (by decide) (fun h57 => ?_) (fun h57 => ?_)
        · exact absurd h57 (by decide)
        · refine lv_iconst (pc := 60) (v := nI 1) E.1.1 E.1.2.1 d_T_below_60 (by decide) ?_
          refine lv_goto (pc := 61) (tgt := 65) E.1.1 E.1.2.1 d_T_below_61 rfl ?_
          refine kl_istore 65 E.1 d_T_below_65 hl (Nat.le_of_ble_eq_true rfl) (fun ls hl => ?_)
          refine kl_iload 67 E.1 d_T_below_67 hl rfl ?_
          refine n_if_eq 69 (tgt := 108) E.1 d_T_below_69 rfl (by decide) (fun h69 => ?_) (fun h69 => ?_)
          · exact absurd h69 (by decide)
          · refine kl_iload 72 E.1 d_T_below_72 hl rfl ?_
            refine kl_aload_n 74 E.1 d_T_below_74 hl rfl ?_
            refine T_gi 75 E.1 w 6 (by decide) l_T_high d_T_below_75 ?_
            refine n_top (h6) ?_
            refine kl_aload_n 78 E.1 d_T_below_78 hl rfl ?_
            refine T_gi 79 E.1 w 5 (by decide) l_T_low d_T_below_79 ?_
            refine n_top (h5) ?_
            refine n_isub 82 E.1 d_T_below_82 (by omega) ?_
            refine kl_aload_n 83 E.1 d_T_below_83 hl rfl ?_
            refine kl_iload 84 E.1 d_T_below_84 hl rfl ?_
            refine kl_aload_n 86 E.1 d_T_below_86 hl rfl ?_
            refine T_gi 87 E.1 w 6 (by decide) l_T_high d_T_below_87 ?_
            refine n_top (h6) ?_
            refine T_ci 90 E w (c_ones l D cI q f' G hn hlv (hhi) (hB lv hlv)) (cv_T_T_ones E.1.2.2.2 rfl rfl ⟨Nat.le_trans (by decide) hR.1, Nat.le_trans (by decide) hR.2⟩) (kl_sz hl) rfl rfl (Nat.le_of_ble_eq_true rfl) d_T_below_90 (fun r f1 G1 H locs hp w => ?_)
            obtain ⟨rfl, e1, e2⟩ := hp
            rw [e1, e2] at w
            refine kl_aload_n 93 E.1 d_T_below_93 hl rfl ?_
            refine kl_iload 94 E.1 d_T_below_94 hl rfl ?_
            refine kl_aload_n 96 E.1 d_T_below_96 hl rfl ?_
            refine T_gi 97 E.1 w 5 (by decide) l_T_low d_T_below_97 ?_
            refine n_top (h5) ?_
            refine T_ci 100 E w (c_ones l D cI q f' G hn hlv (hlo) (hB lv hlv)) (cv_T_T_ones E.1.2.2.2 rfl rfl ⟨Nat.le_trans (by decide) hR.1, Nat.le_trans (by decide) hR.2⟩) (kl_sz hl) rfl rfl (Nat.le_of_ble_eq_true rfl) d_T_below_100 (fun r f1 G1 H locs hp w => ?_)
            obtain ⟨rfl, e1, e2⟩ := hp
            rw [e1, e2] at w
            refine n_isub 103 E.1 d_T_below_103 (by omega) ?_
            refine n_isub 104 E.1 d_T_below_104 (by omega) ?_
            refine n_iadd 105 E.1 d_T_below_105 ?_
            rw [← hlt]
            refine kl_istore 106 E.1 d_T_below_106 hl (Nat.le_of_ble_eq_true rfl) (fun ls hl => ?_)
            refine kl_aload_n 108 E.1 d_T_below_108 hl rfl ?_
            refine kl_iload 109 E.1 d_T_below_109 hl rfl ?_
            refine kl_iload 111 E.1 d_T_below_111 hl rfl ?_
            refine T_cv 113 E w (c_down l D cI q f' G (A0 := A0) true hn hlv hlo hhi (hB lv hlv) h5 h6) (cv_T_T_down E.1.2.2.2 rfl rfl ⟨Nat.le_trans (by decide) hR.1, Nat.le_trans (by decide) hR.2⟩) (kl_sz hl) rfl rfl (Nat.le_of_ble_eq_true rfl) d_T_below_113 (fun f1 G1 H locs hp w => ?_)
            obtain ⟨e1, e2⟩ := hp
            rw [e1, e2] at w
            refine kl_inc1 116 E.1 d_T_below_116 hl rfl (fun ls hl => ?_)
            refine lv_goto (pc := 119) (tgt := 40) E.1.1 E.1.2.1 d_T_below_119 rfl ?_
            exact ih (lv + 1) _ H locs ls _ (by omega) (by omega) ((hfk.up5 _).up6 _) (by rw [hs1]; rfl) (by rw [hs2]; rfl) w hl
end LPbelow

def rm_below : Room := { frames := 3, cells := 0, slots := 0, locals := 84 }
theorem c_below (l : Launch) (D : va_G) (cI : ClassId) (q : Nat → Nat) (f : Nat → Int32) (G : Nat → Nat → Int32) {n : Nat} {A0 : Nat → Nat → Nat} {nu a b : Nat} (hq : kq f G n A0) (hnu : nu ≤ 512) (hab : a ≤ b) (hb : b ≤ n) : T_Mi l y_T_below b_T_below 7 (some .int) rm_below D cI q f G [.int (nI nu), .int (nI a), .int (nI b)]
    (fun r f' G' => r = nI (wm_cn (A0 0) (fun x => decide (x < nu)) a b) ∧ fk f f' ∧ G' = G) := by
  refine T_ofi rfl (Nat.le_of_ble_eq_true rfl) ?_
  intro p e s m args below meth c ls A E w hl
  have hl : kl ls [some (.ref (q 0)), some (.int (nI nu)), some (.int (nI a)), some (.int (nI b)), none, none, none] := kl_of _ hl rfl rfl rfl
  have hn := hq.2.1
  refine kl_iload_n 0 E.1 d_T_below_0 hl rfl ?_
  refine lv_sipush (pc := 1) (v := nI 512) E.1.1 E.1.2.1 d_T_below_1 (by decide) ?_
  refine S_cv 4 E (c_numchk l (v := nu) (mx := 512) hnu (by decide)) (cv_T_T_numchk E.1.2.2.2 rfl rfl ⟨by decide, by decide⟩) (kl_sz hl) rfl rfl (Nat.le_of_ble_eq_true rfl) d_T_below_4 ?_
  refine kl_aload_n 7 E.1 d_T_below_7 hl rfl ?_
  refine kl_iload_n 8 E.1 d_T_below_8 hl rfl ?_
  refine kl_iload_n 9 E.1 d_T_below_9 hl rfl ?_
  refine T_cv 10 E w (c_part l D cI q f G hn hq.1 hab hb) (cv_T_T_part E.1.2.2.2 rfl rfl ⟨by decide, by decide⟩) (kl_sz hl) rfl rfl (Nat.le_of_ble_eq_true rfl) d_T_below_10 (fun f1 G1 H locs hp w => ?_)
  obtain ⟨e1, e2⟩ := hp
  rw [e1, e2] at w
  refine kl_iload_n 13 E.1 d_T_below_13 hl rfl ?_
  refine lv_sipush (pc := 14) (v := nI 512) E.1.1 E.1.2.1 d_T_below_14 (by decide) ?_
  refine n_icmp_ne 17 (tgt := 24) E.1 d_T_below_17 rfl (by omega) (by omega) (fun h17 => ?_) (fun h17 => ?_)
  · refine kl_aload_n 24 E.1 d_T_below_24 hl rfl ?_
    refine kl_iload_n 25 E.1 d_T_below_25 hl rfl ?_
    refine T_pi 26 E.1 w 5 (by decide) l_T_low d_T_below_26 (fun H locs w => ?_)
    refine kl_aload_n 29 E.1 d_T_below_29 hl rfl ?_
    refine kl_iload_n 30 E.1 d_T_below_30 hl rfl ?_
    refine T_pi 31 E.1 w 6 (by decide) l_T_high d_T_below_31 (fun H locs w => ?_)
    refine lv_iconst (pc := 34) (v := nI 0) E.1.1 E.1.2.1 d_T_below_34 (by decide) ?_
    refine kl_istore 35 E.1 d_T_below_35 hl (Nat.le_of_ble_eq_true rfl) (fun ls hl => ?_)
    refine lv_iconst (pc := 37) (v := nI 0) E.1.1 E.1.2.1 d_T_below_37 (by decide) ?_
    refine kl_istore 38 E.1 d_T_below_38 hl (Nat.le_of_ble_eq_true rfl) (fun ls hl => ?_)
    refine lp_below E (by decide) hq (show nu < 512 by omega) hab hb (fun f' H locs ls L hfk w hl h4 => ?_) 9 0 _ H locs ls none rfl (by decide) (((fk.rf f).up5 _).up6 _) rfl rfl w ?_
    · refine kl_iload 122 E.1 d_T_below_122 hl h4 ?_
      exact T_iret 124 E w d_T_below_124 ⟨rfl, hfk, rfl⟩
    · rw [show nu / 2 ^ (9 - 0) = 0 from Nat.div_eq_of_lt (show nu < 512 by omega), wm_cn_none _ hab (fun v => decide_eq_false (Nat.not_lt_zero _))]
      exact hl
  · refine kl_iload_n 20 E.1 d_T_below_20 hl rfl ?_
    refine kl_iload_n 21 E.1 d_T_below_21 hl rfl ?_
    refine n_isub 22 E.1 d_T_below_22 (by omega) ?_
    subst h17
    refine T_iret 23 E w d_T_below_23 ⟨?_, fk.rf f, rfl⟩
    rw [wm_cn_congr (g := A0 0) (p' := fun _ => true) hab (fun j h1 h2 => decide_eq_true (hq.2.2.2.2 j (by omega))), wm_cn_all _ hab]
end
section
/-! the tree: place -/
def wm_Pl (A0 : Nat → Nat → Nat) (n nu k u i : Nat) : Prop := (wm_dn A0 n nu 0 u ≤ i ∧ i < wm_dn A0 n nu n u) ∧ A0 u i = nu ∧ wm_cn (A0 u) (fun x => x == nu) (wm_dn A0 n nu 0 u) i = k
theorem wm_Pl_9 {A0 : Nat → Nat → Nat} {n nu k : Nat} (h : wm_Lv A0 n) (hnu : nu < 512) (hk : k < wm_cn (A0 0) (fun x => x == nu) 0 n) : wm_Pl A0 n nu k 9 (wm_dn A0 n nu 0 9 + k) := by
  have hI := wm_dn_In h hnu (Nat.zero_le n) (Nat.le_refl n) 9 (Nat.le_refl _)
  have hc := wm_In_c hI
  rw [wm_cn_eq9] at hc
  have hall : ∀ j, wm_dn A0 n nu 0 9 ≤ j → j < wm_dn A0 n nu n 9 → A0 9 j = nu := by
    intro j h1 h2
    have h3 := hI.2 (fun x => !(x == nu))
    rw [wm_cn_none (A0 0) (Nat.zero_le n) (fun v => by
      rw [show v / 2 ^ (9 - 9) = v from Nat.div_one _, show nu / 2 ^ (9 - 9) = nu from Nat.div_one _]
      cases v == nu <;> rfl)] at h3
    cases hb : (A0 9 j == nu) with
    | true => exact eq_of_beq hb
    | false =>
      have h4 := wm_cn_one (A0 9) (p := fun x => !(x == nu)) h1 h2 (by rw [hb]; rfl)
      omega
  refine ⟨⟨Nat.le_add_right _ _, by omega⟩, hall _ (Nat.le_add_right _ _) (by omega), ?_⟩
  rw [wm_cn_congr (g := A0 9) (p' := fun _ => true) (Nat.le_add_right _ _) (fun j h1 h2 => by rw [hall j h1 (by omega)]; simp), wm_cn_all _ (Nat.le_add_right _ _)]
  omega
theorem wm_Pl_key {A0 : Nat → Nat → Nat} {n nu k u i : Nat} (h : wm_Lv A0 n) (hnu : nu < 512) (hu : u < 9) (hP : wm_Pl A0 n nu k (u + 1) i) : i < n ∧ (nu.testBit (8 - u) = true → n - wm_rk A0 u n ≤ i ∧ i - (n - wm_rk A0 u n) < wm_N A0 u true n) ∧ (nu.testBit (8 - u) = false → i < wm_N A0 u false n) := by
  obtain ⟨⟨h1, h2⟩, -, -⟩ := hP
  have hI := (wm_dn_In h hnu (Nat.zero_le n) (Nat.le_refl n) u (by omega)).1
  have hI' := (wm_dn_In h hnu (Nat.zero_le n) (Nat.le_refl n) (u + 1) hu).1
  have hr := wm_rk_le A0 u n
  refine ⟨by omega, fun ht => ?_, fun ht => ?_⟩
  · rw [wm_dn_s, ht, wm_ps_1] at h1
    have h3 : wm_N A0 u true n = wm_rk A0 u n := rfl
    have h4 : wm_rk A0 u n = wm_ct (wm_b (A0 u) (8 - u)) n := rfl
    rw [h3]
    omega
  · rw [wm_dn_s, ht] at h2
    have h3 : wm_N A0 u false n = wm_ps (A0 u) (8 - u) n false n := rfl
    rw [h3]
    exact Nat.lt_of_lt_of_le h2 (wm_ps_mono false hI.2)
theorem wm_Pl_s {A0 : Nat → Nat → Nat} {n nu k u i x : Nat} (h : wm_Lv A0 n) (hnu : nu < 512) (hu : u < 9) (hP : wm_Pl A0 n nu k (u + 1) i) (hx : x < n) (hb : wm_b (A0 u) (8 - u) x = nu.testBit (8 - u)) (hp : wm_ps (A0 u) (8 - u) n (nu.testBit (8 - u)) x = i) : wm_Pl A0 n nu k u x := by
  obtain ⟨⟨h1, h2⟩, h3, h4⟩ := hP
  have hI := (wm_dn_In h hnu (Nat.zero_le n) (Nat.le_refl n) u (by omega)).1
  have hN := h.1 u hu x hx
  rw [hb, hp] at hN
  have lo : wm_dn A0 n nu 0 u ≤ x := by
    rcases Nat.lt_or_ge x (wm_dn A0 n nu 0 u) with h5 | h5
    · have h6 := wm_ps_lt (f := A0 u) (c := 8 - u) (n := n) h5
      rw [hb, hp, ← wm_dn_s] at h6
      omega
    · exact h5
  have hi : x < wm_dn A0 n nu n u := by
    rcases Nat.lt_or_ge x (wm_dn A0 n nu n u) with h5 | h5
    · exact h5
    · have h6 := wm_ps_mono (f := A0 u) (c := 8 - u) (n := n) (nu.testBit (8 - u)) h5
      rw [hp, ← wm_dn_s] at h6
      omega
  refine ⟨⟨lo, hi⟩, hN.symm.trans h3, ?_⟩
  have h5 := wm_sc (h.1 u hu) (fun v => v == nu) (nu.testBit (8 - u)) lo (Nat.le_of_lt hx)
  rw [hp, ← wm_dn_s, h4] at h5
  rw [h5]
  refine wm_cn_congr lo (fun j _ _ => ?_)
  cases hj : (A0 u j == nu) with
  | false => rfl
  | true => rw [eq_of_beq hj]; simp
/-- the counter of the way up: one less than u -/
def kz (u : Nat) : Int32 := if u = 0 then -1 else nI (u - 1)
section LPplace
variable {p : Program} {l : Launch} {e : Env} {R : Room} {s : State} {m : MethodId} {args : Array Value} {below : List Frame} {meth : Method} {c : Code} {H : Heap} {locs : List Loc} {Q : State → Prop} {ls : Array Slot} {D : va_G} {cI : ClassId} {A : Nat → Prop} {q : Nat → Nat} {f : Nat → Int32} {G : Nat → Nat → Int32}
theorem lp_place {n : Nat} {A0 : Nat → Nat → Nat} {nu k : Nat} (E : kx_E p s m args c b_T_place R_T 6 meth (some .int) A) (hR : 3 ≤ R.frames ∧ 87 ≤ R.locals) (hq : kq f G n A0) (hnu : nu < 512)
    (K : ∀ (x : Nat) (H : Heap) (locs : List Loc) (ls : Array Slot) (L : List (Option Value)), wm_Pl A0 n nu k 0 x → kx_T D cI A q f G s H locs → kl ls L → L[3]? = some (some (.int (nI x))) → W p l e R s m args below meth c H locs 0 0 Q (F0 m 102 ls [])) :
    ∀ (u i : Nat) (H : Heap) (locs : List Loc) (ls : Array Slot) (x5 : Option Value), u ≤ 9 → wm_Pl A0 n nu k u i → kx_T D cI A q f G s H locs → kl ls [some (.ref (q 0)), some (.int (nI nu)), some (.int (nI k)), some (.int (nI i)), some (.int (kz u)), x5] →
      W p l e R s m args below meth c H locs 0 0 Q (F0 m 44 ls []) := by
  have hq0 := hq
  obtain ⟨hf, hn, hB, hLv⟩ := hq
  intro u
  induction u with
  | zero =>
    intro i H locs ls x5 hu hP w hl
    refine kl_iload 44 E.1 d_T_place_44 hl rfl ?_
    refine lv_if_lt (pc := 46) (tgt := 102) E.1.1 E.1.2.1 d_T_place_46 rfl (fun h46 => ?_) (fun h46 => ?_)
    · exact K i H locs ls _ hP w hl rfl
    · exact absurd (show kz 0 < 0 by decide) h46
  | succ u ih =>
    intro i H locs ls x5 hu9 hP w hl
    have hu : u < 9 := by omega
    have hz := (hB u hu).1
    have hbit := wm_bitv (v := nu) hu
    obtain ⟨hin, hk1, hk0⟩ := wm_Pl_key hLv hnu hu hP
    have hl : kl ls [some (.ref (q 0)), some (.int (nI nu)), some (.int (nI k)), some (.int (nI i)), some (.int (nI u)), x5] := hl
    refine kl_iload 44 E.1 d_T_place_44 hl rfl ?_
    refine n_if_lt 46 E.1 d_T_place_46 (by omega) 102 rfl ?_
    cases ht : nu.testBit (8 - u) with
    | false =>
      rw [ht] at hbit hk1 hk0
      refine kl_iload_n 49 E.1 d_T_place_49 hl rfl ?_
      refine lv_bipush (pc := 50) (v := nI 8) E.1.1 E.1.2.1 d_T_place_50 (by decide) ?_
      refine kl_iload 52 E.1 d_T_place_52 hl rfl ?_
      refine n_isub 54 E.1 d_T_place_54 (by omega) ?_
      refine n_ishr 55 E.1 d_T_place_55 (by omega) ?_
      refine lv_iconst (pc := 56) (v := nI 1) E.1.1 E.1.2.1 d_T_place_56 (by decide) ?_
      refine n_iand 57 E.1 d_T_place_57 ?_
      refine n_top (congrArg nI hbit) ?_
      refine lv_iconst (pc := 58) (v := nI 1) E.1.1 E.1.2.1 d_T_place_58 (by decide) ?_
      refine n_icmp_ne 59 (tgt := 66) E.1 d_T_place_59 rfl (by decide) (by decide) (fun h59 => ?_) (fun h59 => ?_)
      · refine lv_iconst (pc := 66) (v := nI 0) E.1.1 E.1.2.1 d_T_place_66 (by decide) ?_
        refine kl_istore 67 E.1 d_T_place_67 hl (Nat.le_of_ble_eq_true rfl) (fun ls hl => ?_)
        refine kl_aload_n 69 E.1 d_T_place_69 hl rfl ?_
        refine kl_iload 70 E.1 d_T_place_70 hl rfl ?_
        refine kl_iload 72 E.1 d_T_place_72 hl rfl ?_
        refine kl_iload 74 E.1 d_T_place_74 hl rfl ?_
        refine n_if_eq 76 (tgt := 91) E.1 d_T_place_76 rfl (by decide) (fun h76 => ?_) (fun h76 => ?_)
        · refine kl_iload_n 91 E.1 d_T_place_91 hl rfl ?_
          refine T_ci 92 E w (c_select l D cI q f G (A0 := A0) (t := false) hn hu (hB u hu) hf (hk0 rfl)) (cv_T_T_select E.1.2.2.2 rfl rfl ⟨Nat.le_trans (by decide) hR.1, Nat.le_trans (by decide) hR.2⟩) (kl_sz hl) rfl rfl (Nat.le_of_ble_eq_true rfl) d_T_place_92 (fun r f1 G1 H locs hp w => ?_)
          obtain ⟨⟨x, rfl, hx1, hx2, hx3⟩, e1, e2⟩ := hp
          rw [e1, e2] at w
          refine kl_istore_n 95 E.1 d_T_place_95 hl (Nat.le_of_ble_eq_true rfl) (fun ls hl => ?_)
          refine kl_iinc 96 E.1 d_T_place_96 hl rfl (show nI u + Int32.ofInt (-1) = kz u by unfold kz; split; (rename_i h; rw [h]; rfl); (rename_i h; exact sb_m1 (by omega))) (fun ls hl => ?_)
          refine lv_goto (pc := 99) (tgt := 44) E.1.1 E.1.2.1 d_T_place_99 rfl ?_
          refine ih x H locs ls _ (by omega) (wm_Pl_s hLv hnu hu hP hx1 (by rw [hx3, ht]) ?_) w hl
          rw [ht]; exact hx2
        · exact absurd h76 (by decide)
      · exact absurd h59 (by decide)
    | true =>
      rw [ht] at hbit hk1 hk0
      refine kl_iload_n 49 E.1 d_T_place_49 hl rfl ?_
      refine lv_bipush (pc := 50) (v := nI 8) E.1.1 E.1.2.1 d_T_place_50 (by decide) ?_
      refine kl_iload 52 E.1 d_T_place_52 hl rfl ?_
      refine n_isub 54 E.1 d_T_place_54 (by omega) ?_
      refine n_ishr 55 E.1 d_T_place_55 (by omega) ?_
      refine lv_iconst (pc := 56) (v := nI 1) E.1.1 E.1.2.1 d_T_place_56 (by decide) ?_
      refine n_iand 57 E.1 d_T_place_57 ?_
      refine n_top (congrArg nI hbit) ?_
      refine lv_iconst (pc := 58) (v := nI 1) E.1.1 E.1.2.1 d_T_place_58 (by decide) ?_
      refine n_icmp_ne 59 (tgt := 66) E.1 d_T_place_59 rfl (by decide) (by decide) (fun h59 => ?_) (fun h59 => ?_)
      · exact absurd h59 (by decide)
      · refine lv_iconst (pc := 62) (v := nI 1) E.1.1 E.1.2.1 d_T_place_62 (by decide) ?_
        refine lv_goto (pc := 63) (tgt := 67) E.1.1 E.1.2.1 d_T_place_63 rfl ?_
        refine kl_istore 67 E.1 d_T_place_67 hl (Nat.le_of_ble_eq_true rfl) (fun ls hl => ?_)
        refine kl_aload_n 69 E.1 d_T_place_69 hl rfl ?_
        refine kl_iload 70 E.1 d_T_place_70 hl rfl ?_
        refine kl_iload 72 E.1 d_T_place_72 hl rfl ?_
        refine kl_iload 74 E.1 d_T_place_74 hl rfl ?_
        refine n_if_eq 76 (tgt := 91) E.1 d_T_place_76 rfl (by decide) (fun h76 => ?_) (fun h76 => ?_)
        · exact absurd h76 (by decide)
        · refine kl_iload_n 79 E.1 d_T_place_79 hl rfl ?_
          refine kl_aload_n 80 E.1 d_T_place_80 hl rfl ?_
          refine T_ga 81 E.1 w 6 (by decide) l_T_zeros d_T_place_81 ?_
          refine kl_iload 84 E.1 d_T_place_84 hl rfl ?_
          refine T_ald 86 E.1 w 6 (by decide) d_T_place_86 (show _ < 9 by omega) ?_
          refine n_top (hz) ?_
          refine n_isub 87 E.1 d_T_place_87 (hk1 rfl).1 ?_
          refine lv_goto (pc := 88) (tgt := 92) E.1.1 E.1.2.1 d_T_place_88 rfl ?_
          refine T_ci 92 E w (c_select l D cI q f G (A0 := A0) (t := true) hn hu (hB u hu) hf ((hk1 rfl).2)) (cv_T_T_select E.1.2.2.2 rfl rfl ⟨Nat.le_trans (by decide) hR.1, Nat.le_trans (by decide) hR.2⟩) (kl_sz hl) rfl rfl (Nat.le_of_ble_eq_true rfl) d_T_place_92 (fun r f1 G1 H locs hp w => ?_)
          obtain ⟨⟨x, rfl, hx1, hx2, hx3⟩, e1, e2⟩ := hp
          rw [e1, e2] at w
          refine kl_istore_n 95 E.1 d_T_place_95 hl (Nat.le_of_ble_eq_true rfl) (fun ls hl => ?_)
          refine kl_iinc 96 E.1 d_T_place_96 hl rfl (show nI u + Int32.ofInt (-1) = kz u by unfold kz; split; (rename_i h; rw [h]; rfl); (rename_i h; exact sb_m1 (by omega))) (fun ls hl => ?_)
          refine lv_goto (pc := 99) (tgt := 44) E.1.1 E.1.2.1 d_T_place_99 rfl ?_
          refine ih x H locs ls _ (by omega) (wm_Pl_s hLv hnu hu hP hx1 (by rw [hx3, ht]) ?_) w hl
          rw [ht, wm_ps_1]
          have h9 : wm_N A0 u true x = wm_ct (wm_b (A0 u) (8 - u)) x := rfl
          have h8 : wm_rk A0 u n = wm_ct (wm_b (A0 u) (8 - u)) n := rfl
          have := (hk1 rfl).1
          omega
end LPplace

def rm_place : Room := { frames := 4, cells := 0, slots := 0, locals := 120 }
theorem c_place (l : Launch) (D : va_G) (cI : ClassId) (q : Nat → Nat) (f : Nat → Int32) (G : Nat → Nat → Int32) {n : Nat} {A0 : Nat → Nat → Nat} {nu k : Nat} (hq : kq f G n A0) (hnu : nu < 512) (hk : k < wm_cn (A0 0) (fun x => x == nu) 0 n) : T_Mi l y_T_place b_T_place 6 (some .int) rm_place D cI q f G [.int (nI nu), .int (nI k)]
    (fun r f' G' => (∃ x, r = nI x ∧ x < n ∧ A0 0 x = nu ∧ wm_cn (A0 0) (fun v => v == nu) 0 x = k) ∧ fk f f' ∧ G' = G) := by
  refine T_ofi rfl (Nat.le_of_ble_eq_true rfl) ?_
  intro p e s m args below meth c ls A E w hl
  have hl : kl ls [some (.ref (q 0)), some (.int (nI nu)), some (.int (nI k)), none, none, none] := kl_of _ hl rfl rfl rfl
  have hn := hq.2.1
  have hle := wm_cn_le (A0 0) (fun x => x == nu) (Nat.zero_le n)
  refine kl_iload_n 0 E.1 d_T_place_0 hl rfl ?_
  refine lv_sipush (pc := 1) (v := nI 511) E.1.1 E.1.2.1 d_T_place_1 (by decide) ?_
  refine S_cv 4 E (c_numchk l (v := nu) (mx := 511) (by omega) (by decide)) (cv_T_T_numchk E.1.2.2.2 rfl rfl ⟨by decide, by decide⟩) (kl_sz hl) rfl rfl (Nat.le_of_ble_eq_true rfl) d_T_place_4 ?_
  refine kl_iload_n 7 E.1 d_T_place_7 hl rfl ?_
  refine n_if_lt 8 E.1 d_T_place_8 (by omega) 25 rfl ?_
  refine kl_iload_n 11 E.1 d_T_place_11 hl rfl ?_
  refine kl_aload_n 12 E.1 d_T_place_12 hl rfl ?_
  refine kl_iload_n 13 E.1 d_T_place_13 hl rfl ?_
  refine lv_iconst (pc := 14) (v := nI 0) E.1.1 E.1.2.1 d_T_place_14 (by decide) ?_
  refine kl_aload_n 15 E.1 d_T_place_15 hl rfl ?_
  refine T_gi 16 E.1 w 1 (by decide) l_T_size d_T_place_16 ?_
  refine n_top (hq.1) ?_
  refine T_ci 19 E w (c_often l D cI q f G hq hnu (Nat.zero_le n) (Nat.le_refl n)) (cv_T_T_often E.1.2.2.2 rfl rfl ⟨by decide, by decide⟩) (kl_sz hl) rfl rfl (Nat.le_of_ble_eq_true rfl) d_T_place_19 (fun r f1 G1 H locs hp w => ?_)
  obtain ⟨rfl, hfk, h5, e2⟩ := hp
  rw [e2] at w
  refine n_icmp_lt 22 (tgt := 33) E.1 d_T_place_22 rfl (by omega) (by omega) (fun h22 => ?_) (fun h22 => ?_)
  · refine kl_aload_n 33 E.1 d_T_place_33 hl rfl ?_
    refine T_gi 34 E.1 w 5 (by decide) l_T_low d_T_place_34 ?_
    refine n_top (h5) ?_
    refine kl_iload_n 37 E.1 d_T_place_37 hl rfl ?_
    refine n_iadd 38 E.1 d_T_place_38 ?_
    refine kl_istore_n 39 E.1 d_T_place_39 hl (Nat.le_of_ble_eq_true rfl) (fun ls hl => ?_)
    refine lv_bipush (pc := 40) (v := nI 8) E.1.1 E.1.2.1 d_T_place_40 (by decide) ?_
    refine kl_istore 42 E.1 d_T_place_42 hl (Nat.le_of_ble_eq_true rfl) (fun ls hl => ?_)
    refine lp_place E (by decide) (hq.fk hfk) hnu (fun x H locs ls L hP w hl h3 => ?_) 9 (wm_dn A0 n nu 0 9 + k) H locs ls none (Nat.le_refl _) (wm_Pl_9 hq.2.2.2 hnu hk) w hl
    refine kl_iload_n 102 E.1 d_T_place_102 hl h3 ?_
    exact T_iret 103 E w d_T_place_103 ⟨⟨x, rfl, hP.1.2, hP.2.1, hP.2.2⟩, hfk, rfl⟩
  · exact absurd h22 (by omega)
end
section
/-! the tree: what throws by way of part and number -/
def rm_t2 : Room := { frames := 7, cells := 1, slots := 6, locals := 103 }
def rm_t3 : Room := { frames := 8, cells := 1, slots := 6, locals := 140 }
theorem c_often_t (l : Launch) (D : va_G) (cI : ClassId) (q : Nat → Nat) (f : Nat → Int32) (G : Nat → Nat → Int32) (hfl : l.flags = flags0) {v x y : Int32} (hbad : ¬ ((0 ≤ v ∧ v ≤ nI 511) ∧ kp_ok (f 1) x y)) : T_Mt l y_T_often b_T_often 5 (some .int) rm_t2 D cI q f G [.int v, .int x, .int y] R_IAE (fun f' G' => f' = f ∧ G' = G) := by
  refine T_oft rfl (Nat.le_of_ble_eq_true rfl) ?_
  intro p e s m args below meth c ls A E w hX hns hl
  have hl : kl ls [some (.ref (q 0)), some (.int v), some (.int x), some (.int y), none] := kl_of _ hl rfl rfl rfl
  refine kl_iload_n 0 E.1 d_T_often_0 hl rfl ?_
  refine lv_sipush (pc := 1) (v := nI 511) E.1.1 E.1.2.1 d_T_often_1 (by decide) ?_
  by_cases hv : 0 ≤ v ∧ v ≤ nI 511
  · obtain ⟨nu, hnu, rfl⟩ := nI_of2 (M := nI 511) (n := 511) (by decide) (Int32.not_lt.mpr hv.1) hv.2
    refine S_cv 4 E (c_numchk l (v := nu) (mx := 511) hnu (by decide)) (cv_T_T_numchk E.1.2.2.2 rfl rfl ⟨by decide, by decide⟩) (kl_sz hl) rfl rfl (Nat.le_of_ble_eq_true rfl) d_T_often_4 ?_
    refine kl_aload_n 7 E.1 d_T_often_7 hl rfl ?_
    refine kl_iload_n 8 E.1 d_T_often_8 hl rfl ?_
    refine kl_iload_n 9 E.1 d_T_often_9 hl rfl ?_
    exact T_ct 10 E w hX hns (c_part_t l D cI q f G hfl (fun h => hbad ⟨hv, h⟩)) (cv_T_T_part E.1.2.2.2 rfl rfl ⟨by decide, by decide⟩) (by decide) (kl_sz hl) rfl rfl (Nat.le_of_ble_eq_true rfl) d_T_often_10 (fun _ _ h => h)
  · exact T_cst 4 E w hX hns (c_numchk_t l hfl hv) (cv_T_T_numchk E.1.2.2.2 rfl rfl ⟨by decide, by decide⟩) (by decide) (kl_sz hl) rfl rfl (Nat.le_of_ble_eq_true rfl) d_T_often_4 ⟨rfl, rfl⟩
theorem c_below_t (l : Launch) (D : va_G) (cI : ClassId) (q : Nat → Nat) (f : Nat → Int32) (G : Nat → Nat → Int32) (hfl : l.flags = flags0) {v x y : Int32} (hbad : ¬ ((0 ≤ v ∧ v ≤ nI 512) ∧ kp_ok (f 1) x y)) : T_Mt l y_T_below b_T_below 7 (some .int) rm_t2 D cI q f G [.int v, .int x, .int y] R_IAE (fun f' G' => f' = f ∧ G' = G) := by
  refine T_oft rfl (Nat.le_of_ble_eq_true rfl) ?_
  intro p e s m args below meth c ls A E w hX hns hl
  have hl : kl ls [some (.ref (q 0)), some (.int v), some (.int x), some (.int y), none, none, none] := kl_of _ hl rfl rfl rfl
  refine kl_iload_n 0 E.1 d_T_below_0 hl rfl ?_
  refine lv_sipush (pc := 1) (v := nI 512) E.1.1 E.1.2.1 d_T_below_1 (by decide) ?_
  by_cases hv : 0 ≤ v ∧ v ≤ nI 512
  · obtain ⟨nu, hnu, rfl⟩ := nI_of2 (M := nI 512) (n := 512) (by decide) (Int32.not_lt.mpr hv.1) hv.2
    refine S_cv 4 E (c_numchk l (v := nu) (mx := 512) hnu (by decide)) (cv_T_T_numchk E.1.2.2.2 rfl rfl ⟨by decide, by decide⟩) (kl_sz hl) rfl rfl (Nat.le_of_ble_eq_true rfl) d_T_below_4 ?_
    refine kl_aload_n 7 E.1 d_T_below_7 hl rfl ?_
    refine kl_iload_n 8 E.1 d_T_below_8 hl rfl ?_
    refine kl_iload_n 9 E.1 d_T_below_9 hl rfl ?_
    exact T_ct 10 E w hX hns (c_part_t l D cI q f G hfl (fun h => hbad ⟨hv, h⟩)) (cv_T_T_part E.1.2.2.2 rfl rfl ⟨by decide, by decide⟩) (by decide) (kl_sz hl) rfl rfl (Nat.le_of_ble_eq_true rfl) d_T_below_10 (fun _ _ h => h)
  · exact T_cst 4 E w hX hns (c_numchk_t l hfl hv) (cv_T_T_numchk E.1.2.2.2 rfl rfl ⟨by decide, by decide⟩) (by decide) (kl_sz hl) rfl rfl (Nat.le_of_ble_eq_true rfl) d_T_below_4 ⟨rfl, rfl⟩
theorem c_before_t (l : Launch) (D : va_G) (cI : ClassId) (q : Nat → Nat) (f : Nat → Int32) (G : Nat → Nat → Int32) (hfl : l.flags = flags0) {v x y : Int32} (hbad : ¬ ((0 ≤ v ∧ v ≤ nI 511) ∧ kp_ok (f 1) x y)) : T_Mt l y_T_before b_T_before 5 (some .int) rm_t3 D cI q f G [.int v, .int x, .int y] R_IAE (fun f' G' => f' = f ∧ G' = G) := by
  refine T_oft rfl (Nat.le_of_ble_eq_true rfl) ?_
  intro p e s m args below meth c ls A E w hX hns hl
  have hl : kl ls [some (.ref (q 0)), some (.int v), some (.int x), some (.int y), none] := kl_of _ hl rfl rfl rfl
  refine kl_iload_n 0 E.1 d_T_before_0 hl rfl ?_
  refine lv_sipush (pc := 1) (v := nI 511) E.1.1 E.1.2.1 d_T_before_1 (by decide) ?_
  by_cases hv : 0 ≤ v ∧ v ≤ nI 511
  · obtain ⟨nu, hnu, rfl⟩ := nI_of2 (M := nI 511) (n := 511) (by decide) (Int32.not_lt.mpr hv.1) hv.2
    refine S_cv 4 E (c_numchk l (v := nu) (mx := 511) hnu (by decide)) (cv_T_T_numchk E.1.2.2.2 rfl rfl ⟨by decide, by decide⟩) (kl_sz hl) rfl rfl (Nat.le_of_ble_eq_true rfl) d_T_before_4 ?_
    refine kl_aload_n 7 E.1 d_T_before_7 hl rfl ?_
    refine kl_iload_n 8 E.1 d_T_before_8 hl rfl ?_
    refine lv_iconst (pc := 9) (v := nI 1) E.1.1 E.1.2.1 d_T_before_9 (by decide) ?_
    refine n_iadd 10 E.1 d_T_before_10 ?_
    refine kl_iload_n 11 E.1 d_T_before_11 hl rfl ?_
    refine kl_iload_n 12 E.1 d_T_before_12 hl rfl ?_
    exact T_ct 13 E w hX hns (c_below_t l D cI q f G hfl (v := nI (nu + 1)) (fun h => hbad ⟨hv, h.2⟩)) (cv_T_T_below E.1.2.2.2 rfl rfl ⟨by decide, by decide⟩) (by decide) (kl_sz hl) rfl rfl (Nat.le_of_ble_eq_true rfl) d_T_before_13 (fun _ _ h => h)
  · exact T_cst 4 E w hX hns (c_numchk_t l hfl hv) (cv_T_T_numchk E.1.2.2.2 rfl rfl ⟨by decide, by decide⟩) (by decide) (kl_sz hl) rfl rfl (Nat.le_of_ble_eq_true rfl) d_T_before_4 ⟨rfl, rfl⟩
theorem c_least_t (l : Launch) (D : va_G) (cI : ClassId) (q : Nat → Nat) (f : Nat → Int32) (G : Nat → Nat → Int32) (hfl : l.flags = flags0) {x y k : Int32} (hbad : ¬ kp_ok (f 1) x y) : T_Mt l y_T_least b_T_least 4 (some .int) rm_t2 D cI q f G [.int x, .int y, .int k] R_IAE (fun f' G' => f' = f ∧ G' = G) := by
  refine T_oft rfl (Nat.le_of_ble_eq_true rfl) ?_
  intro p e s m args below meth c ls A E w hX hns hl
  have hl : kl ls [some (.ref (q 0)), some (.int x), some (.int y), some (.int k)] := kl_of _ hl rfl rfl rfl
  refine kl_aload_n 0 E.1 d_T_least_0 hl rfl ?_
  refine kl_iload_n 1 E.1 d_T_least_1 hl rfl ?_
  refine kl_iload_n 2 E.1 d_T_least_2 hl rfl ?_
  exact T_ct 3 E w hX hns (c_part_t l D cI q f G hfl hbad) (cv_T_T_part E.1.2.2.2 rfl rfl ⟨by decide, by decide⟩) (by decide) (kl_sz hl) rfl rfl (Nat.le_of_ble_eq_true rfl) d_T_least_3 (fun _ _ h => h)
theorem c_different_t (l : Launch) (D : va_G) (cI : ClassId) (q : Nat → Nat) (f : Nat → Int32) (G : Nat → Nat → Int32) (hfl : l.flags = flags0) {x y : Int32} (hbad : ¬ kp_ok (f 1) x y) : T_Mt l y_T_different b_T_different 3 (some .int) rm_t2 D cI q f G [.int x, .int y] R_IAE (fun f' G' => f' = f ∧ G' = G) := by
  refine T_oft rfl (Nat.le_of_ble_eq_true rfl) ?_
  intro p e s m args below meth c ls A E w hX hns hl
  have hl : kl ls [some (.ref (q 0)), some (.int x), some (.int y)] := kl_of _ hl rfl rfl rfl
  refine kl_aload_n 0 E.1 d_T_different_0 hl rfl ?_
  refine kl_iload_n 1 E.1 d_T_different_1 hl rfl ?_
  refine kl_iload_n 2 E.1 d_T_different_2 hl rfl ?_
  exact T_ct 3 E w hX hns (c_part_t l D cI q f G hfl hbad) (cv_T_T_part E.1.2.2.2 rfl rfl ⟨by decide, by decide⟩) (by decide) (kl_sz hl) rfl rfl (Nat.le_of_ble_eq_true rfl) d_T_different_3 (fun _ _ h => h)
theorem c_most_t (l : Launch) (D : va_G) (cI : ClassId) (q : Nat → Nat) (f : Nat → Int32) (G : Nat → Nat → Int32) (hfl : l.flags = flags0) {x y : Int32} (hbad : ¬ kp_ok (f 1) x y) : T_Mt l y_T_most b_T_most 3 (some .int) rm_t2 D cI q f G [.int x, .int y] R_IAE (fun f' G' => f' = f ∧ G' = G) := by
  refine T_oft rfl (Nat.le_of_ble_eq_true rfl) ?_
  intro p e s m args below meth c ls A E w hX hns hl
  have hl : kl ls [some (.ref (q 0)), some (.int x), some (.int y)] := kl_of _ hl rfl rfl rfl
  refine kl_aload_n 0 E.1 d_T_most_0 hl rfl ?_
  refine kl_iload_n 1 E.1 d_T_most_1 hl rfl ?_
  refine kl_iload_n 2 E.1 d_T_most_2 hl rfl ?_
  exact T_ct 3 E w hX hns (c_part_t l D cI q f G hfl hbad) (cv_T_T_part E.1.2.2.2 rfl rfl ⟨by decide, by decide⟩) (by decide) (kl_sz hl) rfl rfl (Nat.le_of_ble_eq_true rfl) d_T_most_3 (fun _ _ h => h)
theorem c_least_t2 (l : Launch) (D : va_G) (cI : ClassId) (q : Nat → Nat) (f : Nat → Int32) (G : Nat → Nat → Int32) (hfl : l.flags = flags0) {n a b : Nat} {k : Int32} (hn : n ≤ 4000) (hf : f 1 = nI n) (hab : a ≤ b) (hb : b ≤ n) (hbad : ¬ (0 ≤ k ∧ k < nI (b - a))) : T_Mt l y_T_least b_T_least 4 (some .int) rm_t2 D cI q f G [.int (nI a), .int (nI b), .int k] R_NSE (fun f' G' => f' = f ∧ G' = G) := by
  refine T_oft rfl (Nat.le_of_ble_eq_true rfl) ?_
  intro p e s m args below meth c ls A E w hX hns hl
  have hl : kl ls [some (.ref (q 0)), some (.int (nI a)), some (.int (nI b)), some (.int k)] := kl_of _ hl rfl rfl rfl
  refine kl_aload_n 0 E.1 d_T_least_0 hl rfl ?_
  refine kl_iload_n 1 E.1 d_T_least_1 hl rfl ?_
  refine kl_iload_n 2 E.1 d_T_least_2 hl rfl ?_
  refine T_cv 3 E w (c_part l D cI q f G hn hf hab hb) (cv_T_T_part E.1.2.2.2 rfl rfl ⟨by decide, by decide⟩) (kl_sz hl) rfl rfl (Nat.le_of_ble_eq_true rfl) d_T_least_3 (fun f1 G1 H locs hp w => ?_)
  obtain ⟨e1, e2⟩ := hp
  rw [e1, e2] at w
  refine kl_iload_n 6 E.1 d_T_least_6 hl rfl ?_
  refine lv_if_lt (pc := 7) (tgt := 17) E.1.1 E.1.2.1 d_T_least_7 rfl (fun h7 => ?_) (fun h7 => ?_)
  · exact T_throw 17 E hfl w hX hns (kl_sz hl) fit_nse kt_nse tw_185 tw_186 tw_8 d_T_least_17 d_T_least_20 d_T_least_21 d_T_least_24 (by decide) ⟨rfl, rfl⟩
  · refine kl_iload_n 10 E.1 d_T_least_10 hl rfl ?_
    refine kl_iload_n 11 E.1 d_T_least_11 hl rfl ?_
    refine kl_iload_n 12 E.1 d_T_least_12 hl rfl ?_
    refine n_isub 13 E.1 d_T_least_13 (by omega) ?_
    refine lv_icmp_lt (pc := 14) (tgt := 25) E.1.1 E.1.2.1 d_T_least_14 rfl (fun h14 => ?_) (fun h14 => ?_)
    · exact absurd ⟨Int32.not_lt.mp h7, h14⟩ hbad
    · exact T_throw 17 E hfl w hX hns (kl_sz hl) fit_nse kt_nse tw_185 tw_186 tw_8 d_T_least_17 d_T_least_20 d_T_least_21 d_T_least_24 (by decide) ⟨rfl, rfl⟩
theorem c_place_t (l : Launch) (D : va_G) (cI : ClassId) (q : Nat → Nat) (f : Nat → Int32) (G : Nat → Nat → Int32) (hfl : l.flags = flags0) {v k : Int32} (hbad : ¬ (0 ≤ v ∧ v ≤ nI 511)) : T_Mt l y_T_place b_T_place 6 (some .int) rm_t2 D cI q f G [.int v, .int k] R_IAE (fun f' G' => f' = f ∧ G' = G) := by
  refine T_oft rfl (Nat.le_of_ble_eq_true rfl) ?_
  intro p e s m args below meth c ls A E w hX hns hl
  have hl : kl ls [some (.ref (q 0)), some (.int v), some (.int k), none, none, none] := kl_of _ hl rfl rfl rfl
  refine kl_iload_n 0 E.1 d_T_place_0 hl rfl ?_
  refine lv_sipush (pc := 1) (v := nI 511) E.1.1 E.1.2.1 d_T_place_1 (by decide) ?_
  exact T_cst 4 E w hX hns (c_numchk_t l hfl hbad) (cv_T_T_numchk E.1.2.2.2 rfl rfl ⟨by decide, by decide⟩) (by decide) (kl_sz hl) rfl rfl (Nat.le_of_ble_eq_true rfl) d_T_place_4 ⟨rfl, rfl⟩
theorem c_place_t2 (l : Launch) (D : va_G) (cI : ClassId) (q : Nat → Nat) (f : Nat → Int32) (G : Nat → Nat → Int32) (hfl : l.flags = flags0) {n : Nat} {A0 : Nat → Nat → Nat} {nu : Nat} {k : Int32} (hq : kq f G n A0) (hnu : nu < 512) (hbad : ¬ (0 ≤ k ∧ k < nI (wm_cn (A0 0) (fun x => x == nu) 0 n))) : T_Mt l y_T_place b_T_place 6 (some .int) rm_t3 D cI q f G [.int (nI nu), .int k] R_NSE (fun f' G' => fk f f' ∧ G' = G) := by
  refine T_oft rfl (Nat.le_of_ble_eq_true rfl) ?_
  intro p e s m args below meth c ls A E w hX hns hl
  have hl : kl ls [some (.ref (q 0)), some (.int (nI nu)), some (.int k), none, none, none] := kl_of _ hl rfl rfl rfl
  refine kl_iload_n 0 E.1 d_T_place_0 hl rfl ?_
  refine lv_sipush (pc := 1) (v := nI 511) E.1.1 E.1.2.1 d_T_place_1 (by decide) ?_
  refine S_cv 4 E (c_numchk l (v := nu) (mx := 511) (by omega) (by decide)) (cv_T_T_numchk E.1.2.2.2 rfl rfl ⟨by decide, by decide⟩) (kl_sz hl) rfl rfl (Nat.le_of_ble_eq_true rfl) d_T_place_4 ?_
  refine kl_iload_n 7 E.1 d_T_place_7 hl rfl ?_
  refine lv_if_lt (pc := 8) (tgt := 25) E.1.1 E.1.2.1 d_T_place_8 rfl (fun h8 => ?_) (fun h8 => ?_)
  · exact T_throw 25 E hfl w hX hns (kl_sz hl) fit_nse kt_nse tw_185 tw_186 tw_8 d_T_place_25 d_T_place_28 d_T_place_29 d_T_place_32 (by decide) ⟨fk.rf f, rfl⟩
  · refine kl_iload_n 11 E.1 d_T_place_11 hl rfl ?_
    refine kl_aload_n 12 E.1 d_T_place_12 hl rfl ?_
    refine kl_iload_n 13 E.1 d_T_place_13 hl rfl ?_
    refine lv_iconst (pc := 14) (v := nI 0) E.1.1 E.1.2.1 d_T_place_14 (by decide) ?_
    refine kl_aload_n 15 E.1 d_T_place_15 hl rfl ?_
    refine T_gi 16 E.1 w 1 (by decide) l_T_size d_T_place_16 ?_
    refine n_top (hq.1) ?_
    refine T_ci 19 E w (c_often l D cI q f G hq hnu (Nat.zero_le n) (Nat.le_refl n)) (cv_T_T_often E.1.2.2.2 rfl rfl ⟨by decide, by decide⟩) (kl_sz hl) rfl rfl (Nat.le_of_ble_eq_true rfl) d_T_place_19 (fun r f1 G1 H locs hp w => ?_)
    obtain ⟨rfl, hfk, h5, e2⟩ := hp
    rw [e2] at w
    refine lv_icmp_lt (pc := 22) (tgt := 33) E.1.1 E.1.2.1 d_T_place_22 rfl (fun h22 => ?_) (fun h22 => ?_)
    · exact absurd ⟨Int32.not_lt.mp h8, h22⟩ hbad
    · exact T_throw 25 E hfl w hX hns (kl_sz hl) fit_nse kt_nse tw_185 tw_186 tw_8 d_T_place_25 d_T_place_28 d_T_place_29 d_T_place_32 (by decide) ⟨hfk, rfl⟩
end
section
/-! the tree: list, different, frequent, most -/
def wm_Sn (c : Nat → Nat) (m : Nat) : Nat := wm_ct (fun u => decide (0 < c u)) m
/-- the different numbers below m, each with how often, in order -/
def wm_Fd (c : Nat → Nat) (g7 g8 : Nat → Int32) (m : Nat) : Prop := ∀ u, u < m → 0 < c u → g7 (wm_Sn c u) = nI u ∧ g8 (wm_Sn c u) = nI (c u)
abbrev wm_c (A0 : Nat → Nat → Nat) (a b : Nat) : Nat → Nat := fun u => wm_cn (A0 0) (fun x => x == u) a b
theorem wm_blk {A0 : Nat → Nat → Nat} {n a b l v lo hi u : Nat} (hab : a ≤ b) (hI : wm_In A0 n a b l v lo hi) (h1 : v * 2 ^ (9 - l) ≤ u) (h2 : u < (v + 1) * 2 ^ (9 - l)) : wm_c A0 a b u ≤ hi - lo := by
  rw [wm_In_c hI]
  have h3 : u / 2 ^ (9 - l) = v := Nat.div_eq_of_lt_le h1 h2
  refine wm_cn_sub _ hab (fun x hx => ?_)
  rw [eq_of_beq hx, h3]; simp
theorem wm_Sn_gap {c : Nat → Nat} {m1 m2 : Nat} (h : m1 ≤ m2) (h0 : ∀ u, m1 ≤ u → u < m2 → c u = 0) : wm_Sn c m2 = wm_Sn c m1 := by
  unfold wm_Sn
  have e : m2 = m1 + (m2 - m1) := by omega
  rw [e, wm_ct_add, wm_ct_none (P := fun j => decide (0 < c (m1 + j))) (n := m2 - m1) (fun j hj => decide_eq_false (by rw [h0 (m1 + j) (by omega) (by omega)]; omega)), Nat.add_zero]
theorem wm_Fd_gap {c : Nat → Nat} {g7 g8 : Nat → Int32} {m1 m2 : Nat} (h : wm_Fd c g7 g8 m1) (h0 : ∀ u, m1 ≤ u → u < m2 → c u = 0) : wm_Fd c g7 g8 m2 := by
  intro u hu hc
  rcases Nat.lt_or_ge u m1 with h1 | h1
  · exact h u h1 hc
  · have := h0 u h1 hu
    omega
theorem wm_Sn_le (c : Nat → Nat) (m : Nat) : wm_Sn c m ≤ m := wm_ct_le _ _
theorem wm_Sn_s {c : Nat → Nat} {v : Nat} (h : 0 < c v) : wm_Sn c (v + 1) = wm_Sn c v + 1 := wm_ct_t (decide_eq_true h)
theorem wm_Fd_s {c : Nat → Nat} {g7 g8 : Nat → Int32} {v : Nat} (h : wm_Fd c g7 g8 v) (hc : 0 < c v) : wm_Fd c (upd g7 (wm_Sn c v) (nI v)) (upd g8 (wm_Sn c v) (nI (c v))) (v + 1) := by
  intro u hu hcu
  rcases Nat.lt_or_ge u v with h1 | h1
  · have h2 : wm_Sn c u < wm_Sn c v := wm_ct_lt (P := fun u => decide (0 < c u)) (decide_eq_true hcu) h1
    rw [pk_un (by omega), pk_un (by omega)]
    exact h u h1 hcu
  · have : u = v := by omega
    subst this
    rw [pk_us, pk_us]; exact ⟨rfl, rfl⟩
theorem Bd.congr {G G' : Nat → Nat → Int32} {n : Nat} {A0 : Nat → Nat → Nat} (h : Bd G n A0) (h4 : G' 4 = G 4) (h5 : G' 5 = G 5) (h6 : G' 6 = G 6) : Bd G' n A0 := fun l hl => by
  have := h l hl
  unfold Bd_l at this ⊢
  rw [h4, h5, h6]; exact this
def rm_rec (d : Nat) : Room := { frames := d + 2, cells := 0, slots := 0, locals := 26 * d + 60 }
theorem wm_pw {lv : Nat} (h : lv < 9) (v : Nat) : 2 * v * 2 ^ (9 - (lv + 1)) = v * 2 ^ (9 - lv) ∧ (2 * v + 1 + 1) * 2 ^ (9 - (lv + 1)) = (v + 1) * 2 ^ (9 - lv) := by
  have e : 2 ^ (9 - lv) = 2 ^ (9 - (lv + 1)) * 2 := by rw [← Nat.pow_succ]; congr 1; omega
  rw [e]
  generalize 2 ^ (9 - (lv + 1)) = x
  constructor
  · rw [Nat.mul_comm 2 v, Nat.mul_assoc, Nat.mul_comm 2 x]
  · rw [show 2 * v + 1 + 1 = (v + 1) * 2 by omega, Nat.mul_assoc, Nat.mul_comm 2 x]
set_option maxHeartbeats 1000000 in
theorem c_list (l : Launch) (D : va_G) (cI : ClassId) (q : Nat → Nat) {n : Nat} {A0 : Nat → Nat → Nat} {a b : Nat} (hab : a ≤ b) (hb : b ≤ n) : ∀ (d lv v lo hi : Nat) (f : Nat → Int32) (G : Nat → Nat → Int32), 9 - lv = d → lv ≤ 9 → kq f G n A0 → wm_In A0 n a b lv v lo hi → v < 2 ^ lv → f 2 = nI (wm_Sn (wm_c A0 a b) (v * 2 ^ (9 - lv))) → wm_Fd (wm_c A0 a b) (G 7) (G 8) (v * 2 ^ (9 - lv)) →
    T_Mv l y_T_list b_T_list 7 (rm_rec d) D cI q f G [.int (nI lv), .int (nI v), .int (nI lo), .int (nI hi)]
      (fun f' G' => (f' 2 = nI (wm_Sn (wm_c A0 a b) ((v + 1) * 2 ^ (9 - lv))) ∧ wm_Fd (wm_c A0 a b) (G' 7) (G' 8) ((v + 1) * 2 ^ (9 - lv))) ∧ (∀ j, j ≠ 2 → f' j = f j) ∧ ∀ j, j ≠ 7 → j ≠ 8 → G' j = G j) := by
  intro d
  induction d with
  | zero =>
    intro lv v lo hi f G hd hlv9 hq hI hv h2 hF
    have hn := hq.2.1
    have hlo := Nat.le_trans hI.1.1 hI.1.2
    have hhi := hI.1.2
    have hle := hI.1.1
    have : lv = 9 := by omega
    subst this
    refine T_ofv rfl (Nat.le_of_ble_eq_true rfl) ?_
    intro p e s m args below meth c ls A E w hl
    have hl : kl ls [some (.ref (q 0)), some (.int (nI 9)), some (.int (nI v)), some (.int (nI lo)), some (.int (nI hi)), none, none] := kl_of _ hl rfl rfl rfl
    have hc9 : hi - lo = wm_c A0 a b v := by
      have hc := wm_In_c hI
      rw [wm_cn_eq9'] at hc; exact hc
    rw [show v * 2 ^ (9 - 9) = v from Nat.mul_one v] at h2 hF
    have hSl := wm_Sn_le (wm_c A0 a b) v
    have hv : v < 512 := hv
    refine kl_iload_n 0 E.1 d_T_list_0 hl rfl ?_
    refine kl_iload 1 E.1 d_T_list_1 hl rfl ?_
    refine n_icmp_ne 3 (tgt := 7) E.1 d_T_list_3 rfl (by omega) (by omega) (fun h3 => ?_) (fun h3 => ?_)
    · refine kl_iload_n 7 E.1 d_T_list_7 hl rfl ?_
      refine lv_bipush (pc := 8) (v := nI 9) E.1.1 E.1.2.1 d_T_list_8 (by decide) ?_
      refine n_icmp_ne 10 (tgt := 47) E.1 d_T_list_10 rfl (by omega) (by omega) (fun h10 => ?_) (fun h10 => ?_)
      · exact absurd rfl h10
      · refine kl_aload_n 13 E.1 d_T_list_13 hl rfl ?_
        refine T_ga 14 E.1 w 7 (by decide) l_T_found d_T_list_14 ?_
        refine kl_aload_n 17 E.1 d_T_list_17 hl rfl ?_
        refine T_gi 18 E.1 w 2 (by decide) l_T_founds d_T_list_18 ?_
        refine n_top (h2) ?_
        refine kl_iload_n 21 E.1 d_T_list_21 hl rfl ?_
        refine T_ast 22 E.1 w 7 (by decide) d_T_list_22 (show _ < 512 by omega) (fun H locs w => ?_)
        refine kl_aload_n 23 E.1 d_T_list_23 hl rfl ?_
        refine T_ga 24 E.1 w 8 (by decide) l_T_times d_T_list_24 ?_
        refine kl_aload_n 27 E.1 d_T_list_27 hl rfl ?_
        refine T_gi 28 E.1 w 2 (by decide) l_T_founds d_T_list_28 ?_
        refine n_top (h2) ?_
        refine kl_iload 31 E.1 d_T_list_31 hl rfl ?_
        refine kl_iload_n 33 E.1 d_T_list_33 hl rfl ?_
        refine n_isub 34 E.1 d_T_list_34 (by omega) ?_
        refine T_ast 35 E.1 w 8 (by decide) d_T_list_35 (show _ < 512 by omega) (fun H locs w => ?_)
        refine kl_aload_n 36 E.1 d_T_list_36 hl rfl ?_
        refine lv_dup (pc := 37) E.1.1 E.1.2.1 d_T_list_37 rfl ?_
        refine T_gi 38 E.1 w 2 (by decide) l_T_founds d_T_list_38 ?_
        refine n_top (h2) ?_
        refine lv_iconst (pc := 41) (v := nI 1) E.1.1 E.1.2.1 d_T_list_41 (by decide) ?_
        refine n_iadd 42 E.1 d_T_list_42 ?_
        refine T_pi 43 E.1 w 2 (by decide) l_T_founds d_T_list_43 (fun H locs w => ?_)
        refine T_vret 46 E w d_T_list_46 ⟨⟨?_, ?_⟩, fun j hj => pk_un hj, fun j h7 h8 => ?_⟩
        · rw [show (v + 1) * 2 ^ (9 - 9) = v + 1 from Nat.mul_one _, wm_Sn_s (show 0 < wm_c A0 a b v by omega)]; rfl
        · rw [show (v + 1) * 2 ^ (9 - 9) = v + 1 from Nat.mul_one _]
          have h := wm_Fd_s hF (show 0 < wm_c A0 a b v by omega)
          rw [← hc9] at h
          exact h
        · rw [va_up_ne _ _ h8, va_up_ne _ _ h7]
    · have h2 : f 2 = nI (wm_Sn (wm_c A0 a b) (v * 2 ^ (9 - 9))) := h2.trans (by rw [show v * 2 ^ (9 - 9) = v from Nat.mul_one v])
      have hF : wm_Fd (wm_c A0 a b) (G 7) (G 8) (v * 2 ^ (9 - 9)) := by rw [show v * 2 ^ (9 - 9) = v from Nat.mul_one v]; exact hF
      refine T_vret 6 E w d_T_list_6 ⟨⟨?_, ?_⟩, fun _ _ => rfl, fun _ _ _ => rfl⟩
      · rw [h2, wm_Sn_gap (Nat.mul_le_mul_right _ (Nat.le_succ v)) (fun u g1 g2 => by have := wm_blk hab hI g1 g2; omega)]
      · exact wm_Fd_gap hF (fun u g1 g2 => by have := wm_blk hab hI g1 g2; omega)
  | succ d ih =>
    intro lv v lo hi f G hd hlv9 hq hI hv h2 hF
    have hn := hq.2.1
    have hlo := Nat.le_trans hI.1.1 hI.1.2
    have hhi := hI.1.2
    have hle := hI.1.1
    have hlv : lv < 9 := by omega
    refine T_ofv rfl (Nat.le_of_ble_eq_true rfl) ?_
    intro p e s m args below meth c ls A E w hl
    have hl : kl ls [some (.ref (q 0)), some (.int (nI lv)), some (.int (nI v)), some (.int (nI lo)), some (.int (nI hi)), none, none] := kl_of _ hl rfl rfl rfl
    obtain ⟨hp1, hp2⟩ := wm_pw hlv v
    have hs0 := wm_In_s hq.2.2.2 hlv hI hab false
    have hs1 := wm_In_s hq.2.2.2 hlv hI hab true
    have hv2 : 2 * v + 1 < 2 ^ (lv + 1) := by rw [Nat.pow_succ]; omega
    have hr1 := wm_rk_le A0 lv lo
    have hr2 := wm_rk_le A0 lv hi
    have hB := hq.2.2.1
    refine kl_iload_n 0 E.1 d_T_list_0 hl rfl ?_
    refine kl_iload 1 E.1 d_T_list_1 hl rfl ?_
    refine n_icmp_ne 3 (tgt := 7) E.1 d_T_list_3 rfl (by omega) (by omega) (fun h3 => ?_) (fun h3 => ?_)
    · refine kl_iload_n 7 E.1 d_T_list_7 hl rfl ?_
      refine lv_bipush (pc := 8) (v := nI 9) E.1.1 E.1.2.1 d_T_list_8 (by decide) ?_
      refine n_icmp_ne 10 (tgt := 47) E.1 d_T_list_10 rfl (by omega) (by omega) (fun h10 => ?_) (fun h10 => ?_)
      · refine kl_aload_n 47 E.1 d_T_list_47 hl rfl ?_
        refine kl_iload_n 48 E.1 d_T_list_48 hl rfl ?_
        refine kl_iload_n 49 E.1 d_T_list_49 hl rfl ?_
        refine T_ci 50 E w (c_ones l D cI q f G hn hlv (hlo) (hB lv hlv)) (cv_T_T_ones E.1.2.2.2 rfl rfl ⟨show 1 + 1 ≤ d + 1 + 2 by omega, show 8 + (3 + 11) + 21 ≤ 26 * (d + 1) + 60 by omega⟩) (kl_sz hl) rfl rfl (Nat.le_of_ble_eq_true rfl) d_T_list_50 (fun r f1 G1 H locs hp w => ?_)
        obtain ⟨rfl, e1, e2⟩ := hp
        rw [e1, e2] at w
        refine kl_istore 53 E.1 d_T_list_53 hl (Nat.le_of_ble_eq_true rfl) (fun ls hl => ?_)
        refine kl_aload_n 55 E.1 d_T_list_55 hl rfl ?_
        refine kl_iload_n 56 E.1 d_T_list_56 hl rfl ?_
        refine kl_iload 57 E.1 d_T_list_57 hl rfl ?_
        refine T_ci 59 E w (c_ones l D cI q f G hn hlv (hhi) (hB lv hlv)) (cv_T_T_ones E.1.2.2.2 rfl rfl ⟨show 1 + 1 ≤ d + 1 + 2 by omega, show 8 + (3 + 11) + 21 ≤ 26 * (d + 1) + 60 by omega⟩) (kl_sz hl) rfl rfl (Nat.le_of_ble_eq_true rfl) d_T_list_59 (fun r f1 G1 H locs hp w => ?_)
        obtain ⟨rfl, e1, e2⟩ := hp
        rw [e1, e2] at w
        refine kl_istore 62 E.1 d_T_list_62 hl (Nat.le_of_ble_eq_true rfl) (fun ls hl => ?_)
        refine kl_aload_n 64 E.1 d_T_list_64 hl rfl ?_
        refine kl_iload_n 65 E.1 d_T_list_65 hl rfl ?_
        refine lv_iconst (pc := 66) (v := nI 1) E.1.1 E.1.2.1 d_T_list_66 (by decide) ?_
        refine n_iadd 67 E.1 d_T_list_67 ?_
        refine lv_iconst (pc := 68) (v := nI 2) E.1.1 E.1.2.1 d_T_list_68 (by decide) ?_
        refine kl_iload_n 69 E.1 d_T_list_69 hl rfl ?_
        refine n_imul 70 E.1 d_T_list_70 ?_
        refine kl_iload_n 71 E.1 d_T_list_71 hl rfl ?_
        refine kl_iload 72 E.1 d_T_list_72 hl rfl ?_
        refine n_isub 74 E.1 d_T_list_74 (by omega) ?_
        refine kl_iload 75 E.1 d_T_list_75 hl rfl ?_
        refine kl_iload 77 E.1 d_T_list_77 hl rfl ?_
        refine n_isub 79 E.1 d_T_list_79 (by omega) ?_
        refine T_cv 80 E w (ih (lv + 1) (2 * v) _ _ f G (by omega) (by omega) hq hs0 (by omega) (by rw [hp1]; exact h2) (by rw [hp1]; exact hF)) (cv_T_T_list E.1.2.2.2 rfl rfl ⟨show d + 2 + 1 ≤ d + 1 + 2 by omega, show 8 + (7 + 11) + (26 * d + 60) ≤ 26 * (d + 1) + 60 by omega⟩) (kl_sz hl) rfl rfl (Nat.le_of_ble_eq_true rfl) d_T_list_80 (fun f1 G1 H locs hp w => ?_)
        obtain ⟨⟨g2, gF⟩, gf, gG⟩ := hp
        have hz : G1 6 lv = nI (n - wm_rk A0 lv n) := by rw [gG 6 (by decide) (by decide)]; exact (hB lv hlv).1
        refine kl_aload_n 83 E.1 d_T_list_83 hl rfl ?_
        refine kl_iload_n 84 E.1 d_T_list_84 hl rfl ?_
        refine lv_iconst (pc := 85) (v := nI 1) E.1.1 E.1.2.1 d_T_list_85 (by decide) ?_
        refine n_iadd 86 E.1 d_T_list_86 ?_
        refine lv_iconst (pc := 87) (v := nI 2) E.1.1 E.1.2.1 d_T_list_87 (by decide) ?_
        refine kl_iload_n 88 E.1 d_T_list_88 hl rfl ?_
        refine n_imul 89 E.1 d_T_list_89 ?_
        refine lv_iconst (pc := 90) (v := nI 1) E.1.1 E.1.2.1 d_T_list_90 (by decide) ?_
        refine n_iadd 91 E.1 d_T_list_91 ?_
        refine kl_aload_n 92 E.1 d_T_list_92 hl rfl ?_
        refine T_ga 93 E.1 w 6 (by decide) l_T_zeros d_T_list_93 ?_
        refine kl_iload_n 96 E.1 d_T_list_96 hl rfl ?_
        refine T_ald 97 E.1 w 6 (by decide) d_T_list_97 (show _ < 9 by omega) ?_
        refine n_top (hz) ?_
        refine kl_iload 98 E.1 d_T_list_98 hl rfl ?_
        refine n_iadd 100 E.1 d_T_list_100 ?_
        refine kl_aload_n 101 E.1 d_T_list_101 hl rfl ?_
        refine T_ga 102 E.1 w 6 (by decide) l_T_zeros d_T_list_102 ?_
        refine kl_iload_n 105 E.1 d_T_list_105 hl rfl ?_
        refine T_ald 106 E.1 w 6 (by decide) d_T_list_106 (show _ < 9 by omega) ?_
        refine n_top (hz) ?_
        refine kl_iload 107 E.1 d_T_list_107 hl rfl ?_
        refine n_iadd 109 E.1 d_T_list_109 ?_
        refine T_cv 110 E w (ih (lv + 1) (2 * v + 1) _ _ f1 G1 (by omega) (by omega) ⟨(gf 1 (by decide)).trans hq.1, hn, hB.congr (gG 4 (by decide) (by decide)) (gG 5 (by decide) (by decide)) (gG 6 (by decide) (by decide)), hq.2.2.2⟩ hs1 hv2 g2 gF) (cv_T_T_list E.1.2.2.2 rfl rfl ⟨show d + 2 + 1 ≤ d + 1 + 2 by omega, show 8 + (7 + 11) + (26 * d + 60) ≤ 26 * (d + 1) + 60 by omega⟩) (kl_sz hl) rfl rfl (Nat.le_of_ble_eq_true rfl) d_T_list_110 (fun f2 G2 H locs hp w => ?_)
        obtain ⟨⟨g3, gF3⟩, gf3, gG3⟩ := hp
        rw [hp2] at g3 gF3
        exact T_vret 113 E w d_T_list_113 ⟨⟨g3, gF3⟩, fun j hj => (gf3 j hj).trans (gf j hj), fun j h7 h8 => (gG3 j h7 h8).trans (gG j h7 h8)⟩
      · exact absurd h10 (by omega)
    · refine T_vret 6 E w d_T_list_6 ⟨⟨?_, ?_⟩, fun _ _ => rfl, fun _ _ _ => rfl⟩
      · rw [h2, wm_Sn_gap (Nat.mul_le_mul_right _ (Nat.le_succ v)) (fun u g1 g2 => by have := wm_blk hab hI g1 g2; omega)]
      · exact wm_Fd_gap hF (fun u g1 g2 => by have := wm_blk hab hI g1 g2; omega)
def rm_diff : Room := { frames := 12, cells := 0, slots := 0, locals := 340 }
theorem c_different (l : Launch) (D : va_G) (cI : ClassId) (q : Nat → Nat) (f : Nat → Int32) (G : Nat → Nat → Int32) {n : Nat} {A0 : Nat → Nat → Nat} {a b : Nat} (hq : kq f G n A0) (hab : a ≤ b) (hb : b ≤ n) : T_Mi l y_T_different b_T_different 3 (some .int) rm_diff D cI q f G [.int (nI a), .int (nI b)]
    (fun r f' G' => r = nI (wm_Sn (wm_c A0 a b) 512) ∧ f' 2 = nI (wm_Sn (wm_c A0 a b) 512) ∧ wm_Fd (wm_c A0 a b) (G' 7) (G' 8) 512 ∧ (∀ j, j ≠ 2 → f' j = f j) ∧ ∀ j, j ≠ 7 → j ≠ 8 → G' j = G j) := by
  refine T_ofi rfl (Nat.le_of_ble_eq_true rfl) ?_
  intro p e s m args below meth c ls A E w hl
  have hl : kl ls [some (.ref (q 0)), some (.int (nI a)), some (.int (nI b))] := kl_of _ hl rfl rfl rfl
  have hn := hq.2.1
  refine kl_aload_n 0 E.1 d_T_different_0 hl rfl ?_
  refine kl_iload_n 1 E.1 d_T_different_1 hl rfl ?_
  refine kl_iload_n 2 E.1 d_T_different_2 hl rfl ?_
  refine T_cv 3 E w (c_part l D cI q f G hn hq.1 hab hb) (cv_T_T_part E.1.2.2.2 rfl rfl ⟨by decide, by decide⟩) (kl_sz hl) rfl rfl (Nat.le_of_ble_eq_true rfl) d_T_different_3 (fun f1 G1 H locs hp w => ?_)
  obtain ⟨e1, e2⟩ := hp
  rw [e1, e2] at w
  refine kl_aload_n 6 E.1 d_T_different_6 hl rfl ?_
  refine lv_iconst (pc := 7) (v := nI 0) E.1.1 E.1.2.1 d_T_different_7 (by decide) ?_
  refine T_pi 8 E.1 w 2 (by decide) l_T_founds d_T_different_8 (fun H locs w => ?_)
  refine kl_aload_n 11 E.1 d_T_different_11 hl rfl ?_
  refine lv_iconst (pc := 12) (v := nI 0) E.1.1 E.1.2.1 d_T_different_12 (by decide) ?_
  refine lv_iconst (pc := 13) (v := nI 0) E.1.1 E.1.2.1 d_T_different_13 (by decide) ?_
  refine kl_iload_n 14 E.1 d_T_different_14 hl rfl ?_
  refine kl_iload_n 15 E.1 d_T_different_15 hl rfl ?_
  refine T_cv 16 E w (c_list l D cI q hab hb 9 0 0 a b (upd f 2 (nI 0)) G rfl (by decide) ⟨hq.1, hq.2⟩ (wm_In_0 hq.2.2.2 hab hb) (by decide) rfl (fun u hu => absurd hu (by omega))) (cv_T_T_list E.1.2.2.2 rfl rfl ⟨by decide, by decide⟩) (kl_sz hl) rfl rfl (Nat.le_of_ble_eq_true rfl) d_T_different_16 (fun f1 G1 H locs hp w => ?_)
  obtain ⟨⟨g2, gF⟩, gf, gG⟩ := hp
  rw [show (0 + 1) * 2 ^ (9 - 0) = 512 from rfl] at g2 gF
  refine kl_aload_n 19 E.1 d_T_different_19 hl rfl ?_
  refine T_gi 20 E.1 w 2 (by decide) l_T_founds d_T_different_20 ?_
  refine n_top (g2) ?_
  exact T_iret 23 E w d_T_different_23 ⟨rfl, g2, gF, fun j hj => (gf j hj).trans (pk_un hj), gG⟩
/-- the most frequent of the numbers below m, the first of them; how often -/
def wm_Mx (c : Nat → Nat) (m : Nat) (bst : Int32) (bt : Nat) : Prop := (∀ u, u < m → c u ≤ bt) ∧ ((bt = 0 ∧ bst = -1) ∨ ∃ u, u < m ∧ bst = nI u ∧ c u = bt ∧ 0 < bt ∧ ∀ w, w < u → c w < bt)
theorem wm_Mx_0 (c : Nat → Nat) : wm_Mx c 0 (-1) 0 := ⟨fun u hu => absurd hu (Nat.not_lt_zero u), Or.inl ⟨rfl, rfl⟩⟩
theorem wm_Mx_gap {c : Nat → Nat} {m1 m2 : Nat} {bst : Int32} {bt : Nat} (hm : m1 ≤ m2) (h : wm_Mx c m1 bst bt) (h0 : ∀ u, m1 ≤ u → u < m2 → c u ≤ bt) : wm_Mx c m2 bst bt := by
  refine ⟨fun u hu => ?_, ?_⟩
  · rcases Nat.lt_or_ge u m1 with h1 | h1
    · exact h.1 u h1
    · exact h0 u h1 hu
  · rcases h.2 with h1 | ⟨u, h1, h2⟩
    · exact Or.inl h1
    · exact Or.inr ⟨u, by omega, h2⟩
theorem wm_Mx_s {c : Nat → Nat} {v : Nat} {bst : Int32} {bt : Nat} (h : wm_Mx c v bst bt) (hv : bt < c v) : wm_Mx c (v + 1) (nI v) (c v) := by
  refine ⟨fun u hu => ?_, Or.inr ⟨v, by omega, rfl, rfl, by omega, fun w hw => Nat.lt_of_le_of_lt (h.1 w hw) hv⟩⟩
  rcases Nat.lt_or_ge u v with h1 | h1
  · exact Nat.le_of_lt (Nat.lt_of_le_of_lt (h.1 u h1) hv)
  · have : u = v := by omega
    subst this; exact Nat.le_refl _
theorem wm_Mx_le {c : Nat → Nat} {m N : Nat} {bst : Int32} {bt : Nat} (h : wm_Mx c m bst bt) (hc : ∀ u, c u ≤ N) : bt ≤ N := by
  rcases h.2 with h1 | ⟨u, -, -, h2, -⟩
  · omega
  · rw [← h2]; exact hc u
theorem wm_Mx_one {c : Nat → Nat} {m : Nat} {b1 b2 : Int32} {t1 t2 : Nat} (h1 : wm_Mx c m b1 t1) (h2 : wm_Mx c m b2 t2) : b1 = b2 := by
  rcases h1.2 with ⟨e1, e2⟩ | ⟨u, u1, u2, u3, u4, u5⟩
  · rcases h2.2 with ⟨e3, e4⟩ | ⟨w, w1, w2, w3, w4, w5⟩
    · rw [e2, e4]
    · have := h1.1 w w1; omega
  · rcases h2.2 with ⟨e3, e4⟩ | ⟨w, w1, w2, w3, w4, w5⟩
    · have := h2.1 u u1; omega
    · have a1 := h1.1 w w1
      have a2 := h2.1 u u1
      rcases Nat.lt_trichotomy u w with g | g | g
      · have := w5 u g; omega
      · rw [u2, w2, g]
      · have := u5 w g; omega
theorem wm_c_le (A0 : Nat → Nat → Nat) {a b : Nat} (hab : a ≤ b) (u : Nat) : wm_c A0 a b u ≤ b - a := wm_cn_le _ _ hab
set_option maxHeartbeats 1000000 in
theorem c_frequent (l : Launch) (D : va_G) (cI : ClassId) (q : Nat → Nat) (G : Nat → Nat → Int32) {n : Nat} {A0 : Nat → Nat → Nat} {a b : Nat} (hab : a ≤ b) (hb : b ≤ n) : ∀ (d lv v lo hi bt : Nat) (f : Nat → Int32), 9 - lv = d → lv ≤ 9 → kq f G n A0 → wm_In A0 n a b lv v lo hi → v < 2 ^ lv → f 4 = nI bt → wm_Mx (wm_c A0 a b) (v * 2 ^ (9 - lv)) (f 3) bt →
    T_Mv l y_T_frequent b_T_frequent 7 (rm_rec d) D cI q f G [.int (nI lv), .int (nI v), .int (nI lo), .int (nI hi)]
      (fun f' G' => (∃ bt, f' 4 = nI bt ∧ wm_Mx (wm_c A0 a b) ((v + 1) * 2 ^ (9 - lv)) (f' 3) bt) ∧ (∀ j, j ≠ 3 → j ≠ 4 → f' j = f j) ∧ G' = G) := by
  intro d
  induction d with
  | zero =>
    intro lv v lo hi bt f hd hlv9 hq hI hv h4 hM
    have hn := hq.2.1
    have hlo := Nat.le_trans hI.1.1 hI.1.2
    have hhi := hI.1.2
    have hle := hI.1.1
    have hbt := wm_Mx_le hM (wm_c_le A0 hab)
    have : lv = 9 := by omega
    subst this
    refine T_ofv rfl (Nat.le_of_ble_eq_true rfl) ?_
    intro p e s m args below meth c ls A E w hl
    have hl : kl ls [some (.ref (q 0)), some (.int (nI 9)), some (.int (nI v)), some (.int (nI lo)), some (.int (nI hi)), none, none] := kl_of _ hl rfl rfl rfl
    have hc9 : hi - lo = wm_c A0 a b v := by
      have hc := wm_In_c hI
      rw [wm_cn_eq9'] at hc; exact hc
    refine kl_iload 0 E.1 d_T_frequent_0 hl rfl ?_
    refine kl_iload_n 2 E.1 d_T_frequent_2 hl rfl ?_
    refine n_isub 3 E.1 d_T_frequent_3 (by omega) ?_
    refine kl_aload_n 4 E.1 d_T_frequent_4 hl rfl ?_
    refine T_gi 5 E.1 w 4 (by decide) l_T_bestTimes d_T_frequent_5 ?_
    refine n_top (h4) ?_
    refine n_icmp_gt 8 (tgt := 12) E.1 d_T_frequent_8 rfl (by omega) (by omega) (fun h8 => ?_) (fun h8 => ?_)
    · refine kl_iload_n 12 E.1 d_T_frequent_12 hl rfl ?_
      refine lv_bipush (pc := 13) (v := nI 9) E.1.1 E.1.2.1 d_T_frequent_13 (by decide) ?_
      refine n_icmp_ne 15 (tgt := 32) E.1 d_T_frequent_15 rfl (by omega) (by omega) (fun h15 => ?_) (fun h15 => ?_)
      · exact absurd rfl h15
      · refine kl_aload_n 18 E.1 d_T_frequent_18 hl rfl ?_
        refine kl_iload_n 19 E.1 d_T_frequent_19 hl rfl ?_
        refine T_pi 20 E.1 w 3 (by decide) l_T_best d_T_frequent_20 (fun H locs w => ?_)
        refine kl_aload_n 23 E.1 d_T_frequent_23 hl rfl ?_
        refine kl_iload 24 E.1 d_T_frequent_24 hl rfl ?_
        refine kl_iload_n 26 E.1 d_T_frequent_26 hl rfl ?_
        refine n_isub 27 E.1 d_T_frequent_27 (by omega) ?_
        refine T_pi 28 E.1 w 4 (by decide) l_T_bestTimes d_T_frequent_28 (fun H locs w => ?_)
        refine T_vret 31 E w d_T_frequent_31 ⟨⟨hi - lo, rfl, ?_⟩, fun j h3 h4 => by rw [pk_un h4, pk_un h3], rfl⟩
        rw [show v * 2 ^ (9 - 9) = v from Nat.mul_one v] at hM
        rw [show (v + 1) * 2 ^ (9 - 9) = v + 1 from Nat.mul_one _, hc9]
        exact wm_Mx_s hM (by omega)
    · exact T_vret 11 E w d_T_frequent_11 ⟨⟨bt, h4, wm_Mx_gap (Nat.mul_le_mul_right _ (Nat.le_succ v)) hM (fun u g1 g2 => by have := wm_blk hab hI g1 g2; omega)⟩, fun _ _ _ => rfl, rfl⟩
  | succ d ih =>
    intro lv v lo hi bt f hd hlv9 hq hI hv h4 hM
    have hn := hq.2.1
    have hlo := Nat.le_trans hI.1.1 hI.1.2
    have hhi := hI.1.2
    have hle := hI.1.1
    have hbt := wm_Mx_le hM (wm_c_le A0 hab)
    have hlv : lv < 9 := by omega
    refine T_ofv rfl (Nat.le_of_ble_eq_true rfl) ?_
    intro p e s m args below meth c ls A E w hl
    have hl : kl ls [some (.ref (q 0)), some (.int (nI lv)), some (.int (nI v)), some (.int (nI lo)), some (.int (nI hi)), none, none] := kl_of _ hl rfl rfl rfl
    obtain ⟨hp1, hp2⟩ := wm_pw hlv v
    have hs0 := wm_In_s hq.2.2.2 hlv hI hab false
    have hs1 := wm_In_s hq.2.2.2 hlv hI hab true
    have hv2 : 2 * v + 1 < 2 ^ (lv + 1) := by rw [Nat.pow_succ]; omega
    have hr1 := wm_rk_le A0 lv lo
    have hr2 := wm_rk_le A0 lv hi
    have hB := hq.2.2.1
    have hz := (hB lv hlv).1
    refine kl_iload 0 E.1 d_T_frequent_0 hl rfl ?_
    refine kl_iload_n 2 E.1 d_T_frequent_2 hl rfl ?_
    refine n_isub 3 E.1 d_T_frequent_3 (by omega) ?_
    refine kl_aload_n 4 E.1 d_T_frequent_4 hl rfl ?_
    refine T_gi 5 E.1 w 4 (by decide) l_T_bestTimes d_T_frequent_5 ?_
    refine n_top (h4) ?_
    refine n_icmp_gt 8 (tgt := 12) E.1 d_T_frequent_8 rfl (by omega) (by omega) (fun h8 => ?_) (fun h8 => ?_)
    · refine kl_iload_n 12 E.1 d_T_frequent_12 hl rfl ?_
      refine lv_bipush (pc := 13) (v := nI 9) E.1.1 E.1.2.1 d_T_frequent_13 (by decide) ?_
      refine n_icmp_ne 15 (tgt := 32) E.1 d_T_frequent_15 rfl (by omega) (by omega) (fun h15 => ?_) (fun h15 => ?_)
      · refine kl_aload_n 32 E.1 d_T_frequent_32 hl rfl ?_
        refine kl_iload_n 33 E.1 d_T_frequent_33 hl rfl ?_
        refine kl_iload_n 34 E.1 d_T_frequent_34 hl rfl ?_
        refine T_ci 35 E w (c_ones l D cI q f G hn hlv (hlo) (hB lv hlv)) (cv_T_T_ones E.1.2.2.2 rfl rfl ⟨show 1 + 1 ≤ d + 1 + 2 by omega, show 8 + (3 + 11) + 21 ≤ 26 * (d + 1) + 60 by omega⟩) (kl_sz hl) rfl rfl (Nat.le_of_ble_eq_true rfl) d_T_frequent_35 (fun r f1 G1 H locs hp w => ?_)
        obtain ⟨rfl, e1, e2⟩ := hp
        rw [e1, e2] at w
        refine kl_istore 38 E.1 d_T_frequent_38 hl (Nat.le_of_ble_eq_true rfl) (fun ls hl => ?_)
        refine kl_aload_n 40 E.1 d_T_frequent_40 hl rfl ?_
        refine kl_iload_n 41 E.1 d_T_frequent_41 hl rfl ?_
        refine kl_iload 42 E.1 d_T_frequent_42 hl rfl ?_
        refine T_ci 44 E w (c_ones l D cI q f G hn hlv (hhi) (hB lv hlv)) (cv_T_T_ones E.1.2.2.2 rfl rfl ⟨show 1 + 1 ≤ d + 1 + 2 by omega, show 8 + (3 + 11) + 21 ≤ 26 * (d + 1) + 60 by omega⟩) (kl_sz hl) rfl rfl (Nat.le_of_ble_eq_true rfl) d_T_frequent_44 (fun r f1 G1 H locs hp w => ?_)
        obtain ⟨rfl, e1, e2⟩ := hp
        rw [e1, e2] at w
        refine kl_istore 47 E.1 d_T_frequent_47 hl (Nat.le_of_ble_eq_true rfl) (fun ls hl => ?_)
        refine kl_aload_n 49 E.1 d_T_frequent_49 hl rfl ?_
        refine kl_iload_n 50 E.1 d_T_frequent_50 hl rfl ?_
        refine lv_iconst (pc := 51) (v := nI 1) E.1.1 E.1.2.1 d_T_frequent_51 (by decide) ?_
        refine n_iadd 52 E.1 d_T_frequent_52 ?_
        refine lv_iconst (pc := 53) (v := nI 2) E.1.1 E.1.2.1 d_T_frequent_53 (by decide) ?_
        refine kl_iload_n 54 E.1 d_T_frequent_54 hl rfl ?_
        refine n_imul 55 E.1 d_T_frequent_55 ?_
        refine kl_iload_n 56 E.1 d_T_frequent_56 hl rfl ?_
        refine kl_iload 57 E.1 d_T_frequent_57 hl rfl ?_
        refine n_isub 59 E.1 d_T_frequent_59 (by omega) ?_
        refine kl_iload 60 E.1 d_T_frequent_60 hl rfl ?_
        refine kl_iload 62 E.1 d_T_frequent_62 hl rfl ?_
        refine n_isub 64 E.1 d_T_frequent_64 (by omega) ?_
        refine T_cv 65 E w (ih (lv + 1) (2 * v) _ _ bt f (by omega) (by omega) hq hs0 (by omega) h4 (by rw [hp1]; exact hM)) (cv_T_T_frequent E.1.2.2.2 rfl rfl ⟨show d + 2 + 1 ≤ d + 1 + 2 by omega, show 8 + (7 + 11) + (26 * d + 60) ≤ 26 * (d + 1) + 60 by omega⟩) (kl_sz hl) rfl rfl (Nat.le_of_ble_eq_true rfl) d_T_frequent_65 (fun f1 G1 H locs hp w => ?_)
        obtain ⟨⟨bt1, g4, gM⟩, gf, gG⟩ := hp
        rw [gG] at w
        refine kl_aload_n 68 E.1 d_T_frequent_68 hl rfl ?_
        refine kl_iload_n 69 E.1 d_T_frequent_69 hl rfl ?_
        refine lv_iconst (pc := 70) (v := nI 1) E.1.1 E.1.2.1 d_T_frequent_70 (by decide) ?_
        refine n_iadd 71 E.1 d_T_frequent_71 ?_
        refine lv_iconst (pc := 72) (v := nI 2) E.1.1 E.1.2.1 d_T_frequent_72 (by decide) ?_
        refine kl_iload_n 73 E.1 d_T_frequent_73 hl rfl ?_
        refine n_imul 74 E.1 d_T_frequent_74 ?_
        refine lv_iconst (pc := 75) (v := nI 1) E.1.1 E.1.2.1 d_T_frequent_75 (by decide) ?_
        refine n_iadd 76 E.1 d_T_frequent_76 ?_
        refine kl_aload_n 77 E.1 d_T_frequent_77 hl rfl ?_
        refine T_ga 78 E.1 w 6 (by decide) l_T_zeros d_T_frequent_78 ?_
        refine kl_iload_n 81 E.1 d_T_frequent_81 hl rfl ?_
        refine T_ald 82 E.1 w 6 (by decide) d_T_frequent_82 (show _ < 9 by omega) ?_
        refine n_top (hz) ?_
        refine kl_iload 83 E.1 d_T_frequent_83 hl rfl ?_
        refine n_iadd 85 E.1 d_T_frequent_85 ?_
        refine kl_aload_n 86 E.1 d_T_frequent_86 hl rfl ?_
        refine T_ga 87 E.1 w 6 (by decide) l_T_zeros d_T_frequent_87 ?_
        refine kl_iload_n 90 E.1 d_T_frequent_90 hl rfl ?_
        refine T_ald 91 E.1 w 6 (by decide) d_T_frequent_91 (show _ < 9 by omega) ?_
        refine n_top (hz) ?_
        refine kl_iload 92 E.1 d_T_frequent_92 hl rfl ?_
        refine n_iadd 94 E.1 d_T_frequent_94 ?_
        refine T_cv 95 E w (ih (lv + 1) (2 * v + 1) _ _ bt1 f1 (by omega) (by omega) ⟨(gf 1 (by decide) (by decide)).trans hq.1, hq.2⟩ hs1 hv2 g4 gM) (cv_T_T_frequent E.1.2.2.2 rfl rfl ⟨show d + 2 + 1 ≤ d + 1 + 2 by omega, show 8 + (7 + 11) + (26 * d + 60) ≤ 26 * (d + 1) + 60 by omega⟩) (kl_sz hl) rfl rfl (Nat.le_of_ble_eq_true rfl) d_T_frequent_95 (fun f2 G2 H locs hp w => ?_)
        obtain ⟨g5, gf3, gG3⟩ := hp
        rw [hp2] at g5
        rw [gG3] at w
        exact T_vret 98 E w d_T_frequent_98 ⟨g5, fun j h3 h4 => (gf3 j h3 h4).trans (gf j h3 h4), rfl⟩
      · exact absurd h15 (by omega)
    · exact T_vret 11 E w d_T_frequent_11 ⟨⟨bt, h4, wm_Mx_gap (Nat.mul_le_mul_right _ (Nat.le_succ v)) hM (fun u g1 g2 => by have := wm_blk hab hI g1 g2; omega)⟩, fun _ _ _ => rfl, rfl⟩
theorem c_most (l : Launch) (D : va_G) (cI : ClassId) (q : Nat → Nat) (f : Nat → Int32) (G : Nat → Nat → Int32) {n : Nat} {A0 : Nat → Nat → Nat} {a b : Nat} (hq : kq f G n A0) (hab : a ≤ b) (hb : b ≤ n) : T_Mi l y_T_most b_T_most 3 (some .int) rm_diff D cI q f G [.int (nI a), .int (nI b)]
    (fun r f' G' => (∃ bt, wm_Mx (wm_c A0 a b) 512 r bt) ∧ (∀ j, j ≠ 3 → j ≠ 4 → f' j = f j) ∧ G' = G) := by
  refine T_ofi rfl (Nat.le_of_ble_eq_true rfl) ?_
  intro p e s m args below meth c ls A E w hl
  have hl : kl ls [some (.ref (q 0)), some (.int (nI a)), some (.int (nI b))] := kl_of _ hl rfl rfl rfl
  have hn := hq.2.1
  refine kl_aload_n 0 E.1 d_T_most_0 hl rfl ?_
  refine kl_iload_n 1 E.1 d_T_most_1 hl rfl ?_
  refine kl_iload_n 2 E.1 d_T_most_2 hl rfl ?_
  refine T_cv 3 E w (c_part l D cI q f G hn hq.1 hab hb) (cv_T_T_part E.1.2.2.2 rfl rfl ⟨by decide, by decide⟩) (kl_sz hl) rfl rfl (Nat.le_of_ble_eq_true rfl) d_T_most_3 (fun f1 G1 H locs hp w => ?_)
  obtain ⟨e1, e2⟩ := hp
  rw [e1, e2] at w
  refine kl_aload_n 6 E.1 d_T_most_6 hl rfl ?_
  refine lv_iconst (pc := 7) (v := -1) E.1.1 E.1.2.1 d_T_most_7 (by decide) ?_
  refine T_pi 8 E.1 w 3 (by decide) l_T_best d_T_most_8 (fun H locs w => ?_)
  refine kl_aload_n 11 E.1 d_T_most_11 hl rfl ?_
  refine lv_iconst (pc := 12) (v := nI 0) E.1.1 E.1.2.1 d_T_most_12 (by decide) ?_
  refine T_pi 13 E.1 w 4 (by decide) l_T_bestTimes d_T_most_13 (fun H locs w => ?_)
  refine kl_aload_n 16 E.1 d_T_most_16 hl rfl ?_
  refine lv_iconst (pc := 17) (v := nI 0) E.1.1 E.1.2.1 d_T_most_17 (by decide) ?_
  refine lv_iconst (pc := 18) (v := nI 0) E.1.1 E.1.2.1 d_T_most_18 (by decide) ?_
  refine kl_iload_n 19 E.1 d_T_most_19 hl rfl ?_
  refine kl_iload_n 20 E.1 d_T_most_20 hl rfl ?_
  refine T_cv 21 E w (c_frequent l D cI q G hab hb 9 0 0 a b 0 (upd (upd f 3 (-1)) 4 (nI 0)) rfl (by decide) ⟨hq.1, hq.2⟩ (wm_In_0 hq.2.2.2 hab hb) (by decide) rfl (by rw [show 0 * 2 ^ (9 - 0) = 0 from rfl]; exact wm_Mx_0 _)) (cv_T_T_frequent E.1.2.2.2 rfl rfl ⟨by decide, by decide⟩) (kl_sz hl) rfl rfl (Nat.le_of_ble_eq_true rfl) d_T_most_21 (fun f1 G1 H locs hp w => ?_)
  obtain ⟨⟨bt, g4, gM⟩, gf, gG⟩ := hp
  rw [show (0 + 1) * 2 ^ (9 - 0) = 512 from rfl] at gM
  rw [gG] at w
  refine kl_aload_n 24 E.1 d_T_most_24 hl rfl ?_
  refine T_gi 25 E.1 w 3 (by decide) l_T_best d_T_most_25 ?_
  exact T_iret 28 E w d_T_most_28 ⟨⟨bt, gM⟩, fun j h3 h4 => (gf j h3 h4).trans (by rw [pk_un h4, pk_un h3]), rfl⟩
def rm_before : Room := { frames := 4, cells := 0, slots := 0, locals := 120 }
theorem c_before (l : Launch) (D : va_G) (cI : ClassId) (q : Nat → Nat) (f : Nat → Int32) (G : Nat → Nat → Int32) {n : Nat} {A0 : Nat → Nat → Nat} {nu a b : Nat} (hq : kq f G n A0) (hnu : nu < 512) (hab : a ≤ b) (hb : b ≤ n) : T_Mi l y_T_before b_T_before 5 (some .int) rm_before D cI q f G [.int (nI nu), .int (nI a), .int (nI b)]
    (fun r f' G' => ((wm_cn (A0 0) (fun x => decide (x < nu + 1)) a b = 0 ∧ r = -1) ∨ ∃ v, r = nI v ∧ 0 < wm_cn (A0 0) (fun x => decide (x < nu + 1)) a b ∧ wm_Qt (A0 0) a b (wm_cn (A0 0) (fun x => decide (x < nu + 1)) a b - 1) v) ∧ fk f f' ∧ G' = G) := by
  refine T_ofi rfl (Nat.le_of_ble_eq_true rfl) ?_
  intro p e s m args below meth c ls A E w hl
  have hl : kl ls [some (.ref (q 0)), some (.int (nI nu)), some (.int (nI a)), some (.int (nI b)), none] := kl_of _ hl rfl rfl rfl
  have hn := hq.2.1
  have hcl := wm_cn_le (A0 0) (fun x => decide (x < nu + 1)) hab
  refine kl_iload_n 0 E.1 d_T_before_0 hl rfl ?_
  refine lv_sipush (pc := 1) (v := nI 511) E.1.1 E.1.2.1 d_T_before_1 (by decide) ?_
  refine S_cv 4 E (c_numchk l (v := nu) (mx := 511) (by omega) (by decide)) (cv_T_T_numchk E.1.2.2.2 rfl rfl ⟨by decide, by decide⟩) (kl_sz hl) rfl rfl (Nat.le_of_ble_eq_true rfl) d_T_before_4 ?_
  refine kl_aload_n 7 E.1 d_T_before_7 hl rfl ?_
  refine kl_iload_n 8 E.1 d_T_before_8 hl rfl ?_
  refine lv_iconst (pc := 9) (v := nI 1) E.1.1 E.1.2.1 d_T_before_9 (by decide) ?_
  refine n_iadd 10 E.1 d_T_before_10 ?_
  refine kl_iload_n 11 E.1 d_T_before_11 hl rfl ?_
  refine kl_iload_n 12 E.1 d_T_before_12 hl rfl ?_
  refine T_ci 13 E w (c_below l D cI q f G hq (show nu + 1 ≤ 512 by omega) hab hb) (cv_T_T_below E.1.2.2.2 rfl rfl ⟨by decide, by decide⟩) (kl_sz hl) rfl rfl (Nat.le_of_ble_eq_true rfl) d_T_before_13 (fun r f1 G1 H locs hp w => ?_)
  obtain ⟨rfl, hfk, e2⟩ := hp
  rw [e2] at w
  refine kl_istore 16 E.1 d_T_before_16 hl (Nat.le_of_ble_eq_true rfl) (fun ls hl => ?_)
  refine kl_iload 18 E.1 d_T_before_18 hl rfl ?_
  refine n_if_ne 20 (tgt := 27) E.1 d_T_before_20 rfl (by omega) (fun h20 => ?_) (fun h20 => ?_)
  · refine kl_aload_n 27 E.1 d_T_before_27 hl rfl ?_
    refine kl_iload_n 28 E.1 d_T_before_28 hl rfl ?_
    refine kl_iload_n 29 E.1 d_T_before_29 hl rfl ?_
    refine kl_iload 30 E.1 d_T_before_30 hl rfl ?_
    refine lv_iconst (pc := 32) (v := nI 1) E.1.1 E.1.2.1 d_T_before_32 (by decide) ?_
    refine n_isub 33 E.1 d_T_before_33 (by omega) ?_
    refine T_ci 34 E w (c_quantile l D cI q f1 G (hq.fk hfk) hab hb (show wm_cn (A0 0) (fun x => decide (x < nu + 1)) a b - 1 < b - a by omega)) (cv_T_T_quantile E.1.2.2.2 rfl rfl ⟨by decide, by decide⟩) (kl_sz hl) rfl rfl (Nat.le_of_ble_eq_true rfl) d_T_before_34 (fun r f2 G2 H locs hp w => ?_)
    obtain ⟨⟨v, rfl, hQ⟩, hfk2, e2⟩ := hp
    rw [e2] at w
    exact T_iret 37 E w d_T_before_37 ⟨Or.inr ⟨v, rfl, by omega, hQ⟩, hfk.tr hfk2, rfl⟩
  · refine lv_iconst (pc := 23) (v := -1) E.1.1 E.1.2.1 d_T_before_23 (by decide) ?_
    refine lv_goto (pc := 24) (tgt := 37) E.1.1 E.1.2.1 d_T_before_24 rfl ?_
    exact T_iret 37 E w d_T_before_37 ⟨Or.inl ⟨h20, rfl⟩, hfk, rfl⟩
end
section
/-! one level: pure -/
def uv (x : Int32) : Nat := x.toBitVec.toNat
theorem uv_lt (x : Int32) : uv x < 2 ^ 32 := x.toBitVec.isLt
theorem nI_uv (x : Int32) : nI (uv x) = x := by
  apply Int32.toBitVec_inj.1
  show BitVec.ofNat 32 x.toBitVec.toNat = x.toBitVec
  apply BitVec.eq_of_toNat_eq
  simp
theorem uv_nI {k : Nat} (h : k < 2 ^ 32) : uv (nI k) = k := pk_tn h
theorem uv_bit (x : Int32) {k : Nat} (hk : k < 9) : (x >>> (nI k &&& 31)) &&& nI 1 = nI ((uv x).testBit k).toNat := by
  rw [pk_and _ 1 (by decide)]
  congr 1
  have h1 : (x >>> (nI k &&& 31)).toBitVec.toNat % 2 ^ 1 = ((x >>> (nI k &&& 31)).toBitVec.getLsbD 0).toNat := by
    rw [BitVec.getLsbD, Nat.testBit_zero]
    generalize (x >>> (nI k &&& 31)).toBitVec.toNat = y
    rcases Nat.mod_two_eq_zero_or_one y with h | h <;> simp [h]
  rw [h1, Int32.toBitVec_shiftRight]
  show ((x.toBitVec.sshiftRight ((nI k &&& 31).toBitVec.smod 32).toNat).getLsbD 0).toNat = _
  rw [kx_sl k (by omega), BitVec.getLsbD_sshiftRight]
  simp only [Nat.add_zero]
  rw [if_pos (by omega)]
  simp [uv, BitVec.getLsbD]
/-- where each goes: no two to one place -/
theorem wm_ps_inj {X : Nat → Nat} {c n i j : Nat} (hi : i < n) (hj : j < i) : wm_ps X c n (wm_b X c j) j ≠ wm_ps X c n (wm_b X c i) i := by
  have h0 := wm_ps_lt (f := X) (c := c) (n := n) hj
  have hm : ∀ k, k ≤ n → wm_ct (wm_b X c) k ≤ wm_ct (wm_b X c) n := fun k hk => wm_ct_mono _ hk
  have hl : wm_ct (wm_b X c) n ≤ n := wm_ct_le _ _
  cases hb : wm_b X c j with
  | true =>
    cases hb2 : wm_b X c i with
    | true => rw [hb] at h0; omega
    | false =>
      have h1 := wm_ps_lt (f := X) (c := c) (n := n) hi
      rw [hb2, wm_ps_0, wm_ps_0] at h1
      rw [wm_ps_1, wm_ps_0]
      omega
  | false =>
    cases hb2 : wm_b X c i with
    | false => rw [hb] at h0; omega
    | true =>
      have h1 := wm_ps_lt (f := X) (c := c) (n := n) (Nat.lt_trans hj hi)
      rw [hb, wm_ps_0, wm_ps_0] at h1
      rw [wm_ps_1, wm_ps_0]
      omega
def Lt_ (X : Nat → Nat) (c n i : Nat) (g2 g3 : Nat → Int32) : Prop := ∀ j, j < i → g3 (wm_ps X c n (wm_b X c j) j) = g2 j
theorem Lt_s {X : Nat → Nat} {c n i : Nat} {g2 g3 : Nat → Int32} (h : Lt_ X c n i g2 g3) (hi : i < n) : Lt_ X c n (i + 1) g2 (upd g3 (wm_ps X c n (wm_b X c i) i) (g2 i)) := by
  intro j hj
  rcases Nat.lt_or_ge j i with h1 | h1
  · rw [pk_un (wm_ps_inj hi h1)]; exact h j h1
  · have : j = i := by omega
    subst this
    rw [pk_us]
def Lw (X : Nat → Nat) (c i lv : Nat) (g4 : Nat → Int32) : Prop := ∀ w, w < 127 → ∃ x, x < 2 ^ 32 ∧ g4 (lv * 127 + w) = nI x ∧ ∀ b, b < 32 → x.testBit b = (decide (32 * w + b < i) && (X (32 * w + b)).testBit c)
theorem Lw_0 {X : Nat → Nat} {c i lv : Nat} {g4 : Nat → Int32} (h : Lw X c i lv g4) (hb : wm_b X c i = false) : Lw X c (i + 1) lv g4 := by
  intro w hw
  obtain ⟨x, h1, h2, h3⟩ := h w hw
  refine ⟨x, h1, h2, fun b hb' => ?_⟩
  rw [h3 b hb']
  by_cases he : 32 * w + b = i
  · have hb : (X i).testBit c = false := hb
    rw [he, hb]; simp
  · rw [show decide (32 * w + b < i) = decide (32 * w + b < i + 1) by rw [decide_eq_decide]; omega]
theorem Lw_1 {X : Nat → Nat} {c i lv x : Nat} {g4 : Nat → Int32} (h : Lw X c i lv g4) (hb : wm_b X c i = true) (hx1 : x < 2 ^ 32) (hx : ∀ b, b < 32 → x.testBit b = (decide (32 * (i / 32) + b < i) && (X (32 * (i / 32) + b)).testBit c)) : Lw X c (i + 1) lv (upd g4 (lv * 127 + i / 32) (nI (x ||| 1 * 2 ^ (i % 32)))) := by
  intro w hw
  by_cases he : w = i / 32
  · subst he
    refine ⟨x ||| 1 * 2 ^ (i % 32), Nat.or_lt_two_pow hx1 (by rw [Nat.one_mul]; exact Nat.pow_lt_pow_right (by decide) (Nat.mod_lt _ (by decide))), pk_us, fun b hb' => ?_⟩
    rw [Nat.testBit_or, Nat.one_mul, Nat.testBit_two_pow, hx b hb']
    have hb : (X i).testBit c = true := hb
    by_cases h9 : i % 32 = b
    · subst h9
      rw [show 32 * (i / 32) + i % 32 = i by omega, hb]; simp
    · rw [decide_eq_false h9, Bool.or_false, show decide (32 * (i / 32) + b < i) = decide (32 * (i / 32) + b < i + 1) by rw [decide_eq_decide]; omega]
  · obtain ⟨y, h1, h2, h3⟩ := h w hw
    refine ⟨y, h1, by rw [pk_un (by omega)]; exact h2, fun b hb' => ?_⟩
    rw [h3 b hb', show decide (32 * w + b < i) = decide (32 * w + b < i + 1) by rw [decide_eq_decide]; omega]
/-- the bits of a word count the ones of its part -/
theorem Lw_pc {X : Nat → Nat} {c n w x : Nat} (hx : ∀ b, b < 32 → x.testBit b = (decide (32 * w + b < n) && (X (32 * w + b)).testBit c)) : wm_ct (wm_b X c) (min (32 * (w + 1)) n) = wm_ct (wm_b X c) (min (32 * w) n) + pc_n x 32 := by
  unfold pc_n
  rcases Nat.lt_or_ge (32 * w) n with h | h
  · generalize hr : min (32 * (w + 1)) n - 32 * w = r
    have hr1 : r ≤ 32 := by omega
    rw [show min (32 * (w + 1)) n = 32 * w + r by omega, show min (32 * w) n = 32 * w by omega, wm_ct_add, show (32 : Nat) = r + (32 - r) by omega, wm_ct_add (fun i => x.testBit i) r (32 - r)]
    rw [wm_ct_none (P := fun j => x.testBit (r + j)) (n := 32 - r) (fun j hj => by rw [hx (r + j) (by omega), decide_eq_false (by omega), Bool.false_and]), Nat.add_zero]
    rw [show r + (32 - r) = 32 by omega]
    congr 1
    refine wm_ct_congr (fun j hj => ?_)
    rw [hx j (by omega), decide_eq_true (by omega), Bool.true_and]; rfl
  · rw [show min (32 * (w + 1)) n = n by omega, show min (32 * w) n = n by omega, wm_ct_none (P := fun i => x.testBit i) (n := 32) (fun j hj => by rw [hx j hj, decide_eq_false (by omega), Bool.false_and]), Nat.add_zero]
end
section
/-! the tree: level -/
section LV1
variable {p : Program} {l : Launch} {e : Env} {R : Room} {s : State} {m : MethodId} {args : Array Value} {below : List Frame} {meth : Method} {c : Code} {H : Heap} {locs : List Loc} {Q : State → Prop} {ls : Array Slot} {D : va_G} {cI : ClassId} {A : Nat → Prop} {q : Nat → Nat} {f : Nat → Int32} {G : Nat → Nat → Int32}
theorem lp_lv1 {n lv bit : Nat} {X : Nat → Nat} (E : kx_E p s m args c b_T_level R_T 8 meth none A) (hn : n ≤ 4000) (hf : f 1 = nI n) (hlv : lv < 9) (hbit : bit < 9) (hX : ∀ j, X j = uv (G 2 j)) (w : kx_T D cI A q f G s H locs)
    (K : ∀ ls : Array Slot, kl ls [some (.ref (q 0)), some (.int (nI lv)), some (.int (nI bit)), some (.int (nI (n - wm_ct (wm_b X bit) n))), some (.int (nI n)), none, none, none] → W p l e R s m args below meth c H locs 0 0 Q (F0 m 37 ls [])) :
    ∀ (u i : Nat) (ls : Array Slot), n - i = u → i ≤ n → kl ls [some (.ref (q 0)), some (.int (nI lv)), some (.int (nI bit)), some (.int (nI (i - wm_ct (wm_b X bit) i))), some (.int (nI i)), none, none, none] → W p l e R s m args below meth c H locs 0 0 Q (F0 m 5 ls []) := by
  intro u
  induction u with
  | zero =>
    intro i ls hu hi hl
    have : i = n := by omega
    subst this
    refine kl_iload 5 E.1 d_T_level_5 hl rfl ?_
    refine kl_aload_n 7 E.1 d_T_level_7 hl rfl ?_
    refine T_gi 8 E.1 w 1 (by decide) l_T_size d_T_level_8 ?_
    refine n_top (hf) ?_
    refine n_icmp_ge 11 (tgt := 37) E.1 d_T_level_11 rfl (by omega) (by omega) (fun h11 => ?_) (fun h11 => ?_)
    · exact K ls hl
    · exact absurd h11 (by omega)
  | succ u ih =>
    intro i ls hu hi hl
    have hct := wm_ct_le (wm_b X bit) i
    have hv : (G 2 i >>> (nI bit &&& 31)) &&& nI 1 = nI (wm_b X bit i).toNat := by
      rw [uv_bit _ hbit]; unfold wm_b; rw [hX]
    refine kl_iload 5 E.1 d_T_level_5 hl rfl ?_
    refine kl_aload_n 7 E.1 d_T_level_7 hl rfl ?_
    refine T_gi 8 E.1 w 1 (by decide) l_T_size d_T_level_8 ?_
    refine n_top (hf) ?_
    refine n_icmp_ge 11 (tgt := 37) E.1 d_T_level_11 rfl (by omega) (by omega) (fun h11 => ?_) (fun h11 => ?_)
    · exact absurd h11 (by omega)
    · cases hb : wm_b X bit i with
      | false =>
        rw [hb] at hv
        refine kl_aload_n 14 E.1 d_T_level_14 hl rfl ?_
        refine T_ga 15 E.1 w 2 (by decide) l_T_now d_T_level_15 ?_
        refine kl_iload 18 E.1 d_T_level_18 hl rfl ?_
        refine T_ald 20 E.1 w 2 (by decide) d_T_level_20 (show _ < 4000 by omega) ?_
        refine kl_iload_n 21 E.1 d_T_level_21 hl rfl ?_
        refine lv_ishr (pc := 22) E.1.1 E.1.2.1 d_T_level_22 ?_
        refine lv_iconst (pc := 23) (v := nI 1) E.1.1 E.1.2.1 d_T_level_23 (by decide) ?_
        refine lv_iand (pc := 24) E.1.1 E.1.2.1 d_T_level_24 ?_
        refine n_top (hv) ?_
        refine n_if_ne 25 (tgt := 31) E.1 d_T_level_25 rfl (by decide) (fun h25 => ?_) (fun h25 => ?_)
        · exact absurd h25 (by decide)
        · refine kl_inc1 28 E.1 d_T_level_28 hl rfl (fun ls hl => ?_)
          refine kl_inc1 31 E.1 d_T_level_31 hl rfl (fun ls hl => ?_)
          refine lv_goto (pc := 34) (tgt := 5) E.1.1 E.1.2.1 d_T_level_34 rfl ?_
          refine ih (i + 1) ls (by omega) (by omega) ?_
          rw [wm_ct_f hb, show i + 1 - wm_ct (wm_b X bit) i = i - wm_ct (wm_b X bit) i + 1 by omega]
          exact hl
      | true =>
        rw [hb] at hv
        refine kl_aload_n 14 E.1 d_T_level_14 hl rfl ?_
        refine T_ga 15 E.1 w 2 (by decide) l_T_now d_T_level_15 ?_
        refine kl_iload 18 E.1 d_T_level_18 hl rfl ?_
        refine T_ald 20 E.1 w 2 (by decide) d_T_level_20 (show _ < 4000 by omega) ?_
        refine kl_iload_n 21 E.1 d_T_level_21 hl rfl ?_
        refine lv_ishr (pc := 22) E.1.1 E.1.2.1 d_T_level_22 ?_
        refine lv_iconst (pc := 23) (v := nI 1) E.1.1 E.1.2.1 d_T_level_23 (by decide) ?_
        refine lv_iand (pc := 24) E.1.1 E.1.2.1 d_T_level_24 ?_
        refine n_top (hv) ?_
        refine n_if_ne 25 (tgt := 31) E.1 d_T_level_25 rfl (by decide) (fun h25 => ?_) (fun h25 => ?_)
        · refine kl_inc1 31 E.1 d_T_level_31 hl rfl (fun ls hl => ?_)
          refine lv_goto (pc := 34) (tgt := 5) E.1.1 E.1.2.1 d_T_level_34 rfl ?_
          refine ih (i + 1) ls (by omega) (by omega) ?_
          rw [wm_ct_t hb, show i + 1 - (wm_ct (wm_b X bit) i + 1) = i - wm_ct (wm_b X bit) i by omega]
          exact hl
        · exact absurd h25 (by decide)
end LV1

section LV2
variable {p : Program} {l : Launch} {e : Env} {R : Room} {s : State} {m : MethodId} {args : Array Value} {below : List Frame} {meth : Method} {c : Code} {H : Heap} {locs : List Loc} {Q : State → Prop} {ls : Array Slot} {D : va_G} {cI : ClassId} {A : Nat → Prop} {q : Nat → Nat} {f : Nat → Int32} {G : Nat → Nat → Int32}
theorem lp_lv2 {n lv bit : Nat} {X : Nat → Nat} (E : kx_E p s m args c b_T_level R_T 8 meth none A) (hn : n ≤ 4000) (hf : f 1 = nI n) (hlv : lv < 9) (hbit : bit < 9) (hX : ∀ j, X j = uv (G 2 j))
    (K : ∀ (G' : Nat → Nat → Int32) (H : Heap) (locs : List Loc) (ls : Array Slot) (x3 x4 x5 x6 x7 : Option Value), (∀ j, j ≠ 3 → j ≠ 4 → G' j = G j) → Lt_ X bit n n (G 2) (G' 3) → Lw X bit n lv (G' 4) → (∀ k, (k < lv * 127 ∨ lv * 127 + 127 ≤ k) → G' 4 k = G 4 k) → kx_T D cI A q f G' s H locs → kl ls [some (.ref (q 0)), some (.int (nI lv)), some (.int (nI bit)), x3, x4, x5, x6, x7] → W p l e R s m args below meth c H locs 0 0 Q (F0 m 140 ls [])) :
    ∀ (u i : Nat) (G' : Nat → Nat → Int32) (H : Heap) (locs : List Loc) (ls : Array Slot), n - i = u → i ≤ n → (∀ j, j ≠ 3 → j ≠ 4 → G' j = G j) → Lt_ X bit n i (G 2) (G' 3) → Lw X bit i lv (G' 4) → (∀ k, (k < lv * 127 ∨ lv * 127 + 127 ≤ k) → G' 4 k = G 4 k) → kx_T D cI A q f G' s H locs → kl ls [some (.ref (q 0)), some (.int (nI lv)), some (.int (nI bit)), some (.int (nI (n - wm_ct (wm_b X bit) n))), some (.int (nI (i - wm_ct (wm_b X bit) i))), some (.int (nI ((n - wm_ct (wm_b X bit) n) + wm_ct (wm_b X bit) i))), some (.int (nI i)), none] → W p l e R s m args below meth c H locs 0 0 Q (F0 m 53 ls []) := by
  intro u
  induction u with
  | zero =>
    intro i G' H locs ls hu hi hg h3 h4 h4o w hl
    have : i = n := by omega
    subst this
    refine kl_iload 53 E.1 d_T_level_53 hl rfl ?_
    refine kl_aload_n 55 E.1 d_T_level_55 hl rfl ?_
    refine T_gi 56 E.1 w 1 (by decide) l_T_size d_T_level_56 ?_
    refine n_top (hf) ?_
    refine n_icmp_ge 59 (tgt := 140) E.1 d_T_level_59 rfl (by omega) (by omega) (fun h59 => ?_) (fun h59 => ?_)
    · exact K G' H locs ls _ _ _ _ _ hg h3 h4 h4o w hl
    · exact absurd h59 (by omega)
  | succ u ih =>
    intro i G' H locs ls hu hi hg h3 h4 h4o w hl
    have hct := wm_ct_le (wm_b X bit) i
    have hctn := wm_ct_le (wm_b X bit) n
    have hctm := wm_ct_mono (wm_b X bit) (show i + 1 ≤ n by omega)
    have e2 := hg 2 (by decide) (by decide)
    have hv : (G' 2 i >>> (nI bit &&& 31)) &&& nI 1 = nI (wm_b X bit i).toNat := by
      rw [e2, uv_bit _ hbit]; unfold wm_b; rw [hX]
    have h3s := Lt_s h3 (show i < n by omega)
    refine kl_iload 53 E.1 d_T_level_53 hl rfl ?_
    refine kl_aload_n 55 E.1 d_T_level_55 hl rfl ?_
    refine T_gi 56 E.1 w 1 (by decide) l_T_size d_T_level_56 ?_
    refine n_top (hf) ?_
    refine n_icmp_ge 59 (tgt := 140) E.1 d_T_level_59 rfl (by omega) (by omega) (fun h59 => ?_) (fun h59 => ?_)
    · exact absurd h59 (by omega)
    · cases hb : wm_b X bit i with
      | false =>
        rw [hb] at hv h3s
        refine kl_aload_n 62 E.1 d_T_level_62 hl rfl ?_
        refine T_ga 63 E.1 w 2 (by decide) l_T_now d_T_level_63 ?_
        refine kl_iload 66 E.1 d_T_level_66 hl rfl ?_
        refine T_ald 68 E.1 w 2 (by decide) d_T_level_68 (show _ < 4000 by omega) ?_
        refine kl_iload_n 69 E.1 d_T_level_69 hl rfl ?_
        refine lv_ishr (pc := 70) E.1.1 E.1.2.1 d_T_level_70 ?_
        refine lv_iconst (pc := 71) (v := nI 1) E.1.1 E.1.2.1 d_T_level_71 (by decide) ?_
        refine lv_iand (pc := 72) E.1.1 E.1.2.1 d_T_level_72 ?_
        refine n_top (hv) ?_
        refine n_if_ne 73 (tgt := 96) E.1 d_T_level_73 rfl (by decide) (fun h73 => ?_) (fun h73 => ?_)
        · exact absurd h73 (by decide)
        · refine kl_aload_n 76 E.1 d_T_level_76 hl rfl ?_
          refine T_ga 77 E.1 w 3 (by decide) l_T_then d_T_level_77 ?_
          refine kl_iload 80 E.1 d_T_level_80 hl rfl ?_
          refine kl_aload_n 82 E.1 d_T_level_82 hl rfl ?_
          refine T_ga 83 E.1 w 2 (by decide) l_T_now d_T_level_83 ?_
          refine kl_iload 86 E.1 d_T_level_86 hl rfl ?_
          refine T_ald 88 E.1 w 2 (by decide) d_T_level_88 (show _ < 4000 by omega) ?_
          refine T_ast 89 E.1 w 3 (by decide) d_T_level_89 (show _ < 4000 by omega) (fun H locs w => ?_)
          refine kl_inc1 90 E.1 d_T_level_90 hl rfl (fun ls hl => ?_)
          refine lv_goto (pc := 93) (tgt := 134) E.1.1 E.1.2.1 d_T_level_93 rfl ?_
          refine kl_inc1 134 E.1 d_T_level_134 hl rfl (fun ls hl => ?_)
          refine lv_goto (pc := 137) (tgt := 53) E.1.1 E.1.2.1 d_T_level_137 rfl ?_
          refine ih (i + 1) _ H locs ls (by omega) (by omega) (fun j g3 g4 => (va_up_ne _ _ g3).trans (hg j g3 g4)) ?_ (Lw_0 h4 hb) h4o w ?_
          · rw [← e2] at h3s
            rw [← e2]; exact h3s
          · rw [wm_ct_f hb, show i + 1 - wm_ct (wm_b X bit) i = i - wm_ct (wm_b X bit) i + 1 by omega]
            exact hl
      | true =>
        rw [hb] at hv h3s
        refine kl_aload_n 62 E.1 d_T_level_62 hl rfl ?_
        refine T_ga 63 E.1 w 2 (by decide) l_T_now d_T_level_63 ?_
        refine kl_iload 66 E.1 d_T_level_66 hl rfl ?_
        refine T_ald 68 E.1 w 2 (by decide) d_T_level_68 (show _ < 4000 by omega) ?_
        refine kl_iload_n 69 E.1 d_T_level_69 hl rfl ?_
        refine lv_ishr (pc := 70) E.1.1 E.1.2.1 d_T_level_70 ?_
        refine lv_iconst (pc := 71) (v := nI 1) E.1.1 E.1.2.1 d_T_level_71 (by decide) ?_
        refine lv_iand (pc := 72) E.1.1 E.1.2.1 d_T_level_72 ?_
        refine n_top (hv) ?_
        refine n_if_ne 73 (tgt := 96) E.1 d_T_level_73 rfl (by decide) (fun h73 => ?_) (fun h73 => ?_)
        · obtain ⟨x, hx1, hx2, hx3⟩ := h4 (i / 32) (by omega)
          rw [wm_ct_t hb] at hctm
          refine kl_aload_n 96 E.1 d_T_level_96 hl rfl ?_
          refine T_ga 97 E.1 w 4 (by decide) l_T_word d_T_level_97 ?_
          refine kl_iload_n 100 E.1 d_T_level_100 hl rfl ?_
          refine lv_bipush (pc := 101) (v := nI 127) E.1.1 E.1.2.1 d_T_level_101 (by decide) ?_
          refine n_imul 103 E.1 d_T_level_103 ?_
          refine kl_iload 104 E.1 d_T_level_104 hl rfl ?_
          refine lv_iconst (pc := 106) (v := nI 5) E.1.1 E.1.2.1 d_T_level_106 (by decide) ?_
          refine n_ishr 107 E.1 d_T_level_107 (by omega) ?_
          refine n_top (show nI (i / 2 ^ (5 % 32)) = nI (i / 32) from rfl) ?_
          refine n_iadd 108 E.1 d_T_level_108 ?_
          refine lv_dup2_11 (pc := 109) E.1.1 E.1.2.1 d_T_level_109 rfl rfl ?_
          refine T_ald 110 E.1 w 4 (by decide) d_T_level_110 (show _ < 1143 by omega) ?_
          refine n_top (hx2) ?_
          refine lv_iconst (pc := 111) (v := nI 1) E.1.1 E.1.2.1 d_T_level_111 (by decide) ?_
          refine kl_iload 112 E.1 d_T_level_112 hl rfl ?_
          refine n_ishl 114 E.1 d_T_level_114 ?_
          refine n_ior 115 E.1 d_T_level_115 ?_
          refine T_ast 116 E.1 w 4 (by decide) d_T_level_116 (show _ < 1143 by omega) (fun H locs w => ?_)
          refine kl_aload_n 117 E.1 d_T_level_117 hl rfl ?_
          refine T_ga 118 E.1 w 3 (by decide) l_T_then d_T_level_118 ?_
          refine kl_iload 121 E.1 d_T_level_121 hl rfl ?_
          refine kl_aload_n 123 E.1 d_T_level_123 hl rfl ?_
          refine T_ga 124 E.1 w 2 (by decide) l_T_now d_T_level_124 ?_
          refine kl_iload 127 E.1 d_T_level_127 hl rfl ?_
          refine T_ald 129 E.1 w 2 (by decide) d_T_level_129 (show _ < 4000 by omega) ?_
          refine T_ast 130 E.1 w 3 (by decide) d_T_level_130 (show _ < 4000 by omega) (fun H locs w => ?_)
          refine kl_inc1 131 E.1 d_T_level_131 hl rfl (fun ls hl => ?_)
          refine kl_inc1 134 E.1 d_T_level_134 hl rfl (fun ls hl => ?_)
          refine lv_goto (pc := 137) (tgt := 53) E.1.1 E.1.2.1 d_T_level_137 rfl ?_
          refine ih (i + 1) _ H locs ls (by omega) (by omega) ?_ ?_ ?_ ?_ w ?_
          · exact fun j g3 g4 => (va_up_ne _ _ g3).trans ((va_up_ne _ _ g4).trans (hg j g3 g4))
          · rw [← e2] at h3s
            rw [← e2]; exact h3s
          · exact Lw_1 h4 hb hx1 hx3
          · intro k hk
            have h9 : upd (G' 4) (lv * 127 + i / 32) (nI (x ||| 1 * 2 ^ (i % 32))) k = G' 4 k := pk_un (by omega)
            exact h9.trans (h4o k hk)
          · rw [wm_ct_t hb, show i + 1 - (wm_ct (wm_b X bit) i + 1) = i - wm_ct (wm_b X bit) i by omega, ← Nat.add_assoc]
            exact hl
        · exact absurd h73 (by decide)
end LV2

section LV3
variable {p : Program} {l : Launch} {e : Env} {R : Room} {s : State} {m : MethodId} {args : Array Value} {below : List Frame} {meth : Method} {c : Code} {H : Heap} {locs : List Loc} {Q : State → Prop} {ls : Array Slot} {D : va_G} {cI : ClassId} {A : Nat → Prop} {q : Nat → Nat} {f : Nat → Int32} {G : Nat → Nat → Int32}
theorem lp_lv3 {n lv bit : Nat} {X : Nat → Nat} (E : kx_E p s m args c b_T_level R_T 8 meth none A) (hn : n ≤ 4000) (hf : f 1 = nI n) (hlv : lv < 9) (hbit : bit < 9) (hR : 1 ≤ R.frames ∧ 21 ≤ R.locals) (h4 : Lw X bit n lv (G 4))
    (K : ∀ (G' : Nat → Nat → Int32) (H : Heap) (locs : List Loc) (ls : Array Slot) (x3 x4 x5 x6 x7 : Option Value), (∀ j, j ≠ 5 → G' j = G j) → (∀ w, w < 127 → G' 5 (lv * 127 + w) = nI (wm_ct (wm_b X bit) (min (32 * w) n))) → (∀ k, (k < lv * 127 ∨ lv * 127 + 127 ≤ k) → G' 5 k = G 5 k) → kx_T D cI A q f G' s H locs → kl ls [some (.ref (q 0)), some (.int (nI lv)), some (.int (nI bit)), x3, x4, x5, x6, x7] → W p l e R s m args below meth c H locs 0 0 Q (F0 m 193 ls [])) :
    ∀ (u i : Nat) (G' : Nat → Nat → Int32) (H : Heap) (locs : List Loc) (ls : Array Slot) (x3 x4 x5 : Option Value), 127 - i = u → i ≤ 127 → (∀ j, j ≠ 5 → G' j = G j) → (∀ w, w < i → G' 5 (lv * 127 + w) = nI (wm_ct (wm_b X bit) (min (32 * w) n))) → (∀ k, (k < lv * 127 ∨ lv * 127 + 127 ≤ k) → G' 5 k = G 5 k) → kx_T D cI A q f G' s H locs → kl ls [some (.ref (q 0)), some (.int (nI lv)), some (.int (nI bit)), x3, x4, x5, some (.int (nI (wm_ct (wm_b X bit) (min (32 * i) n)))), some (.int (nI i))] → W p l e R s m args below meth c H locs 0 0 Q (F0 m 146 ls []) := by
  intro u
  induction u with
  | zero =>
    intro i G' H locs ls x3 x4 x5 hu hi hg h5 h5o w hl
    have : i = 127 := by omega
    subst this
    refine kl_iload 146 E.1 d_T_level_146 hl rfl ?_
    refine lv_bipush (pc := 148) (v := nI 127) E.1.1 E.1.2.1 d_T_level_148 (by decide) ?_
    refine n_icmp_ge 150 (tgt := 193) E.1 d_T_level_150 rfl (by omega) (by omega) (fun h150 => ?_) (fun h150 => ?_)
    · exact K G' H locs ls _ _ _ _ _ hg h5 h5o w hl
    · exact absurd h150 (by omega)
  | succ u ih =>
    intro i G' H locs ls x3 x4 x5 hu hi hg h5 h5o w hl
    obtain ⟨x, hx1, hx2, hx3⟩ := h4 i (by omega)
    have hpc := Lw_pc hx3
    have hx2' : G' 4 (lv * 127 + i) = nI x := by rw [hg 4 (by decide)]; exact hx2
    refine kl_iload 146 E.1 d_T_level_146 hl rfl ?_
    refine lv_bipush (pc := 148) (v := nI 127) E.1.1 E.1.2.1 d_T_level_148 (by decide) ?_
    refine n_icmp_ge 150 (tgt := 193) E.1 d_T_level_150 rfl (by omega) (by omega) (fun h150 => ?_) (fun h150 => ?_)
    · exact absurd h150 (by omega)
    · refine kl_aload_n 153 E.1 d_T_level_153 hl rfl ?_
      refine T_ga 154 E.1 w 5 (by decide) l_T_ones d_T_level_154 ?_
      refine kl_iload_n 157 E.1 d_T_level_157 hl rfl ?_
      refine lv_bipush (pc := 158) (v := nI 127) E.1.1 E.1.2.1 d_T_level_158 (by decide) ?_
      refine n_imul 160 E.1 d_T_level_160 ?_
      refine kl_iload 161 E.1 d_T_level_161 hl rfl ?_
      refine n_iadd 163 E.1 d_T_level_163 ?_
      refine kl_iload 164 E.1 d_T_level_164 hl rfl ?_
      refine T_ast 166 E.1 w 5 (by decide) d_T_level_166 (show _ < 1143 by omega) (fun H locs w => ?_)
      refine kl_iload 167 E.1 d_T_level_167 hl rfl ?_
      refine kl_aload_n 169 E.1 d_T_level_169 hl rfl ?_
      refine T_ga 170 E.1 w 4 (by decide) l_T_word d_T_level_170 ?_
      refine kl_iload_n 173 E.1 d_T_level_173 hl rfl ?_
      refine lv_bipush (pc := 174) (v := nI 127) E.1.1 E.1.2.1 d_T_level_174 (by decide) ?_
      refine n_imul 176 E.1 d_T_level_176 ?_
      refine kl_iload 177 E.1 d_T_level_177 hl rfl ?_
      refine n_iadd 179 E.1 d_T_level_179 ?_
      refine T_ald 180 E.1 w 4 (by decide) d_T_level_180 (show _ < 1143 by omega) ?_
      refine n_top (hx2') ?_
      refine S_ci 181 E (c_bits l x hx1) (cv_T_T_bits E.1.2.2.2 rfl rfl ⟨Nat.le_trans (by decide) hR.1, Nat.le_trans (by decide) hR.2⟩) (kl_sz hl) rfl rfl (Nat.le_of_ble_eq_true rfl) d_T_level_181 ?_
      refine n_iadd 184 E.1 d_T_level_184 ?_
      refine kl_istore 185 E.1 d_T_level_185 hl (Nat.le_of_ble_eq_true rfl) (fun ls hl => ?_)
      refine kl_inc1 187 E.1 d_T_level_187 hl rfl (fun ls hl => ?_)
      refine lv_goto (pc := 190) (tgt := 146) E.1.1 E.1.2.1 d_T_level_190 rfl ?_
      refine ih (i + 1) _ H locs ls x3 x4 x5 (by omega) (by omega) ?_ ?_ ?_ w ?_
      · exact fun j g5 => (va_up_ne _ _ g5).trans (hg j g5)
      · intro w hw
        show upd (G' 5) (lv * 127 + i) _ _ = _
        rcases Nat.lt_or_ge w i with g | g
        · rw [pk_un (by omega)]; exact h5 w g
        · have : w = i := by omega
          subst this
          rw [pk_us]
      · intro k hk
        show upd (G' 5) (lv * 127 + i) _ k = _
        rw [pk_un (by omega)]; exact h5o k hk
      · rw [hpc]; exact hl
end LV3

section LV4
variable {p : Program} {l : Launch} {e : Env} {R : Room} {s : State} {m : MethodId} {args : Array Value} {below : List Frame} {meth : Method} {c : Code} {H : Heap} {locs : List Loc} {Q : State → Prop} {ls : Array Slot} {D : va_G} {cI : ClassId} {A : Nat → Prop} {q : Nat → Nat} {f : Nat → Int32} {G : Nat → Nat → Int32}
theorem lp_lv4 {n lv bit : Nat} (E : kx_E p s m args c b_T_level R_T 8 meth none A) (hn : n ≤ 4000) (hf : f 1 = nI n) (hlv : lv < 9) (hbit : bit < 9)
    (K : ∀ (G' : Nat → Nat → Int32) (H : Heap) (locs : List Loc) (ls : Array Slot), (∀ j, j ≠ 2 → G' j = G j) → (∀ j, j < n → G' 2 j = G 3 j) → kx_T D cI A q f G' s H locs → W p l e R s m args below meth c H locs 0 0 Q (F0 m 225 ls [])) :
    ∀ (u i : Nat) (G' : Nat → Nat → Int32) (H : Heap) (locs : List Loc) (ls : Array Slot) (x3 x4 x5 x6 : Option Value), n - i = u → i ≤ n → (∀ j, j ≠ 2 → G' j = G j) → (∀ j, j < i → G' 2 j = G 3 j) → kx_T D cI A q f G' s H locs → kl ls [some (.ref (q 0)), some (.int (nI lv)), some (.int (nI bit)), x3, x4, x5, x6, some (.int (nI i))] → W p l e R s m args below meth c H locs 0 0 Q (F0 m 196 ls []) := by
  intro u
  induction u with
  | zero =>
    intro i G' H locs ls x3 x4 x5 x6 hu hi hg h2 w hl
    have : i = n := by omega
    subst this
    refine kl_iload 196 E.1 d_T_level_196 hl rfl ?_
    refine kl_aload_n 198 E.1 d_T_level_198 hl rfl ?_
    refine T_gi 199 E.1 w 1 (by decide) l_T_size d_T_level_199 ?_
    refine n_top (hf) ?_
    refine n_icmp_ge 202 (tgt := 225) E.1 d_T_level_202 rfl (by omega) (by omega) (fun h202 => ?_) (fun h202 => ?_)
    · exact K G' H locs ls hg h2 w
    · exact absurd h202 (by omega)
  | succ u ih =>
    intro i G' H locs ls x3 x4 x5 x6 hu hi hg h2 w hl
    refine kl_iload 196 E.1 d_T_level_196 hl rfl ?_
    refine kl_aload_n 198 E.1 d_T_level_198 hl rfl ?_
    refine T_gi 199 E.1 w 1 (by decide) l_T_size d_T_level_199 ?_
    refine n_top (hf) ?_
    refine n_icmp_ge 202 (tgt := 225) E.1 d_T_level_202 rfl (by omega) (by omega) (fun h202 => ?_) (fun h202 => ?_)
    · exact absurd h202 (by omega)
    · refine kl_aload_n 205 E.1 d_T_level_205 hl rfl ?_
      refine T_ga 206 E.1 w 2 (by decide) l_T_now d_T_level_206 ?_
      refine kl_iload 209 E.1 d_T_level_209 hl rfl ?_
      refine kl_aload_n 211 E.1 d_T_level_211 hl rfl ?_
      refine T_ga 212 E.1 w 3 (by decide) l_T_then d_T_level_212 ?_
      refine kl_iload 215 E.1 d_T_level_215 hl rfl ?_
      refine T_ald 217 E.1 w 3 (by decide) d_T_level_217 (show _ < 4000 by omega) ?_
      refine T_ast 218 E.1 w 2 (by decide) d_T_level_218 (show _ < 4000 by omega) (fun H locs w => ?_)
      refine kl_inc1 219 E.1 d_T_level_219 hl rfl (fun ls hl => ?_)
      refine lv_goto (pc := 222) (tgt := 196) E.1.1 E.1.2.1 d_T_level_222 rfl ?_
      refine ih (i + 1) _ H locs ls _ _ _ _ (by omega) (by omega) (fun j g2 => (va_up_ne _ _ g2).trans (hg j g2)) (fun j hj => ?_) w hl
      show upd (G' 2) i _ j = _
      rcases Nat.lt_or_ge j i with g | g
      · rw [pk_un (by omega)]; exact h2 j g
      · have : j = i := by omega
        subst this
        rw [pk_us, hg 3 (by decide)]
end LV4

def rm_level : Room := { frames := 1, cells := 0, slots := 0, locals := 21 }
/-- a level's arrays, by its values X and its bit -/
def Bd_x (G : Nat → Nat → Int32) (n : Nat) (X : Nat → Nat) (bit lv : Nat) : Prop :=
  G 6 lv = nI (n - wm_ct (wm_b X bit) n) ∧ (∀ w, w < 127 → G 5 (lv * 127 + w) = nI (wm_ct (wm_b X bit) (min (32 * w) n))) ∧
  ∀ w, w < 127 → ∃ x, x < 2 ^ 32 ∧ G 4 (lv * 127 + w) = nI x ∧ ∀ b, b < 32 → x.testBit b = (decide (32 * w + b < n) && (X (32 * w + b)).testBit bit)
theorem c_level (l : Launch) (D : va_G) (cI : ClassId) (q : Nat → Nat) (f : Nat → Int32) (G : Nat → Nat → Int32) {n lv bit : Nat} (hn : n ≤ 4000) (hf : f 1 = nI n) (hlv : lv < 9) (hbit : bit < 9) (h0 : ∀ w, w < 127 → G 4 (lv * 127 + w) = nI 0) : T_Mv l y_T_level b_T_level 8 rm_level D cI q f G [.int (nI lv), .int (nI bit)]
    (fun f' G' => f' = f ∧ Bd_x G' n (fun j => uv (G 2 j)) bit lv ∧ wm_Nx (fun j => uv (G 2 j)) bit n (fun j => uv (G' 2 j)) ∧ (∀ k, (k < lv * 127 ∨ lv * 127 + 127 ≤ k) → G' 4 k = G 4 k ∧ G' 5 k = G 5 k) ∧ (∀ k, k ≠ lv → G' 6 k = G 6 k) ∧ (G' 1 = G 1 ∧ G' 7 = G 7 ∧ G' 8 = G 8)) := by
  refine T_ofv rfl (Nat.le_of_ble_eq_true rfl) ?_
  intro p e s m args below meth c ls A E w hl
  have hl : kl ls [some (.ref (q 0)), some (.int (nI lv)), some (.int (nI bit)), none, none, none, none, none] := kl_of _ hl rfl rfl rfl
  generalize hXd : (fun j => uv (G 2 j)) = X
  have hX : ∀ j, X j = uv (G 2 j) := fun j => by rw [← hXd]
  refine lv_iconst (pc := 0) (v := nI 0) E.1.1 E.1.2.1 d_T_level_0 (by decide) ?_
  refine kl_istore_n 1 E.1 d_T_level_1 hl (Nat.le_of_ble_eq_true rfl) (fun ls hl => ?_)
  refine lv_iconst (pc := 2) (v := nI 0) E.1.1 E.1.2.1 d_T_level_2 (by decide) ?_
  refine kl_istore 3 E.1 d_T_level_3 hl (Nat.le_of_ble_eq_true rfl) (fun ls hl => ?_)
  refine lp_lv1 E hn hf hlv hbit hX w (fun ls hl => ?_) n 0 ls rfl (Nat.zero_le _) hl
  refine kl_aload_n 37 E.1 d_T_level_37 hl rfl ?_
  refine T_ga 38 E.1 w 6 (by decide) l_T_zeros d_T_level_38 ?_
  refine kl_iload_n 41 E.1 d_T_level_41 hl rfl ?_
  refine kl_iload_n 42 E.1 d_T_level_42 hl rfl ?_
  refine T_ast 43 E.1 w 6 (by decide) d_T_level_43 (show _ < 9 by omega) (fun H locs w => ?_)
  refine lv_iconst (pc := 44) (v := nI 0) E.1.1 E.1.2.1 d_T_level_44 (by decide) ?_
  refine kl_istore 45 E.1 d_T_level_45 hl (Nat.le_of_ble_eq_true rfl) (fun ls hl => ?_)
  refine kl_iload_n 47 E.1 d_T_level_47 hl rfl ?_
  refine kl_istore 48 E.1 d_T_level_48 hl (Nat.le_of_ble_eq_true rfl) (fun ls hl => ?_)
  refine lv_iconst (pc := 50) (v := nI 0) E.1.1 E.1.2.1 d_T_level_50 (by decide) ?_
  refine kl_istore 51 E.1 d_T_level_51 hl (Nat.le_of_ble_eq_true rfl) (fun ls hl => ?_)
  generalize hGa : va_up G 6 (upd (G 6) lv (nI (n - wm_ct (wm_b X bit) n))) = Ga at w
  have ga : ∀ j, j ≠ 6 → Ga j = G j := fun j hj => by rw [← hGa]; exact va_up_ne _ _ hj
  have ga6 : Ga 6 = upd (G 6) lv (nI (n - wm_ct (wm_b X bit) n)) := by rw [← hGa]; exact va_up_self _ _ _
  have hXa : ∀ j, X j = uv (Ga 2 j) := fun j => by rw [ga 2 (by decide)]; exact hX j
  refine lp_lv2 (G := Ga) E hn hf hlv hbit hXa (fun Gb H locs ls x3 x4 x5 x6 x7 gb hb3 hb4 hb4o w hl => ?_) n 0 Ga H locs ls rfl (Nat.zero_le _) (fun _ _ _ => rfl) (fun j hj => absurd hj (Nat.not_lt_zero j)) (fun w hw => ⟨0, by decide, by rw [ga 4 (by decide)]; exact h0 w hw, fun b _ => by simp⟩) (fun _ _ => rfl) w hl
  refine lv_iconst (pc := 140) (v := nI 0) E.1.1 E.1.2.1 d_T_level_140 (by decide) ?_
  refine kl_istore 141 E.1 d_T_level_141 hl (Nat.le_of_ble_eq_true rfl) (fun ls hl => ?_)
  refine lv_iconst (pc := 143) (v := nI 0) E.1.1 E.1.2.1 d_T_level_143 (by decide) ?_
  refine kl_istore 144 E.1 d_T_level_144 hl (Nat.le_of_ble_eq_true rfl) (fun ls hl => ?_)
  refine lp_lv3 (G := Gb) (X := X) E hn hf hlv hbit (by decide) hb4 (fun Gc H locs ls x3 x4 x5 x6 x7 gc hc5 hc5o w hl => ?_) 127 0 Gb H locs ls x3 x4 x5 rfl (Nat.zero_le _) (fun _ _ => rfl) (fun w hw => absurd hw (Nat.not_lt_zero w)) (fun _ _ => rfl) w (by rw [show min (32 * 0) n = 0 by omega]; exact hl)
  refine lv_iconst (pc := 193) (v := nI 0) E.1.1 E.1.2.1 d_T_level_193 (by decide) ?_
  refine kl_istore 194 E.1 d_T_level_194 hl (Nat.le_of_ble_eq_true rfl) (fun ls hl => ?_)
  refine lp_lv4 (G := Gc) E hn hf hlv hbit (fun Gd H locs ls gd hd2 w => ?_) n 0 Gc H locs ls _ _ _ _ rfl (Nat.zero_le _) (fun _ _ => rfl) (fun j hj => absurd hj (Nat.not_lt_zero j)) w hl
  have up : ∀ j, j ≠ 2 → j ≠ 3 → j ≠ 4 → j ≠ 5 → Gd j = Ga j := fun j h2 h3 h4 h5 => (gd j h2).trans ((gc j h5).trans (gb j h3 h4))
  have h6 : Gd 6 = upd (G 6) lv (nI (n - wm_ct (wm_b X bit) n)) := (up 6 (by decide) (by decide) (by decide) (by decide)).trans ga6
  have h4 : Gd 4 = Gb 4 := (gd 4 (by decide)).trans (gc 4 (by decide))
  have h5 : Gd 5 = Gc 5 := gd 5 (by decide)
  have h3 : Gc 3 = Gb 3 := gc 3 (by decide)
  refine T_vret 225 E w d_T_level_225 ⟨rfl, ⟨by rw [h6]; exact pk_us, by rw [h5]; exact hc5, by rw [h4]; exact hb4⟩, fun i hi => ?_, fun k hk => ⟨?_, ?_⟩, fun k hk => by rw [h6]; exact pk_un hk, ?_⟩
  · have hp : wm_ps X bit n (wm_b X bit i) i < n := Nat.lt_of_lt_of_le (wm_ps_lt hi) (wm_ps_le _ (Nat.le_refl n))
    show uv (Gd 2 (wm_ps X bit n (wm_b X bit i) i)) = X i
    rw [hd2 _ hp, h3, hb3 i hi]
    exact (hXa i).symm
  · rw [h4, hb4o k hk, ga 4 (by decide)]
  · rw [h5, hc5o k hk, gb 5 (by decide) (by decide), ga 5 (by decide)]
  · exact ⟨(up 1 (by decide) (by decide) (by decide) (by decide)).trans (ga 1 (by decide)), (up 7 (by decide) (by decide) (by decide) (by decide)).trans (ga 7 (by decide)), (up 8 (by decide) (by decide) (by decide) (by decide)).trans (ga 8 (by decide))⟩
end
section
/-! the tree: build, and the constructor -/
section LB1
variable {p : Program} {l : Launch} {e : Env} {R : Room} {s : State} {m : MethodId} {args : Array Value} {below : List Frame} {meth : Method} {c : Code} {H : Heap} {locs : List Loc} {Q : State → Prop} {ls : Array Slot} {D : va_G} {cI : ClassId} {A : Nat → Prop} {q : Nat → Nat} {f : Nat → Int32} {G : Nat → Nat → Int32}
theorem lp_b1 {n : Nat} (E : kx_E p s m args c b_T_build R_T 2 meth (some .int) A) (hn : n ≤ 4000) (hf : f 1 = nI n)
    (K : ∀ (G' : Nat → Nat → Int32) (H : Heap) (locs : List Loc) (ls : Array Slot) (x1 : Option Value), (∀ j, j ≠ 2 → G' j = G j) → (∀ j, j < n → G' 2 j = G 1 j) → kx_T D cI A q f G' s H locs → kl ls [some (.ref (q 0)), x1] → W p l e R s m args below meth c H locs 0 0 Q (F0 m 36 ls [])) :
    ∀ (u i : Nat) (G' : Nat → Nat → Int32) (H : Heap) (locs : List Loc) (ls : Array Slot), n - i = u → i ≤ n → (∀ j, j ≠ 2 → G' j = G j) → (∀ j, j < i → G' 2 j = G 1 j) → kx_T D cI A q f G' s H locs → kl ls [some (.ref (q 0)), some (.int (nI i))] → W p l e R s m args below meth c H locs 0 0 Q (F0 m 10 ls []) := by
  intro u
  induction u with
  | zero =>
    intro i G' H locs ls hu hi hg h2 w hl
    have : i = n := by omega
    subst this
    refine kl_iload_n 10 E.1 d_T_build_10 hl rfl ?_
    refine kl_aload_n 11 E.1 d_T_build_11 hl rfl ?_
    refine T_gi 12 E.1 w 1 (by decide) l_T_size d_T_build_12 ?_
    refine n_top (hf) ?_
    refine n_icmp_ge 15 (tgt := 36) E.1 d_T_build_15 rfl (by omega) (by omega) (fun h15 => ?_) (fun h15 => ?_)
    · exact K G' H locs ls _ hg h2 w hl
    · exact absurd h15 (by omega)
  | succ u ih =>
    intro i G' H locs ls hu hi hg h2 w hl
    refine kl_iload_n 10 E.1 d_T_build_10 hl rfl ?_
    refine kl_aload_n 11 E.1 d_T_build_11 hl rfl ?_
    refine T_gi 12 E.1 w 1 (by decide) l_T_size d_T_build_12 ?_
    refine n_top (hf) ?_
    refine n_icmp_ge 15 (tgt := 36) E.1 d_T_build_15 rfl (by omega) (by omega) (fun h15 => ?_) (fun h15 => ?_)
    · exact absurd h15 (by omega)
    · refine kl_aload_n 18 E.1 d_T_build_18 hl rfl ?_
      refine T_ga 19 E.1 w 2 (by decide) l_T_now d_T_build_19 ?_
      refine kl_iload_n 22 E.1 d_T_build_22 hl rfl ?_
      refine kl_aload_n 23 E.1 d_T_build_23 hl rfl ?_
      refine T_ga 24 E.1 w 1 (by decide) l_T_row d_T_build_24 ?_
      refine kl_iload_n 27 E.1 d_T_build_27 hl rfl ?_
      refine T_ald 28 E.1 w 1 (by decide) d_T_build_28 (show _ < 4000 by omega) ?_
      refine T_ast 29 E.1 w 2 (by decide) d_T_build_29 (show _ < 4000 by omega) (fun H locs w => ?_)
      refine kl_inc1 30 E.1 d_T_build_30 hl rfl (fun ls hl => ?_)
      refine lv_goto (pc := 33) (tgt := 10) E.1.1 E.1.2.1 d_T_build_33 rfl ?_
      refine ih (i + 1) _ H locs ls (by omega) (by omega) ?_ ?_ w hl
      · exact fun j g2 => (va_up_ne _ _ g2).trans (hg j g2)
      · intro j hj
        show upd (G' 2) i _ j = _
        rcases Nat.lt_or_ge j i with g | g
        · rw [pk_un (by omega)]; exact h2 j g
        · have : j = i := by omega
          subst this
          rw [pk_us, hg 1 (by decide)]
end LB1

section LB2
variable {p : Program} {l : Launch} {e : Env} {R : Room} {s : State} {m : MethodId} {args : Array Value} {below : List Frame} {meth : Method} {c : Code} {H : Heap} {locs : List Loc} {Q : State → Prop} {ls : Array Slot} {D : va_G} {cI : ClassId} {A : Nat → Prop} {q : Nat → Nat} {f : Nat → Int32} {G : Nat → Nat → Int32}
theorem lp_b2 (E : kx_E p s m args c b_T_build R_T 2 meth (some .int) A)
    (K : ∀ (G' : Nat → Nat → Int32) (H : Heap) (locs : List Loc) (ls : Array Slot) (x1 : Option Value), (∀ j, j ≠ 4 → G' j = G j) → (∀ j, j < 1143 → G' 4 j = nI 0) → kx_T D cI A q f G' s H locs → kl ls [some (.ref (q 0)), x1] → W p l e R s m args below meth c H locs 0 0 Q (F0 m 58 ls [])) :
    ∀ (u i : Nat) (G' : Nat → Nat → Int32) (H : Heap) (locs : List Loc) (ls : Array Slot), 1143 - i = u → i ≤ 1143 → (∀ j, j ≠ 4 → G' j = G j) → (∀ j, j < i → G' 4 j = nI 0) → kx_T D cI A q f G' s H locs → kl ls [some (.ref (q 0)), some (.int (nI i))] → W p l e R s m args below meth c H locs 0 0 Q (F0 m 38 ls []) := by
  intro u
  induction u with
  | zero =>
    intro i G' H locs ls hu hi hg h2 w hl
    have : i = 1143 := by omega
    subst this
    refine kl_iload_n 38 E.1 d_T_build_38 hl rfl ?_
    refine lv_sipush (pc := 39) (v := nI 1143) E.1.1 E.1.2.1 d_T_build_39 (by decide) ?_
    refine n_icmp_ge 42 (tgt := 58) E.1 d_T_build_42 rfl (by omega) (by omega) (fun h42 => ?_) (fun h42 => ?_)
    · exact K G' H locs ls _ hg h2 w hl
    · exact absurd h42 (by omega)
  | succ u ih =>
    intro i G' H locs ls hu hi hg h2 w hl
    refine kl_iload_n 38 E.1 d_T_build_38 hl rfl ?_
    refine lv_sipush (pc := 39) (v := nI 1143) E.1.1 E.1.2.1 d_T_build_39 (by decide) ?_
    refine n_icmp_ge 42 (tgt := 58) E.1 d_T_build_42 rfl (by omega) (by omega) (fun h42 => ?_) (fun h42 => ?_)
    · exact absurd h42 (by omega)
    · refine kl_aload_n 45 E.1 d_T_build_45 hl rfl ?_
      refine T_ga 46 E.1 w 4 (by decide) l_T_word d_T_build_46 ?_
      refine kl_iload_n 49 E.1 d_T_build_49 hl rfl ?_
      refine lv_iconst (pc := 50) (v := nI 0) E.1.1 E.1.2.1 d_T_build_50 (by decide) ?_
      refine T_ast 51 E.1 w 4 (by decide) d_T_build_51 (show _ < 1143 by omega) (fun H locs w => ?_)
      refine kl_inc1 52 E.1 d_T_build_52 hl rfl (fun ls hl => ?_)
      refine lv_goto (pc := 55) (tgt := 38) E.1.1 E.1.2.1 d_T_build_55 rfl ?_
      refine ih (i + 1) _ H locs ls (by omega) (by omega) ?_ ?_ w hl
      · exact fun j g2 => (va_up_ne _ _ g2).trans (hg j g2)
      · intro j hj
        show upd (G' 4) i _ j = _
        rcases Nat.lt_or_ge j i with g | g
        · rw [pk_un (by omega)]; exact h2 j g
        · have : j = i := by omega
          subst this
          rw [pk_us]
end LB2

section LB3
variable {p : Program} {l : Launch} {e : Env} {R : Room} {s : State} {m : MethodId} {args : Array Value} {below : List Frame} {meth : Method} {c : Code} {H : Heap} {locs : List Loc} {Q : State → Prop} {ls : Array Slot} {D : va_G} {cI : ClassId} {A : Nat → Prop} {q : Nat → Nat} {f : Nat → Int32} {G : Nat → Nat → Int32}
theorem lp_b3 {n : Nat} (E : kx_E p s m args c b_T_build R_T 2 meth (some .int) A) (hn : n ≤ 4000) (hf : f 1 = nI n) (hR : 2 ≤ R.frames ∧ 48 ≤ R.locals)
    (K : ∀ (A0 : Nat → Nat → Nat) (G' : Nat → Nat → Int32) (H : Heap) (locs : List Loc) (ls : Array Slot) (x1 : Option Value), ((G' 1 = G 1 ∧ G' 7 = G 7 ∧ G' 8 = G 8)) → A0 9 = (fun j => uv (G' 2 j)) → A0 0 = (fun j => uv (G 2 j)) → (∀ l', l' < 9 → Bd_l G' n A0 l' ∧ wm_Nx (A0 l') (8 - l') n (A0 (l' + 1))) → kx_T D cI A q f G' s H locs → kl ls [some (.ref (q 0)), x1] → W p l e R s m args below meth c H locs 0 0 Q (F0 m 81 ls [])) :
    ∀ (u lv : Nat) (A0 : Nat → Nat → Nat) (G' : Nat → Nat → Int32) (H : Heap) (locs : List Loc) (ls : Array Slot), 9 - lv = u → lv ≤ 9 → ((G' 1 = G 1 ∧ G' 7 = G 7 ∧ G' 8 = G 8)) → A0 lv = (fun j => uv (G' 2 j)) → A0 0 = (fun j => uv (G 2 j)) → (∀ l', l' < lv → Bd_l G' n A0 l' ∧ wm_Nx (A0 l') (8 - l') n (A0 (l' + 1))) → (∀ k, lv * 127 ≤ k → k < 1143 → G' 4 k = nI 0) → kx_T D cI A q f G' s H locs → kl ls [some (.ref (q 0)), some (.int (nI lv))] → W p l e R s m args below meth c H locs 0 0 Q (F0 m 60 ls []) := by
  intro u
  induction u with
  | zero =>
    intro lv A0 G' H locs ls hu hlv hg hA hA0 hB hz w hl
    have : lv = 9 := by omega
    subst this
    refine kl_iload_n 60 E.1 d_T_build_60 hl rfl ?_
    refine lv_bipush (pc := 61) (v := nI 9) E.1.1 E.1.2.1 d_T_build_61 (by decide) ?_
    refine n_icmp_ge 63 (tgt := 81) E.1 d_T_build_63 rfl (by omega) (by omega) (fun h63 => ?_) (fun h63 => ?_)
    · exact K A0 G' H locs ls _ hg hA hA0 hB w hl
    · exact absurd h63 (by omega)
  | succ u ih =>
    intro lv A0 G' H locs ls hu hlv9 hg hA hA0 hB hz w hl
    have hlv : lv < 9 := by omega
    refine kl_iload_n 60 E.1 d_T_build_60 hl rfl ?_
    refine lv_bipush (pc := 61) (v := nI 9) E.1.1 E.1.2.1 d_T_build_61 (by decide) ?_
    refine n_icmp_ge 63 (tgt := 81) E.1 d_T_build_63 rfl (by omega) (by omega) (fun h63 => ?_) (fun h63 => ?_)
    · exact absurd h63 (by omega)
    · refine kl_aload_n 66 E.1 d_T_build_66 hl rfl ?_
      refine kl_iload_n 67 E.1 d_T_build_67 hl rfl ?_
      refine lv_bipush (pc := 68) (v := nI 8) E.1.1 E.1.2.1 d_T_build_68 (by decide) ?_
      refine kl_iload_n 70 E.1 d_T_build_70 hl rfl ?_
      refine n_isub 71 E.1 d_T_build_71 (by omega) ?_
      refine T_cv 72 E w (c_level l D cI q f G' hn hf hlv (show 8 - lv < 9 by omega) (fun w hw => hz _ (by omega) (by omega))) (cv_T_T_level E.1.2.2.2 rfl rfl ⟨Nat.le_trans (by decide) hR.1, Nat.le_trans (by decide) hR.2⟩) (kl_sz hl) rfl rfl (Nat.le_of_ble_eq_true rfl) d_T_build_72 (fun f1 G1 H locs hp w => ?_)
      obtain ⟨e1, gB, gN, g45, g6, g1, g7, g8⟩ := hp
      rw [e1] at w
      rw [← hA] at gB gN
      refine kl_inc1 75 E.1 d_T_build_75 hl rfl (fun ls hl => ?_)
      refine lv_goto (pc := 78) (tgt := 60) E.1.1 E.1.2.1 d_T_build_78 rfl ?_
      refine ih (lv + 1) (va_up A0 (lv + 1) (fun j => uv (G1 2 j))) G1 H locs ls (by omega) (by omega) ?_ ?_ ?_ ?_ ?_ w hl
      · exact ⟨g1.trans hg.1, g7.trans hg.2.1, g8.trans hg.2.2⟩
      · exact va_up_self _ _ _
      · rw [va_up_ne _ _ (by omega)]; exact hA0
      · intro l' hl'
        have e0 : va_up A0 (lv + 1) (fun j => uv (G1 2 j)) l' = A0 l' := va_up_ne _ _ (by omega)
        rcases Nat.lt_or_ge l' lv with h | h
        · obtain ⟨hb1, hb2⟩ := hB l' h
          have e1 : va_up A0 (lv + 1) (fun j => uv (G1 2 j)) (l' + 1) = A0 (l' + 1) := va_up_ne _ _ (by omega)
          refine ⟨?_, by rw [e0, e1]; exact hb2⟩
          obtain ⟨c6, c5, c4⟩ := hb1
          refine ⟨?_, fun w hw => ?_, fun w hw => ?_⟩
          · rw [g6 l' (by omega), c6]; unfold wm_rk; rw [e0]
          · rw [(g45 _ (Or.inl (by omega))).2, c5 w hw]; unfold wm_rk; rw [e0]
          · rw [(g45 _ (Or.inl (by omega))).1, e0]; exact c4 w hw
        · have : l' = lv := by omega
          subst this
          have e1 : va_up A0 (l' + 1) (fun j => uv (G1 2 j)) (l' + 1) = fun j => uv (G1 2 j) := va_up_self _ _ _
          refine ⟨?_, by rw [e0, e1]; exact gN⟩
          unfold Bd_l wm_rk
          rw [e0]
          exact gB
      · intro k h1 h2
        rw [(g45 k (Or.inr (by omega))).1]
        exact hz k (by omega) h2
end LB3

def rm_build : Room := { frames := 2, cells := 0, slots := 0, locals := 48 }
theorem c_build (l : Launch) (D : va_G) (cI : ClassId) (q : Nat → Nat) (f : Nat → Int32) (G : Nat → Nat → Int32) {n : Nat} (hn : n ≤ 4000) (hf : f 0 = nI n) (r : Nat → Nat) (hr : ∀ j, j < n → G 1 j = nI (r j) ∧ r j < 512) : T_Mi l y_T_build b_T_build 2 (some .int) rm_build D cI q f G []
    (fun x f' G' => x = nI n ∧ f' = upd f 1 (nI n) ∧ (∃ A0, Bd G' n A0 ∧ wm_Lv A0 n ∧ ∀ j, j < n → A0 0 j = r j) ∧ G' 1 = G 1 ∧ G' 7 = G 7 ∧ G' 8 = G 8) := by
  refine T_ofi rfl (Nat.le_of_ble_eq_true rfl) ?_
  intro p e s m args below meth c ls A E w hl
  have hl : kl ls [some (.ref (q 0)), none] := kl_of _ hl rfl rfl rfl
  refine kl_aload_n 0 E.1 d_T_build_0 hl rfl ?_
  refine kl_aload_n 1 E.1 d_T_build_1 hl rfl ?_
  refine T_gi 2 E.1 w 0 (by decide) l_T_length d_T_build_2 ?_
  refine n_top (hf) ?_
  refine T_pi 5 E.1 w 1 (by decide) l_T_size d_T_build_5 (fun H locs w => ?_)
  refine lv_iconst (pc := 8) (v := nI 0) E.1.1 E.1.2.1 d_T_build_8 (by decide) ?_
  refine kl_istore_n 9 E.1 d_T_build_9 hl (Nat.le_of_ble_eq_true rfl) (fun ls hl => ?_)
  refine lp_b1 E hn rfl (fun Ga H locs ls x1 ga ga2 w hl => ?_) n 0 G H locs ls rfl (Nat.zero_le _) (fun _ _ => rfl) (fun j hj => absurd hj (Nat.not_lt_zero j)) w hl
  refine lv_iconst (pc := 36) (v := nI 0) E.1.1 E.1.2.1 d_T_build_36 (by decide) ?_
  refine kl_istore_n 37 E.1 d_T_build_37 hl (Nat.le_of_ble_eq_true rfl) (fun ls hl => ?_)
  refine lp_b2 E (fun Gb H locs ls x1 gb gb4 w hl => ?_) 1143 0 Ga H locs ls rfl (Nat.zero_le _) (fun _ _ => rfl) (fun j hj => absurd hj (Nat.not_lt_zero j)) w hl
  refine lv_iconst (pc := 58) (v := nI 0) E.1.1 E.1.2.1 d_T_build_58 (by decide) ?_
  refine kl_istore_n 59 E.1 d_T_build_59 hl (Nat.le_of_ble_eq_true rfl) (fun ls hl => ?_)
  refine lp_b3 (G := Gb) E hn rfl (by decide) (fun A0 Gc H locs ls x1 gc hA hA0 hB w hl => ?_) 9 0 (fun _ => fun j => uv (Gb 2 j)) Gb H locs ls rfl (Nat.zero_le _) ⟨rfl, rfl, rfl⟩ rfl rfl (fun l' h => absurd h (Nat.not_lt_zero l')) (fun k _ hk => gb4 k hk) w hl
  refine kl_aload_n 81 E.1 d_T_build_81 hl rfl ?_
  refine T_gi 82 E.1 w 1 (by decide) l_T_size d_T_build_82 ?_
  have hval : ∀ j, j < n → A0 0 j = r j := fun j hj => by
    rw [hA0]
    show uv (Gb 2 j) = r j
    rw [gb 2 (by decide), ga2 j hj, (hr j hj).1, uv_nI (by have := (hr j hj).2; omega)]
  exact T_iret 85 E w d_T_build_85 ⟨rfl, rfl, ⟨A0, fun l' h => (hB l' h).1, ⟨fun l' h => (hB l' h).2, fun j hj => by rw [hval j hj]; exact (hr j hj).2⟩, hval⟩, gc.1.trans ((gb 1 (by decide)).trans (ga 1 (by decide))), gc.2.1.trans ((gb 7 (by decide)).trans (ga 7 (by decide))), gc.2.2.trans ((gb 8 (by decide)).trans (ga 8 (by decide)))⟩
end
section
/-! the two constructors -/
theorem c_Tinit (l : Launch) (D : va_G) (h0 : Nat) (sz : Nat) : Met l y_T_init (.code y_T_init b_T_init 1 none :: lw_g) { frames := 1, cells := 8, slots := 15319, locals := 12 }
    (va_Pc [.ref h0] (fun U => U.heap.size = sz ∧ va_P D cls_ [(h0, .inr (0, [.null, .null, .null, .null, .null, .null, .null, .null, .int 0, .int 0, .int 0, .int 0, .int 0, .int 0, .int 0]))] U.heap ∧ va_K D cls_ [] U ∧ va_D (fun _ => True) [(h0, .inr (0, [.null, .null, .null, .null, .null, .null, .null, .null, .int 0, .int 0, .int 0, .int 0, .int 0, .int 0, .int 0]))]))
    (va_Qv (fun (u : ClassId × (Nat → Nat)) => u.2 0 = h0) (fun u t => va_P D cls_ (wT u.1 u.2 (fun _ => 0) (fun _ _ => 0)) t.heap ∧ va_K D cls_ [(u.1, .int)] t ∧ va_D (va_A [(h0, .inr (0, [.null, .null, .null, .null, .null, .null, .null, .null, .int 0, .int 0, .int 0, .int 0, .int 0, .int 0, .int 0]))] sz) (wT u.1 u.2 (fun _ => 0) (fun _ _ => 0))) (va_A [(h0, .inr (0, [.null, .null, .null, .null, .null, .null, .null, .null, .int 0, .int 0, .int 0, .int 0, .int 0, .int 0, .int 0]))] sz)) 8 15319 (va_A [(h0, .inr (0, [.null, .null, .null, .null, .null, .null, .null, .null, .int 0, .int 0, .int 0, .int 0, .int 0, .int 0, .int 0]))] sz) := by
  refine Met.ofW (cc := b_T_init) (maxL := 1) (ret := none) (by decide) rfl ?_
  intro p e s m args below meth c s₁ B hml hv
  obtain ⟨rfl, hsz, hP, hK, hD0⟩ := hv
  have hx := B.exec
  have hb := B.bytes
  have hr := B.returns
  have hts := atoms_spec (ws := .code y_T_init b_T_init 1 none :: lw_g) B.pre
  have ht : ∀ w ∈ lw_g, w.before ([.ref h0] : List Value).toArray s = true := fun w h => hts w (List.mem_cons_of_mem _ h)
  have hown : s.vm.findClass R_T = some m.cls := findClass_of_methodNamed B.named
  have hlocks := B.notSynchronized
  have hin : meth.name = "<init>" := (name_of_methodNamed B.named B.method).1
  subst hsz
  have hD := hD0.self (sz := s.heap.size)
  generalize hAe : va_A [(h0, .inr (0, [.null, .null, .null, .null, .null, .null, .null, .null, .int 0, .int 0, .int 0, .int 0, .int 0, .int 0, .int 0]))] s.heap.size = A at hD ⊢
  have hA : ∀ q : Nat, s.heap.size ≤ q → A q := fun q h => by rw [← hAe]; exact Or.inr h
  have hS : va_S A s.heap s.heap [] := va_S.rf
  have C : kx_C p s m ([.ref h0] : List Value).toArray c b_T_init R_T := ⟨hx, hb, hown, ht⟩
  rw [lg_entry_eq]
  have hl := lv_entry ([.ref h0]) (n := 1) (Nat.le_of_ble_eq_true rfl)
  generalize (lg_sl ([.ref h0]) ++ List.replicate (1 - (lg_sl ([.ref h0])).length) Slot.unset).toArray = ls at hl ⊢
  have hl : kl ls [some (.ref h0)] := kl_of _ hl rfl rfl rfl
  refine kl_aload_n 0 C d_T_init_0 hl rfl ?_
  refine W.objInit (g := F0 m 1 ls [.ref h0]) (rest := []) hx hb hown (ht _ tw_14) (ht _ tw_15) (ht _ tw_16) rfl ((kl_sz hl).trans hml.symm) rfl d_T_init_1 (Nat.le_of_ble_eq_true rfl) (Nat.le_of_ble_eq_true rfl) ?_
  refine W.eq (g2 := F0 m 4 ls []) rfl ?_
  refine kl_aload_n 4 C d_T_init_4 hl rfl ?_
  refine lv_sipush (pc := 5) (v := nI 4000) hx hb d_T_init_5 (by decide) ?_
  refine va_newa (pc := 8) (atype := .int) (ty := .int) (N' := 4000) (a0 := (4000, .inl (fun _ => 0))) hx hb (ht _ tw_63) rfl hK hP hD hS hA (fun _ => rfl) (by decide) (by decide) (by decide) (Nat.le_of_ble_eq_true rfl) (Nat.le_of_ble_eq_true rfl) d_T_init_8 (fun q1 cI H hK hP hD hS => ?_)
  have hK : va_K D cls_ [(cI, .int)] s := hK
  refine va_putF (own := R_T) (ref := R_T) (C := R_T) (T := F_T) (N := 15) (ci := 0) (v := .ref q1) (ty := .array .int) hx hb ht in_T ty_T ty_T_ok n_T hown hK hP hD hS 0 rfl rfl 0 (by decide) (ht _ l_T_row) (fun _ h => h) rfl hin rfl (by decide +kernel) rfl rfl (Nat.le_of_ble_eq_true rfl) d_T_init_10 (fun H locs hP hD hS => ?_)
  have hP : va_P D cls_ [(h0, .inr (0, [.ref q1, .null, .null, .null, .null, .null, .null, .null, .int 0, .int 0, .int 0, .int 0, .int 0, .int 0, .int 0])), (q1, .inl (cI, 4000, .inl (fun _ => 0)))] H := hP
  have hD : va_D A [(h0, .inr (0, [.ref q1, .null, .null, .null, .null, .null, .null, .null, .int 0, .int 0, .int 0, .int 0, .int 0, .int 0, .int 0])), (q1, .inl (cI, 4000, .inl (fun _ => 0)))] := hD
  refine kl_aload_n 13 C d_T_init_13 hl rfl ?_
  refine lv_sipush (pc := 14) (v := nI 4000) hx hb d_T_init_14 (by decide) ?_
  refine va_newa (pc := 17) (atype := .int) (ty := .int) (N' := 4000) (a0 := (4000, .inl (fun _ => 0))) hx hb (ht _ tw_63) rfl hK hP hD hS hA (fun _ => rfl) (by decide) (by decide) (by decide) (Nat.le_of_ble_eq_true rfl) (Nat.le_of_ble_eq_true rfl) d_T_init_17 (fun q2 cJ H hK hP hD hS => ?_)
  have hcj : cJ = cI := by
    have h1 := (hK.2 0 _ rfl).2
    have h2 := (hK.2 1 _ rfl).2
    exact Option.some.inj (h2.symm.trans h1)
  rw [hcj] at hP hD
  have hK := hK.sub (tys' := [(cI, .int)]) [0] rfl
  refine va_putF (own := R_T) (ref := R_T) (C := R_T) (T := F_T) (N := 15) (ci := 0) (v := .ref q2) (ty := .array .int) hx hb ht in_T ty_T ty_T_ok n_T hown hK hP hD hS 0 rfl rfl 1 (by decide) (ht _ l_T_now) (fun _ h => h) rfl hin rfl (by decide +kernel) rfl rfl (Nat.le_of_ble_eq_true rfl) d_T_init_19 (fun H locs hP hD hS => ?_)
  have hP : va_P D cls_ [(h0, .inr (0, [.ref q1, .ref q2, .null, .null, .null, .null, .null, .null, .int 0, .int 0, .int 0, .int 0, .int 0, .int 0, .int 0])), (q1, .inl (cI, 4000, .inl (fun _ => 0))), (q2, .inl (cI, 4000, .inl (fun _ => 0)))] H := hP
  have hD : va_D A [(h0, .inr (0, [.ref q1, .ref q2, .null, .null, .null, .null, .null, .null, .int 0, .int 0, .int 0, .int 0, .int 0, .int 0, .int 0])), (q1, .inl (cI, 4000, .inl (fun _ => 0))), (q2, .inl (cI, 4000, .inl (fun _ => 0)))] := hD
  refine kl_aload_n 22 C d_T_init_22 hl rfl ?_
  refine lv_sipush (pc := 23) (v := nI 4000) hx hb d_T_init_23 (by decide) ?_
  refine va_newa (pc := 26) (atype := .int) (ty := .int) (N' := 4000) (a0 := (4000, .inl (fun _ => 0))) hx hb (ht _ tw_63) rfl hK hP hD hS hA (fun _ => rfl) (by decide) (by decide) (by decide) (Nat.le_of_ble_eq_true rfl) (Nat.le_of_ble_eq_true rfl) d_T_init_26 (fun q3 cJ H hK hP hD hS => ?_)
  have hcj : cJ = cI := by
    have h1 := (hK.2 0 _ rfl).2
    have h2 := (hK.2 1 _ rfl).2
    exact Option.some.inj (h2.symm.trans h1)
  rw [hcj] at hP hD
  have hK := hK.sub (tys' := [(cI, .int)]) [0] rfl
  refine va_putF (own := R_T) (ref := R_T) (C := R_T) (T := F_T) (N := 15) (ci := 0) (v := .ref q3) (ty := .array .int) hx hb ht in_T ty_T ty_T_ok n_T hown hK hP hD hS 0 rfl rfl 2 (by decide) (ht _ l_T_then) (fun _ h => h) rfl hin rfl (by decide +kernel) rfl rfl (Nat.le_of_ble_eq_true rfl) d_T_init_28 (fun H locs hP hD hS => ?_)
  have hP : va_P D cls_ [(h0, .inr (0, [.ref q1, .ref q2, .ref q3, .null, .null, .null, .null, .null, .int 0, .int 0, .int 0, .int 0, .int 0, .int 0, .int 0])), (q1, .inl (cI, 4000, .inl (fun _ => 0))), (q2, .inl (cI, 4000, .inl (fun _ => 0))), (q3, .inl (cI, 4000, .inl (fun _ => 0)))] H := hP
  have hD : va_D A [(h0, .inr (0, [.ref q1, .ref q2, .ref q3, .null, .null, .null, .null, .null, .int 0, .int 0, .int 0, .int 0, .int 0, .int 0, .int 0])), (q1, .inl (cI, 4000, .inl (fun _ => 0))), (q2, .inl (cI, 4000, .inl (fun _ => 0))), (q3, .inl (cI, 4000, .inl (fun _ => 0)))] := hD
  refine kl_aload_n 31 C d_T_init_31 hl rfl ?_
  refine lv_sipush (pc := 32) (v := nI 1143) hx hb d_T_init_32 (by decide) ?_
  refine va_newa (pc := 35) (atype := .int) (ty := .int) (N' := 1143) (a0 := (1143, .inl (fun _ => 0))) hx hb (ht _ tw_63) rfl hK hP hD hS hA (fun _ => rfl) (by decide) (by decide) (by decide) (Nat.le_of_ble_eq_true rfl) (Nat.le_of_ble_eq_true rfl) d_T_init_35 (fun q4 cJ H hK hP hD hS => ?_)
  have hcj : cJ = cI := by
    have h1 := (hK.2 0 _ rfl).2
    have h2 := (hK.2 1 _ rfl).2
    exact Option.some.inj (h2.symm.trans h1)
  rw [hcj] at hP hD
  have hK := hK.sub (tys' := [(cI, .int)]) [0] rfl
  refine va_putF (own := R_T) (ref := R_T) (C := R_T) (T := F_T) (N := 15) (ci := 0) (v := .ref q4) (ty := .array .int) hx hb ht in_T ty_T ty_T_ok n_T hown hK hP hD hS 0 rfl rfl 3 (by decide) (ht _ l_T_word) (fun _ h => h) rfl hin rfl (by decide +kernel) rfl rfl (Nat.le_of_ble_eq_true rfl) d_T_init_37 (fun H locs hP hD hS => ?_)
  have hP : va_P D cls_ [(h0, .inr (0, [.ref q1, .ref q2, .ref q3, .ref q4, .null, .null, .null, .null, .int 0, .int 0, .int 0, .int 0, .int 0, .int 0, .int 0])), (q1, .inl (cI, 4000, .inl (fun _ => 0))), (q2, .inl (cI, 4000, .inl (fun _ => 0))), (q3, .inl (cI, 4000, .inl (fun _ => 0))), (q4, .inl (cI, 1143, .inl (fun _ => 0)))] H := hP
  have hD : va_D A [(h0, .inr (0, [.ref q1, .ref q2, .ref q3, .ref q4, .null, .null, .null, .null, .int 0, .int 0, .int 0, .int 0, .int 0, .int 0, .int 0])), (q1, .inl (cI, 4000, .inl (fun _ => 0))), (q2, .inl (cI, 4000, .inl (fun _ => 0))), (q3, .inl (cI, 4000, .inl (fun _ => 0))), (q4, .inl (cI, 1143, .inl (fun _ => 0)))] := hD
  refine kl_aload_n 40 C d_T_init_40 hl rfl ?_
  refine lv_sipush (pc := 41) (v := nI 1143) hx hb d_T_init_41 (by decide) ?_
  refine va_newa (pc := 44) (atype := .int) (ty := .int) (N' := 1143) (a0 := (1143, .inl (fun _ => 0))) hx hb (ht _ tw_63) rfl hK hP hD hS hA (fun _ => rfl) (by decide) (by decide) (by decide) (Nat.le_of_ble_eq_true rfl) (Nat.le_of_ble_eq_true rfl) d_T_init_44 (fun q5 cJ H hK hP hD hS => ?_)
  have hcj : cJ = cI := by
    have h1 := (hK.2 0 _ rfl).2
    have h2 := (hK.2 1 _ rfl).2
    exact Option.some.inj (h2.symm.trans h1)
  rw [hcj] at hP hD
  have hK := hK.sub (tys' := [(cI, .int)]) [0] rfl
  refine va_putF (own := R_T) (ref := R_T) (C := R_T) (T := F_T) (N := 15) (ci := 0) (v := .ref q5) (ty := .array .int) hx hb ht in_T ty_T ty_T_ok n_T hown hK hP hD hS 0 rfl rfl 4 (by decide) (ht _ l_T_ones) (fun _ h => h) rfl hin rfl (by decide +kernel) rfl rfl (Nat.le_of_ble_eq_true rfl) d_T_init_46 (fun H locs hP hD hS => ?_)
  have hP : va_P D cls_ [(h0, .inr (0, [.ref q1, .ref q2, .ref q3, .ref q4, .ref q5, .null, .null, .null, .int 0, .int 0, .int 0, .int 0, .int 0, .int 0, .int 0])), (q1, .inl (cI, 4000, .inl (fun _ => 0))), (q2, .inl (cI, 4000, .inl (fun _ => 0))), (q3, .inl (cI, 4000, .inl (fun _ => 0))), (q4, .inl (cI, 1143, .inl (fun _ => 0))), (q5, .inl (cI, 1143, .inl (fun _ => 0)))] H := hP
  have hD : va_D A [(h0, .inr (0, [.ref q1, .ref q2, .ref q3, .ref q4, .ref q5, .null, .null, .null, .int 0, .int 0, .int 0, .int 0, .int 0, .int 0, .int 0])), (q1, .inl (cI, 4000, .inl (fun _ => 0))), (q2, .inl (cI, 4000, .inl (fun _ => 0))), (q3, .inl (cI, 4000, .inl (fun _ => 0))), (q4, .inl (cI, 1143, .inl (fun _ => 0))), (q5, .inl (cI, 1143, .inl (fun _ => 0)))] := hD
  refine kl_aload_n 49 C d_T_init_49 hl rfl ?_
  refine lv_bipush (pc := 50) (v := nI 9) hx hb d_T_init_50 (by decide) ?_
  refine va_newa (pc := 52) (atype := .int) (ty := .int) (N' := 9) (a0 := (9, .inl (fun _ => 0))) hx hb (ht _ tw_63) rfl hK hP hD hS hA (fun _ => rfl) (by decide) (by decide) (by decide) (Nat.le_of_ble_eq_true rfl) (Nat.le_of_ble_eq_true rfl) d_T_init_52 (fun q6 cJ H hK hP hD hS => ?_)
  have hcj : cJ = cI := by
    have h1 := (hK.2 0 _ rfl).2
    have h2 := (hK.2 1 _ rfl).2
    exact Option.some.inj (h2.symm.trans h1)
  rw [hcj] at hP hD
  have hK := hK.sub (tys' := [(cI, .int)]) [0] rfl
  refine va_putF (own := R_T) (ref := R_T) (C := R_T) (T := F_T) (N := 15) (ci := 0) (v := .ref q6) (ty := .array .int) hx hb ht in_T ty_T ty_T_ok n_T hown hK hP hD hS 0 rfl rfl 5 (by decide) (ht _ l_T_zeros) (fun _ h => h) rfl hin rfl (by decide +kernel) rfl rfl (Nat.le_of_ble_eq_true rfl) d_T_init_54 (fun H locs hP hD hS => ?_)
  have hP : va_P D cls_ [(h0, .inr (0, [.ref q1, .ref q2, .ref q3, .ref q4, .ref q5, .ref q6, .null, .null, .int 0, .int 0, .int 0, .int 0, .int 0, .int 0, .int 0])), (q1, .inl (cI, 4000, .inl (fun _ => 0))), (q2, .inl (cI, 4000, .inl (fun _ => 0))), (q3, .inl (cI, 4000, .inl (fun _ => 0))), (q4, .inl (cI, 1143, .inl (fun _ => 0))), (q5, .inl (cI, 1143, .inl (fun _ => 0))), (q6, .inl (cI, 9, .inl (fun _ => 0)))] H := hP
  have hD : va_D A [(h0, .inr (0, [.ref q1, .ref q2, .ref q3, .ref q4, .ref q5, .ref q6, .null, .null, .int 0, .int 0, .int 0, .int 0, .int 0, .int 0, .int 0])), (q1, .inl (cI, 4000, .inl (fun _ => 0))), (q2, .inl (cI, 4000, .inl (fun _ => 0))), (q3, .inl (cI, 4000, .inl (fun _ => 0))), (q4, .inl (cI, 1143, .inl (fun _ => 0))), (q5, .inl (cI, 1143, .inl (fun _ => 0))), (q6, .inl (cI, 9, .inl (fun _ => 0)))] := hD
  refine kl_aload_n 57 C d_T_init_57 hl rfl ?_
  refine lv_sipush (pc := 58) (v := nI 512) hx hb d_T_init_58 (by decide) ?_
  refine va_newa (pc := 61) (atype := .int) (ty := .int) (N' := 512) (a0 := (512, .inl (fun _ => 0))) hx hb (ht _ tw_63) rfl hK hP hD hS hA (fun _ => rfl) (by decide) (by decide) (by decide) (Nat.le_of_ble_eq_true rfl) (Nat.le_of_ble_eq_true rfl) d_T_init_61 (fun q7 cJ H hK hP hD hS => ?_)
  have hcj : cJ = cI := by
    have h1 := (hK.2 0 _ rfl).2
    have h2 := (hK.2 1 _ rfl).2
    exact Option.some.inj (h2.symm.trans h1)
  rw [hcj] at hP hD
  have hK := hK.sub (tys' := [(cI, .int)]) [0] rfl
  refine va_putF (own := R_T) (ref := R_T) (C := R_T) (T := F_T) (N := 15) (ci := 0) (v := .ref q7) (ty := .array .int) hx hb ht in_T ty_T ty_T_ok n_T hown hK hP hD hS 0 rfl rfl 6 (by decide) (ht _ l_T_found) (fun _ h => h) rfl hin rfl (by decide +kernel) rfl rfl (Nat.le_of_ble_eq_true rfl) d_T_init_63 (fun H locs hP hD hS => ?_)
  have hP : va_P D cls_ [(h0, .inr (0, [.ref q1, .ref q2, .ref q3, .ref q4, .ref q5, .ref q6, .ref q7, .null, .int 0, .int 0, .int 0, .int 0, .int 0, .int 0, .int 0])), (q1, .inl (cI, 4000, .inl (fun _ => 0))), (q2, .inl (cI, 4000, .inl (fun _ => 0))), (q3, .inl (cI, 4000, .inl (fun _ => 0))), (q4, .inl (cI, 1143, .inl (fun _ => 0))), (q5, .inl (cI, 1143, .inl (fun _ => 0))), (q6, .inl (cI, 9, .inl (fun _ => 0))), (q7, .inl (cI, 512, .inl (fun _ => 0)))] H := hP
  have hD : va_D A [(h0, .inr (0, [.ref q1, .ref q2, .ref q3, .ref q4, .ref q5, .ref q6, .ref q7, .null, .int 0, .int 0, .int 0, .int 0, .int 0, .int 0, .int 0])), (q1, .inl (cI, 4000, .inl (fun _ => 0))), (q2, .inl (cI, 4000, .inl (fun _ => 0))), (q3, .inl (cI, 4000, .inl (fun _ => 0))), (q4, .inl (cI, 1143, .inl (fun _ => 0))), (q5, .inl (cI, 1143, .inl (fun _ => 0))), (q6, .inl (cI, 9, .inl (fun _ => 0))), (q7, .inl (cI, 512, .inl (fun _ => 0)))] := hD
  refine kl_aload_n 66 C d_T_init_66 hl rfl ?_
  refine lv_sipush (pc := 67) (v := nI 512) hx hb d_T_init_67 (by decide) ?_
  refine va_newa (pc := 70) (atype := .int) (ty := .int) (N' := 512) (a0 := (512, .inl (fun _ => 0))) hx hb (ht _ tw_63) rfl hK hP hD hS hA (fun _ => rfl) (by decide) (by decide) (by decide) (Nat.le_of_ble_eq_true rfl) (Nat.le_of_ble_eq_true rfl) d_T_init_70 (fun q8 cJ H hK hP hD hS => ?_)
  have hcj : cJ = cI := by
    have h1 := (hK.2 0 _ rfl).2
    have h2 := (hK.2 1 _ rfl).2
    exact Option.some.inj (h2.symm.trans h1)
  rw [hcj] at hP hD
  have hK := hK.sub (tys' := [(cI, .int)]) [0] rfl
  refine va_putF (own := R_T) (ref := R_T) (C := R_T) (T := F_T) (N := 15) (ci := 0) (v := .ref q8) (ty := .array .int) hx hb ht in_T ty_T ty_T_ok n_T hown hK hP hD hS 0 rfl rfl 7 (by decide) (ht _ l_T_times) (fun _ h => h) rfl hin rfl (by decide +kernel) rfl rfl (Nat.le_of_ble_eq_true rfl) d_T_init_72 (fun H locs hP hD hS => ?_)
  have hP : va_P D cls_ [(h0, .inr (0, [.ref q1, .ref q2, .ref q3, .ref q4, .ref q5, .ref q6, .ref q7, .ref q8, .int 0, .int 0, .int 0, .int 0, .int 0, .int 0, .int 0])), (q1, .inl (cI, 4000, .inl (fun _ => 0))), (q2, .inl (cI, 4000, .inl (fun _ => 0))), (q3, .inl (cI, 4000, .inl (fun _ => 0))), (q4, .inl (cI, 1143, .inl (fun _ => 0))), (q5, .inl (cI, 1143, .inl (fun _ => 0))), (q6, .inl (cI, 9, .inl (fun _ => 0))), (q7, .inl (cI, 512, .inl (fun _ => 0))), (q8, .inl (cI, 512, .inl (fun _ => 0)))] H := hP
  have hD : va_D A [(h0, .inr (0, [.ref q1, .ref q2, .ref q3, .ref q4, .ref q5, .ref q6, .ref q7, .ref q8, .int 0, .int 0, .int 0, .int 0, .int 0, .int 0, .int 0])), (q1, .inl (cI, 4000, .inl (fun _ => 0))), (q2, .inl (cI, 4000, .inl (fun _ => 0))), (q3, .inl (cI, 4000, .inl (fun _ => 0))), (q4, .inl (cI, 1143, .inl (fun _ => 0))), (q5, .inl (cI, 1143, .inl (fun _ => 0))), (q6, .inl (cI, 9, .inl (fun _ => 0))), (q7, .inl (cI, 512, .inl (fun _ => 0))), (q8, .inl (cI, 512, .inl (fun _ => 0)))] := hD
  exact W.vret hx hb hr (fun t ht hW => ⟨⟨(cI, (fun k => match k with
    | 0 => h0
    | 1 => q1
    | 2 => q2
    | 3 => q3
    | 4 => q4
    | 5 => q5
    | 6 => q6
    | 7 => q7
    | _ => q8)), rfl, rfl, by rw [ht]; exact hP, va_K.moved hW.alike hK, hD⟩, hS.F ht⟩) hS.2.2 d_T_init_75
theorem c_Minit (l : Launch) (D : va_G) (h0 : Nat) (sz : Nat) : Met l y_M_init (.code y_M_init b_M_init 1 none :: lw_g) { frames := 1, cells := 5, slots := 9536, locals := 12 }
    (va_Pc [.ref h0] (fun U => U.heap.size = sz ∧ va_P D cls_ [(h0, .inr (1, [.int 0, .null, .null, .null, .null, .null, .int 0, .int 0, .int 0]))] U.heap ∧ va_K D cls_ [] U ∧ va_D (fun _ => True) [(h0, .inr (1, [.int 0, .null, .null, .null, .null, .null, .int 0, .int 0, .int 0]))]))
    (va_Qv (fun (u : ClassId × (Nat → Nat)) => u.2 0 = h0) (fun u t => va_P D cls_ (wM u.1 u.2 (fun _ => 0) (fun _ _ => 0)) t.heap ∧ va_K D cls_ [(u.1, .int)] t ∧ va_D (va_A [(h0, .inr (1, [.int 0, .null, .null, .null, .null, .null, .int 0, .int 0, .int 0]))] sz) (wM u.1 u.2 (fun _ => 0) (fun _ _ => 0))) (va_A [(h0, .inr (1, [.int 0, .null, .null, .null, .null, .null, .int 0, .int 0, .int 0]))] sz)) 5 9536 (va_A [(h0, .inr (1, [.int 0, .null, .null, .null, .null, .null, .int 0, .int 0, .int 0]))] sz) := by
  refine Met.ofW (cc := b_M_init) (maxL := 1) (ret := none) (by decide) rfl ?_
  intro p e s m args below meth c s₁ B hml hv
  obtain ⟨rfl, hsz, hP, hK, hD0⟩ := hv
  have hx := B.exec
  have hb := B.bytes
  have hr := B.returns
  have hts := atoms_spec (ws := .code y_M_init b_M_init 1 none :: lw_g) B.pre
  have ht : ∀ w ∈ lw_g, w.before ([.ref h0] : List Value).toArray s = true := fun w h => hts w (List.mem_cons_of_mem _ h)
  have hown : s.vm.findClass R_M = some m.cls := findClass_of_methodNamed B.named
  have hlocks := B.notSynchronized
  have hin : meth.name = "<init>" := (name_of_methodNamed B.named B.method).1
  subst hsz
  have hD := hD0.self (sz := s.heap.size)
  generalize hAe : va_A [(h0, .inr (1, [.int 0, .null, .null, .null, .null, .null, .int 0, .int 0, .int 0]))] s.heap.size = A at hD ⊢
  have hA : ∀ q : Nat, s.heap.size ≤ q → A q := fun q h => by rw [← hAe]; exact Or.inr h
  have hS : va_S A s.heap s.heap [] := va_S.rf
  have C : kx_C p s m ([.ref h0] : List Value).toArray c b_M_init R_M := ⟨hx, hb, hown, ht⟩
  rw [lg_entry_eq]
  have hl := lv_entry ([.ref h0]) (n := 1) (Nat.le_of_ble_eq_true rfl)
  generalize (lg_sl ([.ref h0]) ++ List.replicate (1 - (lg_sl ([.ref h0])).length) Slot.unset).toArray = ls at hl ⊢
  have hl : kl ls [some (.ref h0)] := kl_of _ hl rfl rfl rfl
  refine kl_aload_n 0 C d_M_init_0 hl rfl ?_
  refine W.objInit (g := F0 m 1 ls [.ref h0]) (rest := []) hx hb hown (ht _ tw_298) (ht _ tw_15) (ht _ tw_16) rfl ((kl_sz hl).trans hml.symm) rfl d_M_init_1 (Nat.le_of_ble_eq_true rfl) (Nat.le_of_ble_eq_true rfl) ?_
  refine W.eq (g2 := F0 m 4 ls []) rfl ?_
  refine kl_aload_n 4 C d_M_init_4 hl rfl ?_
  refine lv_iconst (pc := 5) (v := 0) hx hb d_M_init_5 (by decide) ?_
  refine va_put (own := R_M) (ref := R_M) (C := R_M) (T := F_M) (N := 9) (ci := 1) (v := .int 0) (ty := .int) hx hb ht in_M ty_M ty_M_ok n_M hown hK hP hD hS 0 rfl rfl 0 (by decide) (ht _ l_M_thrown) (fun _ h => h) rfl (by decide +kernel) rfl rfl (Nat.le_of_ble_eq_true rfl) d_M_init_6 (fun H locs hP hD hS => ?_)
  have hP : va_P D cls_ [(h0, .inr (1, [.int 0, .null, .null, .null, .null, .null, .int 0, .int 0, .int 0]))] H := hP
  have hD : va_D A [(h0, .inr (1, [.int 0, .null, .null, .null, .null, .null, .int 0, .int 0, .int 0]))] := hD
  refine kl_aload_n 9 C d_M_init_9 hl rfl ?_
  refine lv_sipush (pc := 10) (v := nI 4000) hx hb d_M_init_10 (by decide) ?_
  refine va_newa (pc := 13) (atype := .int) (ty := .int) (N' := 4000) (a0 := (4000, .inl (fun _ => 0))) hx hb (ht _ tw_63) rfl hK hP hD hS hA (fun _ => rfl) (by decide) (by decide) (by decide) (Nat.le_of_ble_eq_true rfl) (Nat.le_of_ble_eq_true rfl) d_M_init_13 (fun q1 cI H hK hP hD hS => ?_)
  have hK : va_K D cls_ [(cI, .int)] s := hK
  refine va_putF (own := R_M) (ref := R_M) (C := R_M) (T := F_M) (N := 9) (ci := 1) (v := .ref q1) (ty := .array .int) hx hb ht in_M ty_M ty_M_ok n_M hown hK hP hD hS 0 rfl rfl 1 (by decide) (ht _ l_M_row) (fun _ h => h) rfl hin rfl (by decide +kernel) rfl rfl (Nat.le_of_ble_eq_true rfl) d_M_init_15 (fun H locs hP hD hS => ?_)
  have hP : va_P D cls_ [(h0, .inr (1, [.int 0, .ref q1, .null, .null, .null, .null, .int 0, .int 0, .int 0])), (q1, .inl (cI, 4000, .inl (fun _ => 0)))] H := hP
  have hD : va_D A [(h0, .inr (1, [.int 0, .ref q1, .null, .null, .null, .null, .int 0, .int 0, .int 0])), (q1, .inl (cI, 4000, .inl (fun _ => 0)))] := hD
  refine kl_aload_n 18 C d_M_init_18 hl rfl ?_
  refine lv_sipush (pc := 19) (v := nI 4000) hx hb d_M_init_19 (by decide) ?_
  refine va_newa (pc := 22) (atype := .int) (ty := .int) (N' := 4000) (a0 := (4000, .inl (fun _ => 0))) hx hb (ht _ tw_63) rfl hK hP hD hS hA (fun _ => rfl) (by decide) (by decide) (by decide) (Nat.le_of_ble_eq_true rfl) (Nat.le_of_ble_eq_true rfl) d_M_init_22 (fun q2 cJ H hK hP hD hS => ?_)
  have hcj : cJ = cI := by
    have h1 := (hK.2 0 _ rfl).2
    have h2 := (hK.2 1 _ rfl).2
    exact Option.some.inj (h2.symm.trans h1)
  rw [hcj] at hP hD
  have hK := hK.sub (tys' := [(cI, .int)]) [0] rfl
  refine va_putF (own := R_M) (ref := R_M) (C := R_M) (T := F_M) (N := 9) (ci := 1) (v := .ref q2) (ty := .array .int) hx hb ht in_M ty_M ty_M_ok n_M hown hK hP hD hS 0 rfl rfl 2 (by decide) (ht _ l_M_tree) (fun _ h => h) rfl hin rfl (by decide +kernel) rfl rfl (Nat.le_of_ble_eq_true rfl) d_M_init_24 (fun H locs hP hD hS => ?_)
  have hP : va_P D cls_ [(h0, .inr (1, [.int 0, .ref q1, .ref q2, .null, .null, .null, .int 0, .int 0, .int 0])), (q1, .inl (cI, 4000, .inl (fun _ => 0))), (q2, .inl (cI, 4000, .inl (fun _ => 0)))] H := hP
  have hD : va_D A [(h0, .inr (1, [.int 0, .ref q1, .ref q2, .null, .null, .null, .int 0, .int 0, .int 0])), (q1, .inl (cI, 4000, .inl (fun _ => 0))), (q2, .inl (cI, 4000, .inl (fun _ => 0)))] := hD
  refine kl_aload_n 27 C d_M_init_27 hl rfl ?_
  refine lv_sipush (pc := 28) (v := nI 512) hx hb d_M_init_28 (by decide) ?_
  refine va_newa (pc := 31) (atype := .int) (ty := .int) (N' := 512) (a0 := (512, .inl (fun _ => 0))) hx hb (ht _ tw_63) rfl hK hP hD hS hA (fun _ => rfl) (by decide) (by decide) (by decide) (Nat.le_of_ble_eq_true rfl) (Nat.le_of_ble_eq_true rfl) d_M_init_31 (fun q3 cJ H hK hP hD hS => ?_)
  have hcj : cJ = cI := by
    have h1 := (hK.2 0 _ rfl).2
    have h2 := (hK.2 1 _ rfl).2
    exact Option.some.inj (h2.symm.trans h1)
  rw [hcj] at hP hD
  have hK := hK.sub (tys' := [(cI, .int)]) [0] rfl
  refine va_putF (own := R_M) (ref := R_M) (C := R_M) (T := F_M) (N := 9) (ci := 1) (v := .ref q3) (ty := .array .int) hx hb ht in_M ty_M ty_M_ok n_M hown hK hP hD hS 0 rfl rfl 3 (by decide) (ht _ l_M_counts) (fun _ h => h) rfl hin rfl (by decide +kernel) rfl rfl (Nat.le_of_ble_eq_true rfl) d_M_init_33 (fun H locs hP hD hS => ?_)
  have hP : va_P D cls_ [(h0, .inr (1, [.int 0, .ref q1, .ref q2, .ref q3, .null, .null, .int 0, .int 0, .int 0])), (q1, .inl (cI, 4000, .inl (fun _ => 0))), (q2, .inl (cI, 4000, .inl (fun _ => 0))), (q3, .inl (cI, 512, .inl (fun _ => 0)))] H := hP
  have hD : va_D A [(h0, .inr (1, [.int 0, .ref q1, .ref q2, .ref q3, .null, .null, .int 0, .int 0, .int 0])), (q1, .inl (cI, 4000, .inl (fun _ => 0))), (q2, .inl (cI, 4000, .inl (fun _ => 0))), (q3, .inl (cI, 512, .inl (fun _ => 0)))] := hD
  refine kl_aload_n 36 C d_M_init_36 hl rfl ?_
  refine lv_sipush (pc := 37) (v := nI 512) hx hb d_M_init_37 (by decide) ?_
  refine va_newa (pc := 40) (atype := .int) (ty := .int) (N' := 512) (a0 := (512, .inl (fun _ => 0))) hx hb (ht _ tw_63) rfl hK hP hD hS hA (fun _ => rfl) (by decide) (by decide) (by decide) (Nat.le_of_ble_eq_true rfl) (Nat.le_of_ble_eq_true rfl) d_M_init_40 (fun q4 cJ H hK hP hD hS => ?_)
  have hcj : cJ = cI := by
    have h1 := (hK.2 0 _ rfl).2
    have h2 := (hK.2 1 _ rfl).2
    exact Option.some.inj (h2.symm.trans h1)
  rw [hcj] at hP hD
  have hK := hK.sub (tys' := [(cI, .int)]) [0] rfl
  refine va_putF (own := R_M) (ref := R_M) (C := R_M) (T := F_M) (N := 9) (ci := 1) (v := .ref q4) (ty := .array .int) hx hb ht in_M ty_M ty_M_ok n_M hown hK hP hD hS 0 rfl rfl 4 (by decide) (ht _ l_M_told) (fun _ h => h) rfl hin rfl (by decide +kernel) rfl rfl (Nat.le_of_ble_eq_true rfl) d_M_init_42 (fun H locs hP hD hS => ?_)
  have hP : va_P D cls_ [(h0, .inr (1, [.int 0, .ref q1, .ref q2, .ref q3, .ref q4, .null, .int 0, .int 0, .int 0])), (q1, .inl (cI, 4000, .inl (fun _ => 0))), (q2, .inl (cI, 4000, .inl (fun _ => 0))), (q3, .inl (cI, 512, .inl (fun _ => 0))), (q4, .inl (cI, 512, .inl (fun _ => 0)))] H := hP
  have hD : va_D A [(h0, .inr (1, [.int 0, .ref q1, .ref q2, .ref q3, .ref q4, .null, .int 0, .int 0, .int 0])), (q1, .inl (cI, 4000, .inl (fun _ => 0))), (q2, .inl (cI, 4000, .inl (fun _ => 0))), (q3, .inl (cI, 512, .inl (fun _ => 0))), (q4, .inl (cI, 512, .inl (fun _ => 0)))] := hD
  refine kl_aload_n 45 C d_M_init_45 hl rfl ?_
  refine lv_sipush (pc := 46) (v := nI 512) hx hb d_M_init_46 (by decide) ?_
  refine va_newa (pc := 49) (atype := .int) (ty := .int) (N' := 512) (a0 := (512, .inl (fun _ => 0))) hx hb (ht _ tw_63) rfl hK hP hD hS hA (fun _ => rfl) (by decide) (by decide) (by decide) (Nat.le_of_ble_eq_true rfl) (Nat.le_of_ble_eq_true rfl) d_M_init_49 (fun q5 cJ H hK hP hD hS => ?_)
  have hcj : cJ = cI := by
    have h1 := (hK.2 0 _ rfl).2
    have h2 := (hK.2 1 _ rfl).2
    exact Option.some.inj (h2.symm.trans h1)
  rw [hcj] at hP hD
  have hK := hK.sub (tys' := [(cI, .int)]) [0] rfl
  refine va_putF (own := R_M) (ref := R_M) (C := R_M) (T := F_M) (N := 9) (ci := 1) (v := .ref q5) (ty := .array .int) hx hb ht in_M ty_M ty_M_ok n_M hown hK hP hD hS 0 rfl rfl 5 (by decide) (ht _ l_M_toldOften) (fun _ h => h) rfl hin rfl (by decide +kernel) rfl rfl (Nat.le_of_ble_eq_true rfl) d_M_init_51 (fun H locs hP hD hS => ?_)
  have hP : va_P D cls_ [(h0, .inr (1, [.int 0, .ref q1, .ref q2, .ref q3, .ref q4, .ref q5, .int 0, .int 0, .int 0])), (q1, .inl (cI, 4000, .inl (fun _ => 0))), (q2, .inl (cI, 4000, .inl (fun _ => 0))), (q3, .inl (cI, 512, .inl (fun _ => 0))), (q4, .inl (cI, 512, .inl (fun _ => 0))), (q5, .inl (cI, 512, .inl (fun _ => 0)))] H := hP
  have hD : va_D A [(h0, .inr (1, [.int 0, .ref q1, .ref q2, .ref q3, .ref q4, .ref q5, .int 0, .int 0, .int 0])), (q1, .inl (cI, 4000, .inl (fun _ => 0))), (q2, .inl (cI, 4000, .inl (fun _ => 0))), (q3, .inl (cI, 512, .inl (fun _ => 0))), (q4, .inl (cI, 512, .inl (fun _ => 0))), (q5, .inl (cI, 512, .inl (fun _ => 0)))] := hD
  refine kl_aload_n 54 C d_M_init_54 hl rfl ?_
  refine lv_iconst (pc := 55) (v := 0) hx hb d_M_init_55 (by decide) ?_
  refine va_put (own := R_M) (ref := R_M) (C := R_M) (T := F_M) (N := 9) (ci := 1) (v := .int 0) (ty := .int) hx hb ht in_M ty_M ty_M_ok n_M hown hK hP hD hS 0 rfl rfl 6 (by decide) (ht _ l_M_size) (fun _ h => h) rfl (by decide +kernel) rfl rfl (Nat.le_of_ble_eq_true rfl) d_M_init_56 (fun H locs hP hD hS => ?_)
  have hP : va_P D cls_ [(h0, .inr (1, [.int 0, .ref q1, .ref q2, .ref q3, .ref q4, .ref q5, .int 0, .int 0, .int 0])), (q1, .inl (cI, 4000, .inl (fun _ => 0))), (q2, .inl (cI, 4000, .inl (fun _ => 0))), (q3, .inl (cI, 512, .inl (fun _ => 0))), (q4, .inl (cI, 512, .inl (fun _ => 0))), (q5, .inl (cI, 512, .inl (fun _ => 0)))] H := hP
  have hD : va_D A [(h0, .inr (1, [.int 0, .ref q1, .ref q2, .ref q3, .ref q4, .ref q5, .int 0, .int 0, .int 0])), (q1, .inl (cI, 4000, .inl (fun _ => 0))), (q2, .inl (cI, 4000, .inl (fun _ => 0))), (q3, .inl (cI, 512, .inl (fun _ => 0))), (q4, .inl (cI, 512, .inl (fun _ => 0))), (q5, .inl (cI, 512, .inl (fun _ => 0)))] := hD
  refine kl_aload_n 59 C d_M_init_59 hl rfl ?_
  refine lv_iconst (pc := 60) (v := 0) hx hb d_M_init_60 (by decide) ?_
  refine va_put (own := R_M) (ref := R_M) (C := R_M) (T := F_M) (N := 9) (ci := 1) (v := .int 0) (ty := .int) hx hb ht in_M ty_M ty_M_ok n_M hown hK hP hD hS 0 rfl rfl 7 (by decide) (ht _ l_M_built) (fun _ h => h) rfl (by decide +kernel) rfl rfl (Nat.le_of_ble_eq_true rfl) d_M_init_61 (fun H locs hP hD hS => ?_)
  have hP : va_P D cls_ [(h0, .inr (1, [.int 0, .ref q1, .ref q2, .ref q3, .ref q4, .ref q5, .int 0, .int 0, .int 0])), (q1, .inl (cI, 4000, .inl (fun _ => 0))), (q2, .inl (cI, 4000, .inl (fun _ => 0))), (q3, .inl (cI, 512, .inl (fun _ => 0))), (q4, .inl (cI, 512, .inl (fun _ => 0))), (q5, .inl (cI, 512, .inl (fun _ => 0)))] H := hP
  have hD : va_D A [(h0, .inr (1, [.int 0, .ref q1, .ref q2, .ref q3, .ref q4, .ref q5, .int 0, .int 0, .int 0])), (q1, .inl (cI, 4000, .inl (fun _ => 0))), (q2, .inl (cI, 4000, .inl (fun _ => 0))), (q3, .inl (cI, 512, .inl (fun _ => 0))), (q4, .inl (cI, 512, .inl (fun _ => 0))), (q5, .inl (cI, 512, .inl (fun _ => 0)))] := hD
  refine kl_aload_n 64 C d_M_init_64 hl rfl ?_
  refine lv_iconst (pc := 65) (v := 0) hx hb d_M_init_65 (by decide) ?_
  refine va_put (own := R_M) (ref := R_M) (C := R_M) (T := F_M) (N := 9) (ci := 1) (v := .int 0) (ty := .int) hx hb ht in_M ty_M ty_M_ok n_M hown hK hP hD hS 0 rfl rfl 8 (by decide) (ht _ l_M_tolds) (fun _ h => h) rfl (by decide +kernel) rfl rfl (Nat.le_of_ble_eq_true rfl) d_M_init_66 (fun H locs hP hD hS => ?_)
  have hP : va_P D cls_ [(h0, .inr (1, [.int 0, .ref q1, .ref q2, .ref q3, .ref q4, .ref q5, .int 0, .int 0, .int 0])), (q1, .inl (cI, 4000, .inl (fun _ => 0))), (q2, .inl (cI, 4000, .inl (fun _ => 0))), (q3, .inl (cI, 512, .inl (fun _ => 0))), (q4, .inl (cI, 512, .inl (fun _ => 0))), (q5, .inl (cI, 512, .inl (fun _ => 0)))] H := hP
  have hD : va_D A [(h0, .inr (1, [.int 0, .ref q1, .ref q2, .ref q3, .ref q4, .ref q5, .int 0, .int 0, .int 0])), (q1, .inl (cI, 4000, .inl (fun _ => 0))), (q2, .inl (cI, 4000, .inl (fun _ => 0))), (q3, .inl (cI, 512, .inl (fun _ => 0))), (q4, .inl (cI, 512, .inl (fun _ => 0))), (q5, .inl (cI, 512, .inl (fun _ => 0)))] := hD
  exact W.vret hx hb hr (fun t ht hW => ⟨⟨(cI, (fun k => match k with
    | 0 => h0
    | 1 => q1
    | 2 => q2
    | 3 => q3
    | 4 => q4
    | _ => q5)), rfl, rfl, by rw [ht]; exact hP, va_K.moved hW.alike hK, hD⟩, hS.F ht⟩) hS.2.2 d_M_init_69
end
section
/-! the model: refuse, noPart, and what asks them alone -/
/-- 'thrown' is k, all else as it was -/
def mk0 (f f' : Nat → Int32) (k : Int32) : Prop := f' 0 = k ∧ ∀ j, j ≠ 0 → f' j = f j
theorem mk0.up {f f' : Nat → Int32} {k v : Int32} (h : mk0 (upd f 0 v) f' k) : mk0 f f' k := ⟨h.1, fun j hj => (h.2 j hj).trans (pk_un hj)⟩
theorem c_Mthrown (l : Launch) (D : va_G) (cI : ClassId) (q : Nat → Nat) (f : Nat → Int32) (G : Nat → Nat → Int32) : M_Mi l y_M_thrown b_M_thrown 1 (some .int) rm_0 D cI q f G [] (fun r f' G' => r = f 0 ∧ f' = f ∧ G' = G) := by
  refine M_ofi rfl (Nat.le_of_ble_eq_true rfl) ?_
  intro p e s m args below meth c ls A E w hl
  have hl : kl ls [some (.ref (q 0))] := kl_of _ hl rfl rfl rfl
  refine kl_aload_n 0 E.1 d_M_thrown_0 hl rfl ?_
  refine M_gi 1 E.1 w 0 (by decide) l_M_thrown d_M_thrown_1 ?_
  exact M_iret 4 E w d_M_thrown_4 ⟨rfl, rfl, rfl⟩
theorem c_Mrefuse (l : Launch) (D : va_G) (cI : ClassId) (q : Nat → Nat) (f : Nat → Int32) (G : Nat → Nat → Int32) (k : Int32) (t : Bool) : M_Mi l y_M_refuse b_M_refuse 3 (some .boolean) rm_0 D cI q f G [.int k, .int (nI t.toNat)] (fun r f' G' => r = nI t.toNat ∧ mk0 f f' (if t then k else f 0) ∧ G' = G) := by
  refine M_ofi rfl (Nat.le_of_ble_eq_true rfl) ?_
  intro p e s m args below meth c ls A E w hl
  have hl : kl ls [some (.ref (q 0)), some (.int k), some (.int (nI t.toNat))] := kl_of _ hl rfl rfl rfl
  cases t with
  | false =>
    refine kl_iload_n 0 E.1 d_M_refuse_0 hl rfl ?_
    refine n_if_eq 1 (tgt := 9) E.1 d_M_refuse_1 rfl (by decide) (fun h1 => ?_) (fun h1 => ?_)
    · refine kl_iload_n 9 E.1 d_M_refuse_9 hl rfl ?_
      exact M_zret 10 E w d_M_refuse_10 rfl ⟨rfl, ⟨rfl, fun j hj => rfl⟩, rfl⟩
    · exact absurd h1 (by decide)
  | true =>
    refine kl_iload_n 0 E.1 d_M_refuse_0 hl rfl ?_
    refine n_if_eq 1 (tgt := 9) E.1 d_M_refuse_1 rfl (by decide) (fun h1 => ?_) (fun h1 => ?_)
    · exact absurd h1 (by decide)
    · refine kl_aload_n 4 E.1 d_M_refuse_4 hl rfl ?_
      refine kl_iload_n 5 E.1 d_M_refuse_5 hl rfl ?_
      refine M_pi 6 E.1 w 0 (by decide) l_M_thrown d_M_refuse_6 (fun H locs w => ?_)
      refine kl_iload_n 9 E.1 d_M_refuse_9 hl rfl ?_
      exact M_zret 10 E w d_M_refuse_10 rfl ⟨rfl, ⟨rfl, fun j hj => pk_un hj⟩, rfl⟩
def rm_np : Room := { frames := 1, cells := 0, slots := 0, locals := 22 }
theorem c_MnoPart (l : Launch) (D : va_G) (cI : ClassId) (q : Nat → Nat) (f : Nat → Int32) (G : Nat → Nat → Int32) {n a b : Nat} (hn : n ≤ 4000) (hf : f 2 = nI n) (hab : a ≤ b) (hb : b ≤ n) : M_Mi l y_M_noPart b_M_noPart 4 (some .boolean) rm_np D cI q f G [.int (nI a), .int (nI b), .int (nI 0)] (fun r f' G' => r = nI 0 ∧ mk0 f f' (nI 0) ∧ G' = G) := by
  refine M_ofi rfl (Nat.le_of_ble_eq_true rfl) ?_
  intro p e s m args below meth c ls A E w hl
  have hl : kl ls [some (.ref (q 0)), some (.int (nI a)), some (.int (nI b)), some (.int (nI 0))] := kl_of _ hl rfl rfl rfl
  refine kl_aload_n 0 E.1 d_M_noPart_0 hl rfl ?_
  refine lv_iconst (pc := 1) (v := nI 0) E.1.1 E.1.2.1 d_M_noPart_1 (by decide) ?_
  refine M_pi 2 E.1 w 0 (by decide) l_M_thrown d_M_noPart_2 (fun H locs w => ?_)
  refine kl_aload_n 5 E.1 d_M_noPart_5 hl rfl ?_
  refine lv_iconst (pc := 6) (v := nI 1) E.1.1 E.1.2.1 d_M_noPart_6 (by decide) ?_
  refine kl_iload_n 7 E.1 d_M_noPart_7 hl rfl ?_
  refine n_if_lt 8 E.1 d_M_noPart_8 (by omega) 28 rfl ?_
  refine kl_iload_n 11 E.1 d_M_noPart_11 hl rfl ?_
  refine kl_iload_n 12 E.1 d_M_noPart_12 hl rfl ?_
  refine n_icmp_gt 13 (tgt := 28) E.1 d_M_noPart_13 rfl (by omega) (by omega) (fun h13 => ?_) (fun h13 => ?_)
  · exact absurd h13 (by omega)
  · refine kl_iload_n 16 E.1 d_M_noPart_16 hl rfl ?_
    refine kl_aload_n 17 E.1 d_M_noPart_17 hl rfl ?_
    refine M_gi 18 E.1 w 2 (by decide) l_M_built d_M_noPart_18 ?_
    refine n_top (hf) ?_
    refine n_icmp_gt 21 (tgt := 28) E.1 d_M_noPart_21 rfl (by omega) (by omega) (fun h21 => ?_) (fun h21 => ?_)
    · exact absurd h21 (by omega)
    · refine kl_iload_n 24 E.1 d_M_noPart_24 hl rfl ?_
      refine n_if_eq 25 (tgt := 32) E.1 d_M_noPart_25 rfl (by decide) (fun h25 => ?_) (fun h25 => ?_)
      · refine lv_iconst (pc := 32) (v := nI 0) E.1.1 E.1.2.1 d_M_noPart_32 (by decide) ?_
        refine M_ci 33 E w (c_Mrefuse l D cI q (upd f 0 (nI 0)) G (nI 1) false) (cv_M_M_refuse E.1.2.2.2 rfl rfl ⟨by decide, by decide⟩) (kl_sz hl) rfl rfl (Nat.le_of_ble_eq_true rfl) d_M_noPart_33 (fun r f1 G1 H locs hp w => ?_)
        obtain ⟨rfl, hm, e2⟩ := hp
        rw [e2] at w
        exact M_zret 36 E w d_M_noPart_36 rfl ⟨rfl, hm.up, rfl⟩
      · exact absurd rfl h25
theorem c_MnoPart_b (l : Launch) (D : va_G) (cI : ClassId) (q : Nat → Nat) (f : Nat → Int32) (G : Nat → Nat → Int32) {x y : Int32} {t : Bool} (hbad : ¬ kp_ok (f 2) x y ∨ t = true) : M_Mi l y_M_noPart b_M_noPart 4 (some .boolean) rm_np D cI q f G [.int x, .int y, .int (nI t.toNat)] (fun r f' G' => r = nI 1 ∧ mk0 f f' (nI 1) ∧ G' = G) := by
  refine M_ofi rfl (Nat.le_of_ble_eq_true rfl) ?_
  intro p e s m args below meth c ls A E w hl
  have hl : kl ls [some (.ref (q 0)), some (.int x), some (.int y), some (.int (nI t.toNat))] := kl_of _ hl rfl rfl rfl
  refine kl_aload_n 0 E.1 d_M_noPart_0 hl rfl ?_
  refine lv_iconst (pc := 1) (v := nI 0) E.1.1 E.1.2.1 d_M_noPart_1 (by decide) ?_
  refine M_pi 2 E.1 w 0 (by decide) l_M_thrown d_M_noPart_2 (fun H locs w => ?_)
  refine kl_aload_n 5 E.1 d_M_noPart_5 hl rfl ?_
  refine lv_iconst (pc := 6) (v := nI 1) E.1.1 E.1.2.1 d_M_noPart_6 (by decide) ?_
  refine kl_iload_n 7 E.1 d_M_noPart_7 hl rfl ?_
  refine lv_if_lt (pc := 8) (tgt := 28) E.1.1 E.1.2.1 d_M_noPart_8 rfl (fun h8 => ?_) (fun h8 => ?_)
  · refine lv_iconst (pc := 28) (v := nI 1) E.1.1 E.1.2.1 d_M_noPart_28 (by decide) ?_
    refine lv_goto (pc := 29) (tgt := 33) E.1.1 E.1.2.1 d_M_noPart_29 rfl ?_
    refine M_ci 33 E w (c_Mrefuse l D cI q (upd f 0 (nI 0)) G (nI 1) true) (cv_M_M_refuse E.1.2.2.2 rfl rfl ⟨by decide, by decide⟩) (kl_sz hl) rfl rfl (Nat.le_of_ble_eq_true rfl) d_M_noPart_33 (fun r f1 G1 H locs hp w => ?_)
    obtain ⟨rfl, hm, e2⟩ := hp
    rw [e2] at w
    exact M_zret 36 E w d_M_noPart_36 rfl ⟨rfl, hm.up, rfl⟩
  · refine kl_iload_n 11 E.1 d_M_noPart_11 hl rfl ?_
    refine kl_iload_n 12 E.1 d_M_noPart_12 hl rfl ?_
    refine lv_icmp_gt (pc := 13) (tgt := 28) E.1.1 E.1.2.1 d_M_noPart_13 rfl (fun h13 => ?_) (fun h13 => ?_)
    · refine lv_iconst (pc := 28) (v := nI 1) E.1.1 E.1.2.1 d_M_noPart_28 (by decide) ?_
      refine lv_goto (pc := 29) (tgt := 33) E.1.1 E.1.2.1 d_M_noPart_29 rfl ?_
      refine M_ci 33 E w (c_Mrefuse l D cI q (upd f 0 (nI 0)) G (nI 1) true) (cv_M_M_refuse E.1.2.2.2 rfl rfl ⟨by decide, by decide⟩) (kl_sz hl) rfl rfl (Nat.le_of_ble_eq_true rfl) d_M_noPart_33 (fun r f1 G1 H locs hp w => ?_)
      obtain ⟨rfl, hm, e2⟩ := hp
      rw [e2] at w
      exact M_zret 36 E w d_M_noPart_36 rfl ⟨rfl, hm.up, rfl⟩
    · refine kl_iload_n 16 E.1 d_M_noPart_16 hl rfl ?_
      refine kl_aload_n 17 E.1 d_M_noPart_17 hl rfl ?_
      refine M_gi 18 E.1 w 2 (by decide) l_M_built d_M_noPart_18 ?_
      refine lv_icmp_gt (pc := 21) (tgt := 28) E.1.1 E.1.2.1 d_M_noPart_21 rfl (fun h21 => ?_) (fun h21 => ?_)
      · refine lv_iconst (pc := 28) (v := nI 1) E.1.1 E.1.2.1 d_M_noPart_28 (by decide) ?_
        refine lv_goto (pc := 29) (tgt := 33) E.1.1 E.1.2.1 d_M_noPart_29 rfl ?_
        refine M_ci 33 E w (c_Mrefuse l D cI q (upd f 0 (nI 0)) G (nI 1) true) (cv_M_M_refuse E.1.2.2.2 rfl rfl ⟨by decide, by decide⟩) (kl_sz hl) rfl rfl (Nat.le_of_ble_eq_true rfl) d_M_noPart_33 (fun r f1 G1 H locs hp w => ?_)
        obtain ⟨rfl, hm, e2⟩ := hp
        rw [e2] at w
        exact M_zret 36 E w d_M_noPart_36 rfl ⟨rfl, hm.up, rfl⟩
      · have ht : t = true := hbad.resolve_left (fun h => h ⟨⟨Int32.not_lt.mp h8, Int32.not_lt.mp h13⟩, Int32.not_lt.mp h21⟩)
        subst ht
        refine kl_iload_n 24 E.1 d_M_noPart_24 hl rfl ?_
        refine n_if_eq 25 (tgt := 32) E.1 d_M_noPart_25 rfl (by decide) (fun h25 => ?_) (fun h25 => ?_)
        · exact absurd h25 (by decide)
        · refine lv_iconst (pc := 28) (v := nI 1) E.1.1 E.1.2.1 d_M_noPart_28 (by decide) ?_
          refine lv_goto (pc := 29) (tgt := 33) E.1.1 E.1.2.1 d_M_noPart_29 rfl ?_
          refine M_ci 33 E w (c_Mrefuse l D cI q (upd f 0 (nI 0)) G (nI 1) true) (cv_M_M_refuse E.1.2.2.2 rfl rfl ⟨by decide, by decide⟩) (kl_sz hl) rfl rfl (Nat.le_of_ble_eq_true rfl) d_M_noPart_33 (fun r f1 G1 H locs hp w => ?_)
          obtain ⟨rfl, hm, e2⟩ := hp
          rw [e2] at w
          exact M_zret 36 E w d_M_noPart_36 rfl ⟨rfl, hm.up, rfl⟩
def rm_m1 : Room := { frames := 1, cells := 0, slots := 0, locals := 22 }
theorem c_Mcut (l : Launch) (D : va_G) (cI : ClassId) (q : Nat → Nat) (f : Nat → Int32) (G : Nat → Nat → Int32) {n a : Nat} (hn : n ≤ 4000) (hf : f 1 = nI n) (ha : a ≤ n) : M_Mi l y_M_cut b_M_cut 2 (some .int) rm_m1 D cI q f G [.int (nI a)] (fun r f' G' => r = nI a ∧ (f' 0 = nI 0 ∧ f' 1 = nI a ∧ (∀ j, j ≠ 0 → j ≠ 1 → f' j = f j)) ∧ G' = G) := by
  refine M_ofi rfl (Nat.le_of_ble_eq_true rfl) ?_
  intro p e s m args below meth c ls A E w hl
  have hl : kl ls [some (.ref (q 0)), some (.int (nI a))] := kl_of _ hl rfl rfl rfl
  refine kl_aload_n 0 E.1 d_M_cut_0 hl rfl ?_
  refine lv_iconst (pc := 1) (v := nI 0) E.1.1 E.1.2.1 d_M_cut_1 (by decide) ?_
  refine M_pi 2 E.1 w 0 (by decide) l_M_thrown d_M_cut_2 (fun H locs w => ?_)
  refine kl_aload_n 5 E.1 d_M_cut_5 hl rfl ?_
  refine lv_iconst (pc := 6) (v := nI 1) E.1.1 E.1.2.1 d_M_cut_6 (by decide) ?_
  refine kl_iload_n 7 E.1 d_M_cut_7 hl rfl ?_
  refine n_if_lt 8 E.1 d_M_cut_8 (by omega) 19 rfl ?_
  refine kl_iload_n 11 E.1 d_M_cut_11 hl rfl ?_
  refine kl_aload_n 12 E.1 d_M_cut_12 hl rfl ?_
  refine M_gi 13 E.1 w 1 (by decide) l_M_size d_M_cut_13 ?_
  refine n_top (hf) ?_
  refine n_icmp_le 16 (tgt := 23) E.1 d_M_cut_16 rfl (by omega) (by omega) (fun h16 => ?_) (fun h16 => ?_)
  · refine lv_iconst (pc := 23) (v := nI 0) E.1.1 E.1.2.1 d_M_cut_23 (by decide) ?_
    refine M_ci 24 E w (c_Mrefuse l D cI q (upd f 0 (nI 0)) G (nI 1) false) (cv_M_M_refuse E.1.2.2.2 rfl rfl ⟨by decide, by decide⟩) (kl_sz hl) rfl rfl (Nat.le_of_ble_eq_true rfl) d_M_cut_24 (fun r f1 G1 H locs hp w => ?_)
    obtain ⟨rfl, hm, e2⟩ := hp
    rw [e2] at w
    refine n_if_eq 27 (tgt := 32) E.1 d_M_cut_27 rfl (by decide) (fun h27 => ?_) (fun h27 => ?_)
    · refine kl_aload_n 32 E.1 d_M_cut_32 hl rfl ?_
      refine kl_iload_n 33 E.1 d_M_cut_33 hl rfl ?_
      refine M_pi 34 E.1 w 1 (by decide) l_M_size d_M_cut_34 (fun H locs w => ?_)
      refine kl_iload_n 37 E.1 d_M_cut_37 hl rfl ?_
      exact M_iret 38 E w d_M_cut_38 ⟨rfl, ⟨hm.1, rfl, fun j h0 h1 => (pk_un h1).trans ((hm.2 j h0).trans (pk_un h0))⟩, rfl⟩
    · exact absurd rfl h27
  · exact absurd h16 (by omega)
theorem c_Mcut_b (l : Launch) (D : va_G) (cI : ClassId) (q : Nat → Nat) (f : Nat → Int32) (G : Nat → Nat → Int32) {x : Int32} (hbad : ¬ (0 ≤ x ∧ x ≤ f 1)) : M_Mi l y_M_cut b_M_cut 2 (some .int) rm_m1 D cI q f G [.int x] (fun r f' G' => mk0 f f' (nI 1) ∧ G' = G) := by
  refine M_ofi rfl (Nat.le_of_ble_eq_true rfl) ?_
  intro p e s m args below meth c ls A E w hl
  have hl : kl ls [some (.ref (q 0)), some (.int x)] := kl_of _ hl rfl rfl rfl
  refine kl_aload_n 0 E.1 d_M_cut_0 hl rfl ?_
  refine lv_iconst (pc := 1) (v := nI 0) E.1.1 E.1.2.1 d_M_cut_1 (by decide) ?_
  refine M_pi 2 E.1 w 0 (by decide) l_M_thrown d_M_cut_2 (fun H locs w => ?_)
  refine kl_aload_n 5 E.1 d_M_cut_5 hl rfl ?_
  refine lv_iconst (pc := 6) (v := nI 1) E.1.1 E.1.2.1 d_M_cut_6 (by decide) ?_
  refine kl_iload_n 7 E.1 d_M_cut_7 hl rfl ?_
  refine lv_if_lt (pc := 8) (tgt := 19) E.1.1 E.1.2.1 d_M_cut_8 rfl (fun h8 => ?_) (fun h8 => ?_)
  · refine lv_iconst (pc := 19) (v := nI 1) E.1.1 E.1.2.1 d_M_cut_19 (by decide) ?_
    refine lv_goto (pc := 20) (tgt := 24) E.1.1 E.1.2.1 d_M_cut_20 rfl ?_
    refine M_ci 24 E w (c_Mrefuse l D cI q (upd f 0 (nI 0)) G (nI 1) true) (cv_M_M_refuse E.1.2.2.2 rfl rfl ⟨by decide, by decide⟩) (kl_sz hl) rfl rfl (Nat.le_of_ble_eq_true rfl) d_M_cut_24 (fun r f1 G1 H locs hp w => ?_)
    obtain ⟨rfl, hm, e2⟩ := hp
    rw [e2] at w
    refine n_if_eq 27 (tgt := 32) E.1 d_M_cut_27 rfl (by decide) (fun h27 => ?_) (fun h27 => ?_)
    · exact absurd h27 (by decide)
    · refine lv_iconst (pc := 30) (v := nI 0) E.1.1 E.1.2.1 d_M_cut_30 (by decide) ?_
      exact M_iret 31 E w d_M_cut_31 ⟨hm.up, rfl⟩
  · refine kl_iload_n 11 E.1 d_M_cut_11 hl rfl ?_
    refine kl_aload_n 12 E.1 d_M_cut_12 hl rfl ?_
    refine M_gi 13 E.1 w 1 (by decide) l_M_size d_M_cut_13 ?_
    refine lv_icmp_le (pc := 16) (tgt := 23) E.1.1 E.1.2.1 d_M_cut_16 rfl (fun h16 => ?_) (fun h16 => ?_)
    · exact absurd ⟨Int32.not_lt.mp h8, h16⟩ hbad
    · refine lv_iconst (pc := 19) (v := nI 1) E.1.1 E.1.2.1 d_M_cut_19 (by decide) ?_
      refine lv_goto (pc := 20) (tgt := 24) E.1.1 E.1.2.1 d_M_cut_20 rfl ?_
      refine M_ci 24 E w (c_Mrefuse l D cI q (upd f 0 (nI 0)) G (nI 1) true) (cv_M_M_refuse E.1.2.2.2 rfl rfl ⟨by decide, by decide⟩) (kl_sz hl) rfl rfl (Nat.le_of_ble_eq_true rfl) d_M_cut_24 (fun r f1 G1 H locs hp w => ?_)
      obtain ⟨rfl, hm, e2⟩ := hp
      rw [e2] at w
      refine n_if_eq 27 (tgt := 32) E.1 d_M_cut_27 rfl (by decide) (fun h27 => ?_) (fun h27 => ?_)
      · exact absurd h27 (by decide)
      · refine lv_iconst (pc := 30) (v := nI 0) E.1.1 E.1.2.1 d_M_cut_30 (by decide) ?_
        exact M_iret 31 E w d_M_cut_31 ⟨hm.up, rfl⟩
theorem c_Mat_b (l : Launch) (D : va_G) (cI : ClassId) (q : Nat → Nat) (f : Nat → Int32) (G : Nat → Nat → Int32) {x : Int32} (hbad : ¬ (0 ≤ x ∧ x < f 2)) : M_Mi l y_M_at b_M_at 2 (some .int) rm_m1 D cI q f G [.int x] (fun r f' G' => mk0 f f' (nI 1) ∧ G' = G) := by
  refine M_ofi rfl (Nat.le_of_ble_eq_true rfl) ?_
  intro p e s m args below meth c ls A E w hl
  have hl : kl ls [some (.ref (q 0)), some (.int x)] := kl_of _ hl rfl rfl rfl
  refine kl_aload_n 0 E.1 d_M_at_0 hl rfl ?_
  refine lv_iconst (pc := 1) (v := nI 0) E.1.1 E.1.2.1 d_M_at_1 (by decide) ?_
  refine M_pi 2 E.1 w 0 (by decide) l_M_thrown d_M_at_2 (fun H locs w => ?_)
  refine kl_aload_n 5 E.1 d_M_at_5 hl rfl ?_
  refine lv_iconst (pc := 6) (v := nI 1) E.1.1 E.1.2.1 d_M_at_6 (by decide) ?_
  refine kl_iload_n 7 E.1 d_M_at_7 hl rfl ?_
  refine lv_if_lt (pc := 8) (tgt := 19) E.1.1 E.1.2.1 d_M_at_8 rfl (fun h8 => ?_) (fun h8 => ?_)
  · refine lv_iconst (pc := 19) (v := nI 1) E.1.1 E.1.2.1 d_M_at_19 (by decide) ?_
    refine lv_goto (pc := 20) (tgt := 24) E.1.1 E.1.2.1 d_M_at_20 rfl ?_
    refine M_ci 24 E w (c_Mrefuse l D cI q (upd f 0 (nI 0)) G (nI 1) true) (cv_M_M_refuse E.1.2.2.2 rfl rfl ⟨by decide, by decide⟩) (kl_sz hl) rfl rfl (Nat.le_of_ble_eq_true rfl) d_M_at_24 (fun r f1 G1 H locs hp w => ?_)
    obtain ⟨rfl, hm, e2⟩ := hp
    rw [e2] at w
    refine n_if_eq 27 (tgt := 32) E.1 d_M_at_27 rfl (by decide) (fun h27 => ?_) (fun h27 => ?_)
    · exact absurd h27 (by decide)
    · refine lv_iconst (pc := 30) (v := nI 0) E.1.1 E.1.2.1 d_M_at_30 (by decide) ?_
      exact M_iret 31 E w d_M_at_31 ⟨hm.up, rfl⟩
  · refine kl_iload_n 11 E.1 d_M_at_11 hl rfl ?_
    refine kl_aload_n 12 E.1 d_M_at_12 hl rfl ?_
    refine M_gi 13 E.1 w 2 (by decide) l_M_built d_M_at_13 ?_
    refine lv_icmp_lt (pc := 16) (tgt := 23) E.1.1 E.1.2.1 d_M_at_16 rfl (fun h16 => ?_) (fun h16 => ?_)
    · exact absurd ⟨Int32.not_lt.mp h8, h16⟩ hbad
    · refine lv_iconst (pc := 19) (v := nI 1) E.1.1 E.1.2.1 d_M_at_19 (by decide) ?_
      refine lv_goto (pc := 20) (tgt := 24) E.1.1 E.1.2.1 d_M_at_20 rfl ?_
      refine M_ci 24 E w (c_Mrefuse l D cI q (upd f 0 (nI 0)) G (nI 1) true) (cv_M_M_refuse E.1.2.2.2 rfl rfl ⟨by decide, by decide⟩) (kl_sz hl) rfl rfl (Nat.le_of_ble_eq_true rfl) d_M_at_24 (fun r f1 G1 H locs hp w => ?_)
      obtain ⟨rfl, hm, e2⟩ := hp
      rw [e2] at w
      refine n_if_eq 27 (tgt := 32) E.1 d_M_at_27 rfl (by decide) (fun h27 => ?_) (fun h27 => ?_)
      · exact absurd h27 (by decide)
      · refine lv_iconst (pc := 30) (v := nI 0) E.1.1 E.1.2.1 d_M_at_30 (by decide) ?_
        exact M_iret 31 E w d_M_at_31 ⟨hm.up, rfl⟩
theorem c_Mnumber_b (l : Launch) (D : va_G) (cI : ClassId) (q : Nat → Nat) (f : Nat → Int32) (G : Nat → Nat → Int32) {x : Int32} (hbad : ¬ (0 ≤ x ∧ x < f 3)) : M_Mi l y_M_number b_M_number 2 (some .int) rm_m1 D cI q f G [.int x] (fun r f' G' => mk0 f f' (nI 1) ∧ G' = G) := by
  refine M_ofi rfl (Nat.le_of_ble_eq_true rfl) ?_
  intro p e s m args below meth c ls A E w hl
  have hl : kl ls [some (.ref (q 0)), some (.int x)] := kl_of _ hl rfl rfl rfl
  refine kl_aload_n 0 E.1 d_M_number_0 hl rfl ?_
  refine lv_iconst (pc := 1) (v := nI 0) E.1.1 E.1.2.1 d_M_number_1 (by decide) ?_
  refine M_pi 2 E.1 w 0 (by decide) l_M_thrown d_M_number_2 (fun H locs w => ?_)
  refine kl_aload_n 5 E.1 d_M_number_5 hl rfl ?_
  refine lv_iconst (pc := 6) (v := nI 1) E.1.1 E.1.2.1 d_M_number_6 (by decide) ?_
  refine kl_iload_n 7 E.1 d_M_number_7 hl rfl ?_
  refine lv_if_lt (pc := 8) (tgt := 19) E.1.1 E.1.2.1 d_M_number_8 rfl (fun h8 => ?_) (fun h8 => ?_)
  · refine lv_iconst (pc := 19) (v := nI 1) E.1.1 E.1.2.1 d_M_number_19 (by decide) ?_
    refine lv_goto (pc := 20) (tgt := 24) E.1.1 E.1.2.1 d_M_number_20 rfl ?_
    refine M_ci 24 E w (c_Mrefuse l D cI q (upd f 0 (nI 0)) G (nI 1) true) (cv_M_M_refuse E.1.2.2.2 rfl rfl ⟨by decide, by decide⟩) (kl_sz hl) rfl rfl (Nat.le_of_ble_eq_true rfl) d_M_number_24 (fun r f1 G1 H locs hp w => ?_)
    obtain ⟨rfl, hm, e2⟩ := hp
    rw [e2] at w
    refine n_if_eq 27 (tgt := 32) E.1 d_M_number_27 rfl (by decide) (fun h27 => ?_) (fun h27 => ?_)
    · exact absurd h27 (by decide)
    · refine lv_iconst (pc := 30) (v := nI 0) E.1.1 E.1.2.1 d_M_number_30 (by decide) ?_
      exact M_iret 31 E w d_M_number_31 ⟨hm.up, rfl⟩
  · refine kl_iload_n 11 E.1 d_M_number_11 hl rfl ?_
    refine kl_aload_n 12 E.1 d_M_number_12 hl rfl ?_
    refine M_gi 13 E.1 w 3 (by decide) l_M_tolds d_M_number_13 ?_
    refine lv_icmp_lt (pc := 16) (tgt := 23) E.1.1 E.1.2.1 d_M_number_16 rfl (fun h16 => ?_) (fun h16 => ?_)
    · exact absurd ⟨Int32.not_lt.mp h8, h16⟩ hbad
    · refine lv_iconst (pc := 19) (v := nI 1) E.1.1 E.1.2.1 d_M_number_19 (by decide) ?_
      refine lv_goto (pc := 20) (tgt := 24) E.1.1 E.1.2.1 d_M_number_20 rfl ?_
      refine M_ci 24 E w (c_Mrefuse l D cI q (upd f 0 (nI 0)) G (nI 1) true) (cv_M_M_refuse E.1.2.2.2 rfl rfl ⟨by decide, by decide⟩) (kl_sz hl) rfl rfl (Nat.le_of_ble_eq_true rfl) d_M_number_24 (fun r f1 G1 H locs hp w => ?_)
      obtain ⟨rfl, hm, e2⟩ := hp
      rw [e2] at w
      refine n_if_eq 27 (tgt := 32) E.1 d_M_number_27 rfl (by decide) (fun h27 => ?_) (fun h27 => ?_)
      · exact absurd h27 (by decide)
      · refine lv_iconst (pc := 30) (v := nI 0) E.1.1 E.1.2.1 d_M_number_30 (by decide) ?_
        exact M_iret 31 E w d_M_number_31 ⟨hm.up, rfl⟩
theorem c_Mat (l : Launch) (D : va_G) (cI : ClassId) (q : Nat → Nat) (f : Nat → Int32) (G : Nat → Nat → Int32) {n a v : Nat} (hn : n ≤ 4000) (hf : f 2 = nI n) (ha : a < n) (hv : G 2 a = nI v) : M_Mi l y_M_at b_M_at 2 (some .int) rm_m1 D cI q f G [.int (nI a)] (fun r f' G' => r = nI v ∧ mk0 f f' (nI 0) ∧ G' = G) := by
  refine M_ofi rfl (Nat.le_of_ble_eq_true rfl) ?_
  intro p e s m args below meth c ls A E w hl
  have hl : kl ls [some (.ref (q 0)), some (.int (nI a))] := kl_of _ hl rfl rfl rfl
  refine kl_aload_n 0 E.1 d_M_at_0 hl rfl ?_
  refine lv_iconst (pc := 1) (v := nI 0) E.1.1 E.1.2.1 d_M_at_1 (by decide) ?_
  refine M_pi 2 E.1 w 0 (by decide) l_M_thrown d_M_at_2 (fun H locs w => ?_)
  refine kl_aload_n 5 E.1 d_M_at_5 hl rfl ?_
  refine lv_iconst (pc := 6) (v := nI 1) E.1.1 E.1.2.1 d_M_at_6 (by decide) ?_
  refine kl_iload_n 7 E.1 d_M_at_7 hl rfl ?_
  refine n_if_lt 8 E.1 d_M_at_8 (by omega) 19 rfl ?_
  refine kl_iload_n 11 E.1 d_M_at_11 hl rfl ?_
  refine kl_aload_n 12 E.1 d_M_at_12 hl rfl ?_
  refine M_gi 13 E.1 w 2 (by decide) l_M_built d_M_at_13 ?_
  refine n_top (hf) ?_
  refine n_icmp_lt 16 (tgt := 23) E.1 d_M_at_16 rfl (by omega) (by omega) (fun h16 => ?_) (fun h16 => ?_)
  · refine lv_iconst (pc := 23) (v := nI 0) E.1.1 E.1.2.1 d_M_at_23 (by decide) ?_
    refine M_ci 24 E w (c_Mrefuse l D cI q (upd f 0 (nI 0)) G (nI 1) false) (cv_M_M_refuse E.1.2.2.2 rfl rfl ⟨by decide, by decide⟩) (kl_sz hl) rfl rfl (Nat.le_of_ble_eq_true rfl) d_M_at_24 (fun r f1 G1 H locs hp w => ?_)
    obtain ⟨rfl, hm, e2⟩ := hp
    rw [e2] at w
    refine n_if_eq 27 (tgt := 32) E.1 d_M_at_27 rfl (by decide) (fun h27 => ?_) (fun h27 => ?_)
    · refine kl_aload_n 32 E.1 d_M_at_32 hl rfl ?_
      refine M_ga 33 E.1 w 2 (by decide) l_M_tree d_M_at_33 ?_
      refine kl_iload_n 36 E.1 d_M_at_36 hl rfl ?_
      refine M_ald 37 E.1 w 2 (by decide) d_M_at_37 (show _ < 4000 by omega) ?_
      refine n_top (hv) ?_
      exact M_iret 38 E w d_M_at_38 ⟨rfl, hm.up, rfl⟩
    · exact absurd rfl h27
  · exact absurd h16 (by omega)
theorem c_Mnumber (l : Launch) (D : va_G) (cI : ClassId) (q : Nat → Nat) (f : Nat → Int32) (G : Nat → Nat → Int32) {F i v t : Nat} (hF : F ≤ 512) (hf : f 3 = nI F) (hi : i < F) (h4 : G 4 i = nI v) (h5 : G 5 i = nI t) : M_Mi l y_M_number b_M_number 2 (some .int) rm_m1 D cI q f G [.int (nI i)] (fun r f' G' => r = nI (4096 * v + t) ∧ mk0 f f' (nI 0) ∧ G' = G) := by
  refine M_ofi rfl (Nat.le_of_ble_eq_true rfl) ?_
  intro p e s m args below meth c ls A E w hl
  have hl : kl ls [some (.ref (q 0)), some (.int (nI i))] := kl_of _ hl rfl rfl rfl
  refine kl_aload_n 0 E.1 d_M_number_0 hl rfl ?_
  refine lv_iconst (pc := 1) (v := nI 0) E.1.1 E.1.2.1 d_M_number_1 (by decide) ?_
  refine M_pi 2 E.1 w 0 (by decide) l_M_thrown d_M_number_2 (fun H locs w => ?_)
  refine kl_aload_n 5 E.1 d_M_number_5 hl rfl ?_
  refine lv_iconst (pc := 6) (v := nI 1) E.1.1 E.1.2.1 d_M_number_6 (by decide) ?_
  refine kl_iload_n 7 E.1 d_M_number_7 hl rfl ?_
  refine n_if_lt 8 E.1 d_M_number_8 (by omega) 19 rfl ?_
  refine kl_iload_n 11 E.1 d_M_number_11 hl rfl ?_
  refine kl_aload_n 12 E.1 d_M_number_12 hl rfl ?_
  refine M_gi 13 E.1 w 3 (by decide) l_M_tolds d_M_number_13 ?_
  refine n_top (hf) ?_
  refine n_icmp_lt 16 (tgt := 23) E.1 d_M_number_16 rfl (by omega) (by omega) (fun h16 => ?_) (fun h16 => ?_)
  · refine lv_iconst (pc := 23) (v := nI 0) E.1.1 E.1.2.1 d_M_number_23 (by decide) ?_
    refine M_ci 24 E w (c_Mrefuse l D cI q (upd f 0 (nI 0)) G (nI 1) false) (cv_M_M_refuse E.1.2.2.2 rfl rfl ⟨by decide, by decide⟩) (kl_sz hl) rfl rfl (Nat.le_of_ble_eq_true rfl) d_M_number_24 (fun r f1 G1 H locs hp w => ?_)
    obtain ⟨rfl, hm, e2⟩ := hp
    rw [e2] at w
    refine n_if_eq 27 (tgt := 32) E.1 d_M_number_27 rfl (by decide) (fun h27 => ?_) (fun h27 => ?_)
    · refine lv_sipush (pc := 32) (v := nI 4096) E.1.1 E.1.2.1 d_M_number_32 (by decide) ?_
      refine kl_aload_n 35 E.1 d_M_number_35 hl rfl ?_
      refine M_ga 36 E.1 w 4 (by decide) l_M_told d_M_number_36 ?_
      refine kl_iload_n 39 E.1 d_M_number_39 hl rfl ?_
      refine M_ald 40 E.1 w 4 (by decide) d_M_number_40 (show _ < 512 by omega) ?_
      refine n_top (h4) ?_
      refine n_imul 41 E.1 d_M_number_41 ?_
      refine kl_aload_n 42 E.1 d_M_number_42 hl rfl ?_
      refine M_ga 43 E.1 w 5 (by decide) l_M_toldOften d_M_number_43 ?_
      refine kl_iload_n 46 E.1 d_M_number_46 hl rfl ?_
      refine M_ald 47 E.1 w 5 (by decide) d_M_number_47 (show _ < 512 by omega) ?_
      refine n_top (h5) ?_
      refine n_iadd 48 E.1 d_M_number_48 ?_
      exact M_iret 49 E w d_M_number_49 ⟨rfl, hm.up, rfl⟩
    · exact absurd rfl h27
  · exact absurd h16 (by omega)
theorem c_Mcount (l : Launch) (D : va_G) (cI : ClassId) (q : Nat → Nat) (f : Nat → Int32) (G : Nat → Nat → Int32) (x : Int32) : M_Mi l y_M_count b_M_count 2 (some .int) rm_0 D cI q f G [.int x] (fun r f' G' => r = (if x = 0 then f 1 else if x = 1 then f 2 else -1) ∧ mk0 f f' (nI 0) ∧ G' = G) := by
  refine M_ofi rfl (Nat.le_of_ble_eq_true rfl) ?_
  intro p e s m args below meth c ls A E w hl
  have hl : kl ls [some (.ref (q 0)), some (.int x)] := kl_of _ hl rfl rfl rfl
  refine kl_aload_n 0 E.1 d_M_count_0 hl rfl ?_
  refine lv_iconst (pc := 1) (v := nI 0) E.1.1 E.1.2.1 d_M_count_1 (by decide) ?_
  refine M_pi 2 E.1 w 0 (by decide) l_M_thrown d_M_count_2 (fun H locs w => ?_)
  refine kl_iload_n 5 E.1 d_M_count_5 hl rfl ?_
  refine lv_if_ne (pc := 6) (tgt := 16) E.1.1 E.1.2.1 d_M_count_6 rfl (fun h6 => ?_) (fun h6 => ?_)
  · refine kl_iload_n 16 E.1 d_M_count_16 hl rfl ?_
    refine lv_iconst (pc := 17) (v := nI 1) E.1.1 E.1.2.1 d_M_count_17 (by decide) ?_
    refine lv_icmp_ne (pc := 18) (tgt := 28) E.1.1 E.1.2.1 d_M_count_18 rfl (fun h18 => ?_) (fun h18 => ?_)
    · refine lv_iconst (pc := 28) (v := -1) E.1.1 E.1.2.1 d_M_count_28 (by decide) ?_
      exact M_iret 29 E w d_M_count_29 ⟨by rw [if_neg h6, if_neg (show ¬ x = 1 from h18)], ⟨rfl, fun j hj => pk_un hj⟩, rfl⟩
    · refine kl_aload_n 21 E.1 d_M_count_21 hl rfl ?_
      refine M_gi 22 E.1 w 2 (by decide) l_M_built d_M_count_22 ?_
      refine lv_goto (pc := 25) (tgt := 29) E.1.1 E.1.2.1 d_M_count_25 rfl ?_
      exact M_iret 29 E w d_M_count_29 ⟨by rw [if_neg h6, if_pos (show x = 1 from h18)]; rfl, ⟨rfl, fun j hj => pk_un hj⟩, rfl⟩
  · refine kl_aload_n 9 E.1 d_M_count_9 hl rfl ?_
    refine M_gi 10 E.1 w 1 (by decide) l_M_size d_M_count_10 ?_
    refine lv_goto (pc := 13) (tgt := 29) E.1.1 E.1.2.1 d_M_count_13 rfl ?_
    exact M_iret 29 E w d_M_count_29 ⟨by rw [if_pos h6]; rfl, ⟨rfl, fun j hj => pk_un hj⟩, rfl⟩
theorem c_Madd (l : Launch) (D : va_G) (cI : ClassId) (q : Nat → Nat) (f : Nat → Int32) (G : Nat → Nat → Int32) {n : Nat} (hn : n + 3 ≤ 4000) (hf : f 1 = nI n) (x y z : Int32) : M_Mi l y_M_add b_M_add 4 (some .int) rm_m1 D cI q f G [.int x, .int y, .int z] (fun r f' G' => r = nI (n + 3) ∧ (f' 0 = nI 0 ∧ f' 1 = nI (n + 3) ∧ (∀ j, j ≠ 0 → j ≠ 1 → f' j = f j)) ∧ G' = va_up G 1 (upd (upd (upd (G 1) n (nI (x.toBitVec.toNat % 512))) (n + 1) (nI (y.toBitVec.toNat % 512))) (n + 2) (nI (z.toBitVec.toNat % 512)))) := by
  refine M_ofi rfl (Nat.le_of_ble_eq_true rfl) ?_
  intro p e s m args below meth c ls A E w hl
  have hl : kl ls [some (.ref (q 0)), some (.int x), some (.int y), some (.int z)] := kl_of _ hl rfl rfl rfl
  have hm9 : ∀ u : Int32, u &&& nI 511 = nI (u.toBitVec.toNat % 512) := fun u => pk_and u 9 rfl
  refine kl_aload_n 0 E.1 d_M_add_0 hl rfl ?_
  refine lv_iconst (pc := 1) (v := nI 0) E.1.1 E.1.2.1 d_M_add_1 (by decide) ?_
  refine M_pi 2 E.1 w 0 (by decide) l_M_thrown d_M_add_2 (fun H locs w => ?_)
  refine kl_aload_n 5 E.1 d_M_add_5 hl rfl ?_
  refine lv_iconst (pc := 6) (v := nI 1) E.1.1 E.1.2.1 d_M_add_6 (by decide) ?_
  refine kl_aload_n 7 E.1 d_M_add_7 hl rfl ?_
  refine M_gi 8 E.1 w 1 (by decide) l_M_size d_M_add_8 ?_
  refine n_top (hf) ?_
  refine lv_sipush (pc := 11) (v := nI 3997) E.1.1 E.1.2.1 d_M_add_11 (by decide) ?_
  refine n_icmp_le 14 (tgt := 21) E.1 d_M_add_14 rfl (by omega) (by omega) (fun h14 => ?_) (fun h14 => ?_)
  · refine lv_iconst (pc := 21) (v := nI 0) E.1.1 E.1.2.1 d_M_add_21 (by decide) ?_
    refine M_ci 22 E w (c_Mrefuse l D cI q (upd f 0 (nI 0)) G (nI 1) false) (cv_M_M_refuse E.1.2.2.2 rfl rfl ⟨by decide, by decide⟩) (kl_sz hl) rfl rfl (Nat.le_of_ble_eq_true rfl) d_M_add_22 (fun r f1 G1 H locs hp w => ?_)
    obtain ⟨rfl, hm, e2⟩ := hp
    rw [e2] at w
    refine n_if_eq 25 (tgt := 30) E.1 d_M_add_25 rfl (by decide) (fun h25 => ?_) (fun h25 => ?_)
    · have hf1 : f1 1 = nI n := (hm.2 1 (by decide)).trans hf
      refine kl_aload_n 30 E.1 d_M_add_30 hl rfl ?_
      refine M_ga 31 E.1 w 1 (by decide) l_M_row d_M_add_31 ?_
      refine kl_aload_n 34 E.1 d_M_add_34 hl rfl ?_
      refine lv_dup (pc := 35) E.1.1 E.1.2.1 d_M_add_35 rfl ?_
      refine M_gi 36 E.1 w 1 (by decide) l_M_size d_M_add_36 ?_
      refine n_top (hf1) ?_
      refine lv_dup_x1 (pc := 39) E.1.1 E.1.2.1 d_M_add_39 rfl rfl ?_
      refine lv_iconst (pc := 40) (v := nI 1) E.1.1 E.1.2.1 d_M_add_40 (by decide) ?_
      refine n_iadd 41 E.1 d_M_add_41 ?_
      refine M_pi 42 E.1 w 1 (by decide) l_M_size d_M_add_42 (fun H locs w => ?_)
      refine kl_iload_n 45 E.1 d_M_add_45 hl rfl ?_
      refine lv_sipush (pc := 46) (v := nI 511) E.1.1 E.1.2.1 d_M_add_46 (by decide) ?_
      refine lv_iand (pc := 49) E.1.1 E.1.2.1 d_M_add_49 ?_
      refine n_top (hm9 x) ?_
      refine M_ast 50 E.1 w 1 (by decide) d_M_add_50 (show _ < 4000 by omega) (fun H locs w => ?_)
      refine kl_aload_n 51 E.1 d_M_add_51 hl rfl ?_
      refine M_ga 52 E.1 w 1 (by decide) l_M_row d_M_add_52 ?_
      refine kl_aload_n 55 E.1 d_M_add_55 hl rfl ?_
      refine lv_dup (pc := 56) E.1.1 E.1.2.1 d_M_add_56 rfl ?_
      refine M_gi 57 E.1 w 1 (by decide) l_M_size d_M_add_57 ?_
      refine n_top (show _ = nI (n + 1) from rfl) ?_
      refine lv_dup_x1 (pc := 60) E.1.1 E.1.2.1 d_M_add_60 rfl rfl ?_
      refine lv_iconst (pc := 61) (v := nI 1) E.1.1 E.1.2.1 d_M_add_61 (by decide) ?_
      refine n_iadd 62 E.1 d_M_add_62 ?_
      refine M_pi 63 E.1 w 1 (by decide) l_M_size d_M_add_63 (fun H locs w => ?_)
      refine kl_iload_n 66 E.1 d_M_add_66 hl rfl ?_
      refine lv_sipush (pc := 67) (v := nI 511) E.1.1 E.1.2.1 d_M_add_67 (by decide) ?_
      refine lv_iand (pc := 70) E.1.1 E.1.2.1 d_M_add_70 ?_
      refine n_top (hm9 y) ?_
      refine M_ast 71 E.1 w 1 (by decide) d_M_add_71 (show _ < 4000 by omega) (fun H locs w => ?_)
      refine kl_aload_n 72 E.1 d_M_add_72 hl rfl ?_
      refine M_ga 73 E.1 w 1 (by decide) l_M_row d_M_add_73 ?_
      refine kl_aload_n 76 E.1 d_M_add_76 hl rfl ?_
      refine lv_dup (pc := 77) E.1.1 E.1.2.1 d_M_add_77 rfl ?_
      refine M_gi 78 E.1 w 1 (by decide) l_M_size d_M_add_78 ?_
      refine n_top (show _ = nI (n + 1 + 1) from rfl) ?_
      refine lv_dup_x1 (pc := 81) E.1.1 E.1.2.1 d_M_add_81 rfl rfl ?_
      refine lv_iconst (pc := 82) (v := nI 1) E.1.1 E.1.2.1 d_M_add_82 (by decide) ?_
      refine n_iadd 83 E.1 d_M_add_83 ?_
      refine M_pi 84 E.1 w 1 (by decide) l_M_size d_M_add_84 (fun H locs w => ?_)
      refine kl_iload_n 87 E.1 d_M_add_87 hl rfl ?_
      refine lv_sipush (pc := 88) (v := nI 511) E.1.1 E.1.2.1 d_M_add_88 (by decide) ?_
      refine lv_iand (pc := 91) E.1.1 E.1.2.1 d_M_add_91 ?_
      refine n_top (hm9 z) ?_
      refine M_ast 92 E.1 w 1 (by decide) d_M_add_92 (show _ < 4000 by omega) (fun H locs w => ?_)
      refine kl_aload_n 93 E.1 d_M_add_93 hl rfl ?_
      refine M_gi 94 E.1 w 1 (by decide) l_M_size d_M_add_94 ?_
      exact M_iret 97 E w d_M_add_97 ⟨rfl, ⟨hm.1, rfl, fun j h0 h1 => (pk_un h1).trans ((pk_un h1).trans ((pk_un h1).trans ((hm.2 j h0).trans (pk_un h0))))⟩, by simp only [bx_uu, va_up_self]⟩
    · exact absurd rfl h25
  · exact absurd h14 (by omega)
section LMB
variable {p : Program} {l : Launch} {e : Env} {R : Room} {s : State} {m : MethodId} {args : Array Value} {below : List Frame} {meth : Method} {c : Code} {H : Heap} {locs : List Loc} {Q : State → Prop} {ls : Array Slot} {D : va_G} {cI : ClassId} {A : Nat → Prop} {q : Nat → Nat} {f : Nat → Int32} {G : Nat → Nat → Int32}
theorem lp_Mb {n : Nat} (E : kx_E p s m args c b_M_build R_M 2 meth (some .int) A) (hn : n ≤ 4000) (hf : f 1 = nI n)
    (K : ∀ (G' : Nat → Nat → Int32) (H : Heap) (locs : List Loc) (ls : Array Slot) (x1 : Option Value), (∀ j, j ≠ 2 → G' j = G j) → (∀ j, j < n → G' 2 j = G 1 j) → kx_M D cI A q f G' s H locs → kl ls [some (.ref (q 0)), x1] → W p l e R s m args below meth c H locs 0 0 Q (F0 m 33 ls [])) :
    ∀ (u i : Nat) (G' : Nat → Nat → Int32) (H : Heap) (locs : List Loc) (ls : Array Slot), n - i = u → i ≤ n → (∀ j, j ≠ 2 → G' j = G j) → (∀ j, j < i → G' 2 j = G 1 j) → kx_M D cI A q f G' s H locs → kl ls [some (.ref (q 0)), some (.int (nI i))] → W p l e R s m args below meth c H locs 0 0 Q (F0 m 7 ls []) := by
  intro u
  induction u with
  | zero =>
    intro i G' H locs ls hu hi hg h2 w hl
    have : i = n := by omega
    subst this
    refine kl_iload_n 7 E.1 d_M_build_7 hl rfl ?_
    refine kl_aload_n 8 E.1 d_M_build_8 hl rfl ?_
    refine M_gi 9 E.1 w 1 (by decide) l_M_size d_M_build_9 ?_
    refine n_top (hf) ?_
    refine n_icmp_ge 12 (tgt := 33) E.1 d_M_build_12 rfl (by omega) (by omega) (fun h12 => ?_) (fun h12 => ?_)
    · exact K G' H locs ls _ hg h2 w hl
    · exact absurd h12 (by omega)
  | succ u ih =>
    intro i G' H locs ls hu hi hg h2 w hl
    refine kl_iload_n 7 E.1 d_M_build_7 hl rfl ?_
    refine kl_aload_n 8 E.1 d_M_build_8 hl rfl ?_
    refine M_gi 9 E.1 w 1 (by decide) l_M_size d_M_build_9 ?_
    refine n_top (hf) ?_
    refine n_icmp_ge 12 (tgt := 33) E.1 d_M_build_12 rfl (by omega) (by omega) (fun h12 => ?_) (fun h12 => ?_)
    · exact absurd h12 (by omega)
    · refine kl_aload_n 15 E.1 d_M_build_15 hl rfl ?_
      refine M_ga 16 E.1 w 2 (by decide) l_M_tree d_M_build_16 ?_
      refine kl_iload_n 19 E.1 d_M_build_19 hl rfl ?_
      refine kl_aload_n 20 E.1 d_M_build_20 hl rfl ?_
      refine M_ga 21 E.1 w 1 (by decide) l_M_row d_M_build_21 ?_
      refine kl_iload_n 24 E.1 d_M_build_24 hl rfl ?_
      refine M_ald 25 E.1 w 1 (by decide) d_M_build_25 (show _ < 4000 by omega) ?_
      refine M_ast 26 E.1 w 2 (by decide) d_M_build_26 (show _ < 4000 by omega) (fun H locs w => ?_)
      refine kl_inc1 27 E.1 d_M_build_27 hl rfl (fun ls hl => ?_)
      refine lv_goto (pc := 30) (tgt := 7) E.1.1 E.1.2.1 d_M_build_30 rfl ?_
      refine ih (i + 1) _ H locs ls (by omega) (by omega) ?_ ?_ w hl
      · exact fun j g2 => (va_up_ne _ _ g2).trans (hg j g2)
      · intro j hj
        show upd (G' 2) i _ j = _
        rcases Nat.lt_or_ge j i with g | g
        · rw [pk_un (by omega)]; exact h2 j g
        · have : j = i := by omega
          subst this
          rw [pk_us, hg 1 (by decide)]
end LMB

theorem c_Mbuild (l : Launch) (D : va_G) (cI : ClassId) (q : Nat → Nat) (f : Nat → Int32) (G : Nat → Nat → Int32) {n : Nat} (hn : n ≤ 4000) (hf : f 1 = nI n) : M_Mi l y_M_build b_M_build 2 (some .int) rm_0 D cI q f G [] (fun r f' G' => r = nI n ∧ (f' 0 = nI 0 ∧ f' 2 = nI n ∧ ∀ j, j ≠ 0 → j ≠ 2 → f' j = f j) ∧ (∀ j, j ≠ 2 → G' j = G j) ∧ ∀ j, j < n → G' 2 j = G 1 j) := by
  refine M_ofi rfl (Nat.le_of_ble_eq_true rfl) ?_
  intro p e s m args below meth c ls A E w hl
  have hl : kl ls [some (.ref (q 0)), none] := kl_of _ hl rfl rfl rfl
  refine kl_aload_n 0 E.1 d_M_build_0 hl rfl ?_
  refine lv_iconst (pc := 1) (v := nI 0) E.1.1 E.1.2.1 d_M_build_1 (by decide) ?_
  refine M_pi 2 E.1 w 0 (by decide) l_M_thrown d_M_build_2 (fun H locs w => ?_)
  refine lv_iconst (pc := 5) (v := nI 0) E.1.1 E.1.2.1 d_M_build_5 (by decide) ?_
  refine kl_istore_n 6 E.1 d_M_build_6 hl (Nat.le_of_ble_eq_true rfl) (fun ls hl => ?_)
  refine lp_Mb (f := upd f 0 (nI 0)) E hn hf (fun G' H locs ls x1 hg h2 w hl => ?_) n 0 G H locs ls rfl (Nat.zero_le _) (fun _ _ => rfl) (fun j hj => absurd hj (Nat.not_lt_zero j)) w hl
  refine kl_aload_n 33 E.1 d_M_build_33 hl rfl ?_
  refine kl_aload_n 34 E.1 d_M_build_34 hl rfl ?_
  refine M_gi 35 E.1 w 1 (by decide) l_M_size d_M_build_35 ?_
  refine n_top (hf) ?_
  refine M_pi 38 E.1 w 2 (by decide) l_M_built d_M_build_38 (fun H locs w => ?_)
  refine kl_aload_n 41 E.1 d_M_build_41 hl rfl ?_
  refine M_gi 42 E.1 w 2 (by decide) l_M_built d_M_build_42 ?_
  exact M_iret 45 E w d_M_build_45 ⟨rfl, ⟨rfl, rfl, fun j h0 h2 => (pk_un h2).trans (pk_un h0)⟩, hg, h2⟩
end
section
/-! the model: often, below, before, place, counted, least, different, most -/
def rm_m2 : Room := { frames := 2, cells := 0, slots := 0, locals := 60 }
section LM_often
variable {p : Program} {l : Launch} {e : Env} {R : Room} {s : State} {m : MethodId} {args : Array Value} {below : List Frame} {meth : Method} {c : Code} {H : Heap} {locs : List Loc} {Q : State → Prop} {ls : Array Slot} {D : va_G} {cI : ClassId} {A : Nat → Prop} {q : Nat → Nat} {f : Nat → Int32} {G : Nat → Nat → Int32}
theorem lp_M_often {n nu a b : Nat} {tr : Nat → Nat} (E : kx_E p s m args c b_M_often R_M 6 meth (some .int) A) (hn : n ≤ 4000) (hnu : nu ≤ 511) (htr : ∀ j, j < n → G 2 j = nI (tr j) ∧ tr j < 512) (hab : a ≤ b) (hb : b ≤ n) (w : kx_M D cI A q f G s H locs)
    (K : ∀ (ls : Array Slot) (L : List (Option Value)), kl ls L → L[4]? = some (some (.int (nI (wm_cn tr (fun x => x == nu) a b)))) → W p l e R s m args below meth c H locs 0 0 Q (F0 m 59 ls [])) :
    ∀ (u k : Nat) (ls : Array Slot), b - k = u → a ≤ k → k ≤ b → kl ls [some (.ref (q 0)), some (.int (nI nu)), some (.int (nI a)), some (.int (nI b)), some (.int (nI (wm_cn tr (fun x => x == nu) a k))), some (.int (nI k))] → W p l e R s m args below meth c H locs 0 0 Q (F0 m 33 ls []) := by
  intro u
  induction u with
  | zero =>
    intro k ls hu hk1 hk hl
    have : k = b := by omega
    subst this
    refine kl_iload 33 E.1 d_M_often_33 hl rfl ?_
    refine kl_iload_n 35 E.1 d_M_often_35 hl rfl ?_
    refine n_icmp_ge 36 (tgt := 59) E.1 d_M_often_36 rfl (by omega) (by omega) (fun h36 => ?_) (fun h36 => ?_)
    · exact K ls _ hl rfl
    · exact absurd h36 (by omega)
  | succ u ih =>
    intro k ls hu hk1 hk hl
    obtain ⟨htk, htl⟩ := htr k (by omega)
    refine kl_iload 33 E.1 d_M_often_33 hl rfl ?_
    refine kl_iload_n 35 E.1 d_M_often_35 hl rfl ?_
    refine n_icmp_ge 36 (tgt := 59) E.1 d_M_often_36 rfl (by omega) (by omega) (fun h36 => ?_) (fun h36 => ?_)
    · exact absurd h36 (by omega)
    · refine kl_aload_n 39 E.1 d_M_often_39 hl rfl ?_
      refine M_ga 40 E.1 w 2 (by decide) l_M_tree d_M_often_40 ?_
      refine kl_iload 43 E.1 d_M_often_43 hl rfl ?_
      refine M_ald 45 E.1 w 2 (by decide) d_M_often_45 (show _ < 4000 by omega) ?_
      refine n_top (htk) ?_
      refine kl_iload_n 46 E.1 d_M_often_46 hl rfl ?_
      refine n_icmp_ne 47 (tgt := 53) E.1 d_M_often_47 rfl (by omega) (by omega) (fun h47 => ?_) (fun h47 => ?_)
      · refine kl_inc1 53 E.1 d_M_often_53 hl rfl (fun ls hl => ?_)
        refine lv_goto (pc := 56) (tgt := 33) E.1.1 E.1.2.1 d_M_often_56 rfl ?_
        refine ih (k + 1) ls (by omega) (by omega) (by omega) ?_
        rw [wm_cn_f tr (p := fun x => x == nu) hk1 (by simp; exact h47)]
        exact hl
      · refine kl_inc1 50 E.1 d_M_often_50 hl rfl (fun ls hl => ?_)
        refine kl_inc1 53 E.1 d_M_often_53 hl rfl (fun ls hl => ?_)
        refine lv_goto (pc := 56) (tgt := 33) E.1.1 E.1.2.1 d_M_often_56 rfl ?_
        refine ih (k + 1) ls (by omega) (by omega) (by omega) ?_
        rw [wm_cn_t tr (p := fun x => x == nu) hk1 (by simp; exact h47)]
        exact hl
end LM_often

theorem c_Moften (l : Launch) (D : va_G) (cI : ClassId) (q : Nat → Nat) (f : Nat → Int32) (G : Nat → Nat → Int32) {n nu a b : Nat} {tr : Nat → Nat} (hn : n ≤ 4000) (hf : f 2 = nI n) (hnu : nu ≤ 511) (htr : ∀ j, j < n → G 2 j = nI (tr j) ∧ tr j < 512) (hab : a ≤ b) (hb : b ≤ n) : M_Mi l y_M_often b_M_often 6 (some .int) rm_m2 D cI q f G [.int (nI nu), .int (nI a), .int (nI b)] (fun r f' G' => r = nI (wm_cn tr (fun x => x == nu) a b) ∧ mk0 f f' (nI 0) ∧ G' = G) := by
  refine M_ofi rfl (Nat.le_of_ble_eq_true rfl) ?_
  intro p e s m args below meth c ls A E w hl
  have hl : kl ls [some (.ref (q 0)), some (.int (nI nu)), some (.int (nI a)), some (.int (nI b)), none, none] := kl_of _ hl rfl rfl rfl
  refine kl_aload_n 0 E.1 d_M_often_0 hl rfl ?_
  refine kl_iload_n 1 E.1 d_M_often_1 hl rfl ?_
  refine kl_iload_n 2 E.1 d_M_often_2 hl rfl ?_
  refine kl_iload_n 3 E.1 d_M_often_3 hl rfl ?_
  refine n_if_lt 4 E.1 d_M_often_4 (by omega) 14 rfl ?_
  refine kl_iload_n 7 E.1 d_M_often_7 hl rfl ?_
  refine lv_sipush (pc := 8) (v := nI 511) E.1.1 E.1.2.1 d_M_often_8 (by decide) ?_
  refine n_icmp_le 11 (tgt := 18) E.1 d_M_often_11 rfl (by omega) (by omega) (fun h11 => ?_) (fun h11 => ?_)
  · refine lv_iconst (pc := 18) (v := nI 0) E.1.1 E.1.2.1 d_M_often_18 (by decide) ?_
    refine M_ci 19 E w (c_MnoPart l D cI q f G hn hf hab hb) (cv_M_M_noPart E.1.2.2.2 rfl rfl ⟨by decide, by decide⟩) (kl_sz hl) rfl rfl (Nat.le_of_ble_eq_true rfl) d_M_often_19 (fun r f1 G1 H locs hp w => ?_)
    obtain ⟨rfl, hm, e2⟩ := hp
    rw [e2] at w
    refine n_if_eq 22 (tgt := 27) E.1 d_M_often_22 rfl (by decide) (fun h22 => ?_) (fun h22 => ?_)
    · refine lv_iconst (pc := 27) (v := nI 0) E.1.1 E.1.2.1 d_M_often_27 (by decide) ?_
      refine kl_istore 28 E.1 d_M_often_28 hl (Nat.le_of_ble_eq_true rfl) (fun ls hl => ?_)
      refine kl_iload_n 30 E.1 d_M_often_30 hl rfl ?_
      refine kl_istore 31 E.1 d_M_often_31 hl (Nat.le_of_ble_eq_true rfl) (fun ls hl => ?_)
      refine lp_M_often E hn hnu htr hab hb w (fun ls L hl h4 => ?_) (b - a) a ls rfl (Nat.le_refl _) hab (by rw [wm_cn_self]; exact hl)
      refine kl_iload 59 E.1 d_M_often_59 hl h4 ?_
      exact M_iret 61 E w d_M_often_61 ⟨rfl, hm, rfl⟩
    · exact absurd rfl h22
  · exact absurd h11 (by omega)
section LM_below
variable {p : Program} {l : Launch} {e : Env} {R : Room} {s : State} {m : MethodId} {args : Array Value} {below : List Frame} {meth : Method} {c : Code} {H : Heap} {locs : List Loc} {Q : State → Prop} {ls : Array Slot} {D : va_G} {cI : ClassId} {A : Nat → Prop} {q : Nat → Nat} {f : Nat → Int32} {G : Nat → Nat → Int32}
theorem lp_M_below {n nu a b : Nat} {tr : Nat → Nat} (E : kx_E p s m args c b_M_below R_M 6 meth (some .int) A) (hn : n ≤ 4000) (hnu : nu ≤ 512) (htr : ∀ j, j < n → G 2 j = nI (tr j) ∧ tr j < 512) (hab : a ≤ b) (hb : b ≤ n) (w : kx_M D cI A q f G s H locs)
    (K : ∀ (ls : Array Slot) (L : List (Option Value)), kl ls L → L[4]? = some (some (.int (nI (wm_cn tr (fun x => decide (x < nu)) a b)))) → W p l e R s m args below meth c H locs 0 0 Q (F0 m 59 ls [])) :
    ∀ (u k : Nat) (ls : Array Slot), b - k = u → a ≤ k → k ≤ b → kl ls [some (.ref (q 0)), some (.int (nI nu)), some (.int (nI a)), some (.int (nI b)), some (.int (nI (wm_cn tr (fun x => decide (x < nu)) a k))), some (.int (nI k))] → W p l e R s m args below meth c H locs 0 0 Q (F0 m 33 ls []) := by
  intro u
  induction u with
  | zero =>
    intro k ls hu hk1 hk hl
    have : k = b := by omega
    subst this
    refine kl_iload 33 E.1 d_M_below_33 hl rfl ?_
    refine kl_iload_n 35 E.1 d_M_below_35 hl rfl ?_
    refine n_icmp_ge 36 (tgt := 59) E.1 d_M_below_36 rfl (by omega) (by omega) (fun h36 => ?_) (fun h36 => ?_)
    · exact K ls _ hl rfl
    · exact absurd h36 (by omega)
  | succ u ih =>
    intro k ls hu hk1 hk hl
    obtain ⟨htk, htl⟩ := htr k (by omega)
    refine kl_iload 33 E.1 d_M_below_33 hl rfl ?_
    refine kl_iload_n 35 E.1 d_M_below_35 hl rfl ?_
    refine n_icmp_ge 36 (tgt := 59) E.1 d_M_below_36 rfl (by omega) (by omega) (fun h36 => ?_) (fun h36 => ?_)
    · exact absurd h36 (by omega)
    · refine kl_aload_n 39 E.1 d_M_below_39 hl rfl ?_
      refine M_ga 40 E.1 w 2 (by decide) l_M_tree d_M_below_40 ?_
      refine kl_iload 43 E.1 d_M_below_43 hl rfl ?_
      refine M_ald 45 E.1 w 2 (by decide) d_M_below_45 (show _ < 4000 by omega) ?_
      refine n_top (htk) ?_
      refine kl_iload_n 46 E.1 d_M_below_46 hl rfl ?_
      refine n_icmp_ge 47 (tgt := 53) E.1 d_M_below_47 rfl (by omega) (by omega) (fun h47 => ?_) (fun h47 => ?_)
      · refine kl_inc1 53 E.1 d_M_below_53 hl rfl (fun ls hl => ?_)
        refine lv_goto (pc := 56) (tgt := 33) E.1.1 E.1.2.1 d_M_below_56 rfl ?_
        refine ih (k + 1) ls (by omega) (by omega) (by omega) ?_
        rw [wm_cn_f tr (p := fun x => decide (x < nu)) hk1 (decide_eq_false (by omega))]
        exact hl
      · refine kl_inc1 50 E.1 d_M_below_50 hl rfl (fun ls hl => ?_)
        refine kl_inc1 53 E.1 d_M_below_53 hl rfl (fun ls hl => ?_)
        refine lv_goto (pc := 56) (tgt := 33) E.1.1 E.1.2.1 d_M_below_56 rfl ?_
        refine ih (k + 1) ls (by omega) (by omega) (by omega) ?_
        rw [wm_cn_t tr (p := fun x => decide (x < nu)) hk1 (decide_eq_true (by omega))]
        exact hl
end LM_below

theorem c_Mbelow (l : Launch) (D : va_G) (cI : ClassId) (q : Nat → Nat) (f : Nat → Int32) (G : Nat → Nat → Int32) {n nu a b : Nat} {tr : Nat → Nat} (hn : n ≤ 4000) (hf : f 2 = nI n) (hnu : nu ≤ 512) (htr : ∀ j, j < n → G 2 j = nI (tr j) ∧ tr j < 512) (hab : a ≤ b) (hb : b ≤ n) : M_Mi l y_M_below b_M_below 6 (some .int) rm_m2 D cI q f G [.int (nI nu), .int (nI a), .int (nI b)] (fun r f' G' => r = nI (wm_cn tr (fun x => decide (x < nu)) a b) ∧ mk0 f f' (nI 0) ∧ G' = G) := by
  refine M_ofi rfl (Nat.le_of_ble_eq_true rfl) ?_
  intro p e s m args below meth c ls A E w hl
  have hl : kl ls [some (.ref (q 0)), some (.int (nI nu)), some (.int (nI a)), some (.int (nI b)), none, none] := kl_of _ hl rfl rfl rfl
  refine kl_aload_n 0 E.1 d_M_below_0 hl rfl ?_
  refine kl_iload_n 1 E.1 d_M_below_1 hl rfl ?_
  refine kl_iload_n 2 E.1 d_M_below_2 hl rfl ?_
  refine kl_iload_n 3 E.1 d_M_below_3 hl rfl ?_
  refine n_if_lt 4 E.1 d_M_below_4 (by omega) 14 rfl ?_
  refine kl_iload_n 7 E.1 d_M_below_7 hl rfl ?_
  refine lv_sipush (pc := 8) (v := nI 512) E.1.1 E.1.2.1 d_M_below_8 (by decide) ?_
  refine n_icmp_le 11 (tgt := 18) E.1 d_M_below_11 rfl (by omega) (by omega) (fun h11 => ?_) (fun h11 => ?_)
  · refine lv_iconst (pc := 18) (v := nI 0) E.1.1 E.1.2.1 d_M_below_18 (by decide) ?_
    refine M_ci 19 E w (c_MnoPart l D cI q f G hn hf hab hb) (cv_M_M_noPart E.1.2.2.2 rfl rfl ⟨by decide, by decide⟩) (kl_sz hl) rfl rfl (Nat.le_of_ble_eq_true rfl) d_M_below_19 (fun r f1 G1 H locs hp w => ?_)
    obtain ⟨rfl, hm, e2⟩ := hp
    rw [e2] at w
    refine n_if_eq 22 (tgt := 27) E.1 d_M_below_22 rfl (by decide) (fun h22 => ?_) (fun h22 => ?_)
    · refine lv_iconst (pc := 27) (v := nI 0) E.1.1 E.1.2.1 d_M_below_27 (by decide) ?_
      refine kl_istore 28 E.1 d_M_below_28 hl (Nat.le_of_ble_eq_true rfl) (fun ls hl => ?_)
      refine kl_iload_n 30 E.1 d_M_below_30 hl rfl ?_
      refine kl_istore 31 E.1 d_M_below_31 hl (Nat.le_of_ble_eq_true rfl) (fun ls hl => ?_)
      refine lp_M_below E hn hnu htr hab hb w (fun ls L hl h4 => ?_) (b - a) a ls rfl (Nat.le_refl _) hab (by rw [wm_cn_self]; exact hl)
      refine kl_iload 59 E.1 d_M_below_59 hl h4 ?_
      exact M_iret 61 E w d_M_below_61 ⟨rfl, hm, rfl⟩
    · exact absurd rfl h22
  · exact absurd h11 (by omega)
theorem c_Moften_b (l : Launch) (D : va_G) (cI : ClassId) (q : Nat → Nat) (f : Nat → Int32) (G : Nat → Nat → Int32) {v x y : Int32} (hbad : ¬ ((0 ≤ v ∧ v ≤ nI 511) ∧ kp_ok (f 2) x y)) : M_Mi l y_M_often b_M_often 6 (some .int) rm_m2 D cI q f G [.int v, .int x, .int y] (fun r f' G' => mk0 f f' (nI 1) ∧ G' = G) := by
  refine M_ofi rfl (Nat.le_of_ble_eq_true rfl) ?_
  intro p e s m args below meth c ls A E w hl
  have hl : kl ls [some (.ref (q 0)), some (.int v), some (.int x), some (.int y), none, none] := kl_of _ hl rfl rfl rfl
  refine kl_aload_n 0 E.1 d_M_often_0 hl rfl ?_
  refine kl_iload_n 1 E.1 d_M_often_1 hl rfl ?_
  refine kl_iload_n 2 E.1 d_M_often_2 hl rfl ?_
  refine kl_iload_n 3 E.1 d_M_often_3 hl rfl ?_
  refine lv_if_lt (pc := 4) (tgt := 14) E.1.1 E.1.2.1 d_M_often_4 rfl (fun h4 => ?_) (fun h4 => ?_)
  · refine lv_iconst (pc := 14) (v := nI 1) E.1.1 E.1.2.1 d_M_often_14 (by decide) ?_
    refine lv_goto (pc := 15) (tgt := 19) E.1.1 E.1.2.1 d_M_often_15 rfl ?_
    refine M_ci 19 E w (c_MnoPart_b l D cI q f G (x := x) (y := y) (t := true) (Or.inr rfl)) (cv_M_M_noPart E.1.2.2.2 rfl rfl ⟨by decide, by decide⟩) (kl_sz hl) rfl rfl (Nat.le_of_ble_eq_true rfl) d_M_often_19 (fun r f1 G1 H locs hp w => ?_)
    obtain ⟨rfl, hm, e2⟩ := hp
    rw [e2] at w
    refine n_if_eq 22 (tgt := 27) E.1 d_M_often_22 rfl (by decide) (fun h22 => ?_) (fun h22 => ?_)
    · exact absurd h22 (by decide)
    · refine lv_iconst (pc := 25) (v := nI 0) E.1.1 E.1.2.1 d_M_often_25 (by decide) ?_
      exact M_iret 26 E w d_M_often_26 ⟨hm, rfl⟩
  · refine kl_iload_n 7 E.1 d_M_often_7 hl rfl ?_
    refine lv_sipush (pc := 8) (v := nI 511) E.1.1 E.1.2.1 d_M_often_8 (by decide) ?_
    refine lv_icmp_le (pc := 11) (tgt := 18) E.1.1 E.1.2.1 d_M_often_11 rfl (fun h11 => ?_) (fun h11 => ?_)
    · refine lv_iconst (pc := 18) (v := nI 0) E.1.1 E.1.2.1 d_M_often_18 (by decide) ?_
      refine M_ci 19 E w (c_MnoPart_b l D cI q f G (x := x) (y := y) (t := false) (Or.inl (fun h => hbad ⟨⟨Int32.not_lt.mp h4, h11⟩, h⟩))) (cv_M_M_noPart E.1.2.2.2 rfl rfl ⟨by decide, by decide⟩) (kl_sz hl) rfl rfl (Nat.le_of_ble_eq_true rfl) d_M_often_19 (fun r f1 G1 H locs hp w => ?_)
      obtain ⟨rfl, hm, e2⟩ := hp
      rw [e2] at w
      refine n_if_eq 22 (tgt := 27) E.1 d_M_often_22 rfl (by decide) (fun h22 => ?_) (fun h22 => ?_)
      · exact absurd h22 (by decide)
      · refine lv_iconst (pc := 25) (v := nI 0) E.1.1 E.1.2.1 d_M_often_25 (by decide) ?_
        exact M_iret 26 E w d_M_often_26 ⟨hm, rfl⟩
    · refine lv_iconst (pc := 14) (v := nI 1) E.1.1 E.1.2.1 d_M_often_14 (by decide) ?_
      refine lv_goto (pc := 15) (tgt := 19) E.1.1 E.1.2.1 d_M_often_15 rfl ?_
      refine M_ci 19 E w (c_MnoPart_b l D cI q f G (x := x) (y := y) (t := true) (Or.inr rfl)) (cv_M_M_noPart E.1.2.2.2 rfl rfl ⟨by decide, by decide⟩) (kl_sz hl) rfl rfl (Nat.le_of_ble_eq_true rfl) d_M_often_19 (fun r f1 G1 H locs hp w => ?_)
      obtain ⟨rfl, hm, e2⟩ := hp
      rw [e2] at w
      refine n_if_eq 22 (tgt := 27) E.1 d_M_often_22 rfl (by decide) (fun h22 => ?_) (fun h22 => ?_)
      · exact absurd h22 (by decide)
      · refine lv_iconst (pc := 25) (v := nI 0) E.1.1 E.1.2.1 d_M_often_25 (by decide) ?_
        exact M_iret 26 E w d_M_often_26 ⟨hm, rfl⟩
theorem c_Mbelow_b (l : Launch) (D : va_G) (cI : ClassId) (q : Nat → Nat) (f : Nat → Int32) (G : Nat → Nat → Int32) {v x y : Int32} (hbad : ¬ ((0 ≤ v ∧ v ≤ nI 512) ∧ kp_ok (f 2) x y)) : M_Mi l y_M_below b_M_below 6 (some .int) rm_m2 D cI q f G [.int v, .int x, .int y] (fun r f' G' => mk0 f f' (nI 1) ∧ G' = G) := by
  refine M_ofi rfl (Nat.le_of_ble_eq_true rfl) ?_
  intro p e s m args below meth c ls A E w hl
  have hl : kl ls [some (.ref (q 0)), some (.int v), some (.int x), some (.int y), none, none] := kl_of _ hl rfl rfl rfl
  refine kl_aload_n 0 E.1 d_M_below_0 hl rfl ?_
  refine kl_iload_n 1 E.1 d_M_below_1 hl rfl ?_
  refine kl_iload_n 2 E.1 d_M_below_2 hl rfl ?_
  refine kl_iload_n 3 E.1 d_M_below_3 hl rfl ?_
  refine lv_if_lt (pc := 4) (tgt := 14) E.1.1 E.1.2.1 d_M_below_4 rfl (fun h4 => ?_) (fun h4 => ?_)
  · refine lv_iconst (pc := 14) (v := nI 1) E.1.1 E.1.2.1 d_M_below_14 (by decide) ?_
    refine lv_goto (pc := 15) (tgt := 19) E.1.1 E.1.2.1 d_M_below_15 rfl ?_
    refine M_ci 19 E w (c_MnoPart_b l D cI q f G (x := x) (y := y) (t := true) (Or.inr rfl)) (cv_M_M_noPart E.1.2.2.2 rfl rfl ⟨by decide, by decide⟩) (kl_sz hl) rfl rfl (Nat.le_of_ble_eq_true rfl) d_M_below_19 (fun r f1 G1 H locs hp w => ?_)
    obtain ⟨rfl, hm, e2⟩ := hp
    rw [e2] at w
    refine n_if_eq 22 (tgt := 27) E.1 d_M_below_22 rfl (by decide) (fun h22 => ?_) (fun h22 => ?_)
    · exact absurd h22 (by decide)
    · refine lv_iconst (pc := 25) (v := nI 0) E.1.1 E.1.2.1 d_M_below_25 (by decide) ?_
      exact M_iret 26 E w d_M_below_26 ⟨hm, rfl⟩
  · refine kl_iload_n 7 E.1 d_M_below_7 hl rfl ?_
    refine lv_sipush (pc := 8) (v := nI 512) E.1.1 E.1.2.1 d_M_below_8 (by decide) ?_
    refine lv_icmp_le (pc := 11) (tgt := 18) E.1.1 E.1.2.1 d_M_below_11 rfl (fun h11 => ?_) (fun h11 => ?_)
    · refine lv_iconst (pc := 18) (v := nI 0) E.1.1 E.1.2.1 d_M_below_18 (by decide) ?_
      refine M_ci 19 E w (c_MnoPart_b l D cI q f G (x := x) (y := y) (t := false) (Or.inl (fun h => hbad ⟨⟨Int32.not_lt.mp h4, h11⟩, h⟩))) (cv_M_M_noPart E.1.2.2.2 rfl rfl ⟨by decide, by decide⟩) (kl_sz hl) rfl rfl (Nat.le_of_ble_eq_true rfl) d_M_below_19 (fun r f1 G1 H locs hp w => ?_)
      obtain ⟨rfl, hm, e2⟩ := hp
      rw [e2] at w
      refine n_if_eq 22 (tgt := 27) E.1 d_M_below_22 rfl (by decide) (fun h22 => ?_) (fun h22 => ?_)
      · exact absurd h22 (by decide)
      · refine lv_iconst (pc := 25) (v := nI 0) E.1.1 E.1.2.1 d_M_below_25 (by decide) ?_
        exact M_iret 26 E w d_M_below_26 ⟨hm, rfl⟩
    · refine lv_iconst (pc := 14) (v := nI 1) E.1.1 E.1.2.1 d_M_below_14 (by decide) ?_
      refine lv_goto (pc := 15) (tgt := 19) E.1.1 E.1.2.1 d_M_below_15 rfl ?_
      refine M_ci 19 E w (c_MnoPart_b l D cI q f G (x := x) (y := y) (t := true) (Or.inr rfl)) (cv_M_M_noPart E.1.2.2.2 rfl rfl ⟨by decide, by decide⟩) (kl_sz hl) rfl rfl (Nat.le_of_ble_eq_true rfl) d_M_below_19 (fun r f1 G1 H locs hp w => ?_)
      obtain ⟨rfl, hm, e2⟩ := hp
      rw [e2] at w
      refine n_if_eq 22 (tgt := 27) E.1 d_M_below_22 rfl (by decide) (fun h22 => ?_) (fun h22 => ?_)
      · exact absurd h22 (by decide)
      · refine lv_iconst (pc := 25) (v := nI 0) E.1.1 E.1.2.1 d_M_below_25 (by decide) ?_
        exact M_iret 26 E w d_M_below_26 ⟨hm, rfl⟩
theorem c_Mbefore_b (l : Launch) (D : va_G) (cI : ClassId) (q : Nat → Nat) (f : Nat → Int32) (G : Nat → Nat → Int32) {v x y : Int32} (hbad : ¬ ((0 ≤ v ∧ v ≤ nI 511) ∧ kp_ok (f 2) x y)) : M_Mi l y_M_before b_M_before 6 (some .int) rm_m2 D cI q f G [.int v, .int x, .int y] (fun r f' G' => mk0 f f' (nI 1) ∧ G' = G) := by
  refine M_ofi rfl (Nat.le_of_ble_eq_true rfl) ?_
  intro p e s m args below meth c ls A E w hl
  have hl : kl ls [some (.ref (q 0)), some (.int v), some (.int x), some (.int y), none, none] := kl_of _ hl rfl rfl rfl
  refine kl_aload_n 0 E.1 d_M_before_0 hl rfl ?_
  refine kl_iload_n 1 E.1 d_M_before_1 hl rfl ?_
  refine kl_iload_n 2 E.1 d_M_before_2 hl rfl ?_
  refine kl_iload_n 3 E.1 d_M_before_3 hl rfl ?_
  refine lv_if_lt (pc := 4) (tgt := 14) E.1.1 E.1.2.1 d_M_before_4 rfl (fun h4 => ?_) (fun h4 => ?_)
  · refine lv_iconst (pc := 14) (v := nI 1) E.1.1 E.1.2.1 d_M_before_14 (by decide) ?_
    refine lv_goto (pc := 15) (tgt := 19) E.1.1 E.1.2.1 d_M_before_15 rfl ?_
    refine M_ci 19 E w (c_MnoPart_b l D cI q f G (x := x) (y := y) (t := true) (Or.inr rfl)) (cv_M_M_noPart E.1.2.2.2 rfl rfl ⟨by decide, by decide⟩) (kl_sz hl) rfl rfl (Nat.le_of_ble_eq_true rfl) d_M_before_19 (fun r f1 G1 H locs hp w => ?_)
    obtain ⟨rfl, hm, e2⟩ := hp
    rw [e2] at w
    refine n_if_eq 22 (tgt := 27) E.1 d_M_before_22 rfl (by decide) (fun h22 => ?_) (fun h22 => ?_)
    · exact absurd h22 (by decide)
    · refine lv_iconst (pc := 25) (v := nI 0) E.1.1 E.1.2.1 d_M_before_25 (by decide) ?_
      exact M_iret 26 E w d_M_before_26 ⟨hm, rfl⟩
  · refine kl_iload_n 7 E.1 d_M_before_7 hl rfl ?_
    refine lv_sipush (pc := 8) (v := nI 511) E.1.1 E.1.2.1 d_M_before_8 (by decide) ?_
    refine lv_icmp_le (pc := 11) (tgt := 18) E.1.1 E.1.2.1 d_M_before_11 rfl (fun h11 => ?_) (fun h11 => ?_)
    · refine lv_iconst (pc := 18) (v := nI 0) E.1.1 E.1.2.1 d_M_before_18 (by decide) ?_
      refine M_ci 19 E w (c_MnoPart_b l D cI q f G (x := x) (y := y) (t := false) (Or.inl (fun h => hbad ⟨⟨Int32.not_lt.mp h4, h11⟩, h⟩))) (cv_M_M_noPart E.1.2.2.2 rfl rfl ⟨by decide, by decide⟩) (kl_sz hl) rfl rfl (Nat.le_of_ble_eq_true rfl) d_M_before_19 (fun r f1 G1 H locs hp w => ?_)
      obtain ⟨rfl, hm, e2⟩ := hp
      rw [e2] at w
      refine n_if_eq 22 (tgt := 27) E.1 d_M_before_22 rfl (by decide) (fun h22 => ?_) (fun h22 => ?_)
      · exact absurd h22 (by decide)
      · refine lv_iconst (pc := 25) (v := nI 0) E.1.1 E.1.2.1 d_M_before_25 (by decide) ?_
        exact M_iret 26 E w d_M_before_26 ⟨hm, rfl⟩
    · refine lv_iconst (pc := 14) (v := nI 1) E.1.1 E.1.2.1 d_M_before_14 (by decide) ?_
      refine lv_goto (pc := 15) (tgt := 19) E.1.1 E.1.2.1 d_M_before_15 rfl ?_
      refine M_ci 19 E w (c_MnoPart_b l D cI q f G (x := x) (y := y) (t := true) (Or.inr rfl)) (cv_M_M_noPart E.1.2.2.2 rfl rfl ⟨by decide, by decide⟩) (kl_sz hl) rfl rfl (Nat.le_of_ble_eq_true rfl) d_M_before_19 (fun r f1 G1 H locs hp w => ?_)
      obtain ⟨rfl, hm, e2⟩ := hp
      rw [e2] at w
      refine n_if_eq 22 (tgt := 27) E.1 d_M_before_22 rfl (by decide) (fun h22 => ?_) (fun h22 => ?_)
      · exact absurd h22 (by decide)
      · refine lv_iconst (pc := 25) (v := nI 0) E.1.1 E.1.2.1 d_M_before_25 (by decide) ?_
        exact M_iret 26 E w d_M_before_26 ⟨hm, rfl⟩
theorem c_Mleast_b (l : Launch) (D : va_G) (cI : ClassId) (q : Nat → Nat) (f : Nat → Int32) (G : Nat → Nat → Int32) {x y k : Int32} (hbad : ¬ kp_ok (f 2) x y) : M_Mi l y_M_least b_M_least 6 (some .int) rm_m2 D cI q f G [.int x, .int y, .int k] (fun r f' G' => mk0 f f' (nI 1) ∧ G' = G) := by
  refine M_ofi rfl (Nat.le_of_ble_eq_true rfl) ?_
  intro p e s m args below meth c ls A E w hl
  have hl : kl ls [some (.ref (q 0)), some (.int x), some (.int y), some (.int k), none, none] := kl_of _ hl rfl rfl rfl
  refine kl_aload_n 0 E.1 d_M_least_0 hl rfl ?_
  refine kl_iload_n 1 E.1 d_M_least_1 hl rfl ?_
  refine kl_iload_n 2 E.1 d_M_least_2 hl rfl ?_
  refine lv_iconst (pc := 3) (v := nI 0) E.1.1 E.1.2.1 d_M_least_3 (by decide) ?_
  refine M_ci 4 E w (c_MnoPart_b l D cI q f G (x := x) (y := y) (t := false) (Or.inl hbad)) (cv_M_M_noPart E.1.2.2.2 rfl rfl ⟨by decide, by decide⟩) (kl_sz hl) rfl rfl (Nat.le_of_ble_eq_true rfl) d_M_least_4 (fun r f1 G1 H locs hp w => ?_)
  obtain ⟨rfl, hm, e2⟩ := hp
  rw [e2] at w
  refine n_if_ne 7 (tgt := 34) E.1 d_M_least_7 rfl (by decide) (fun h7 => ?_) (fun h7 => ?_)
  · refine lv_iconst (pc := 34) (v := nI 0) E.1.1 E.1.2.1 d_M_least_34 (by decide) ?_
    exact M_iret 35 E w d_M_least_35 ⟨hm, rfl⟩
  · exact absurd h7 (by decide)
theorem c_Mdifferent_b (l : Launch) (D : va_G) (cI : ClassId) (q : Nat → Nat) (f : Nat → Int32) (G : Nat → Nat → Int32) {x y : Int32} (hbad : ¬ kp_ok (f 2) x y) : M_Mi l y_M_different b_M_different 4 (some .int) rm_m2 D cI q f G [.int x, .int y] (fun r f' G' => mk0 f f' (nI 1) ∧ G' = G) := by
  refine M_ofi rfl (Nat.le_of_ble_eq_true rfl) ?_
  intro p e s m args below meth c ls A E w hl
  have hl : kl ls [some (.ref (q 0)), some (.int x), some (.int y), none] := kl_of _ hl rfl rfl rfl
  refine kl_aload_n 0 E.1 d_M_different_0 hl rfl ?_
  refine kl_iload_n 1 E.1 d_M_different_1 hl rfl ?_
  refine kl_iload_n 2 E.1 d_M_different_2 hl rfl ?_
  refine lv_iconst (pc := 3) (v := nI 0) E.1.1 E.1.2.1 d_M_different_3 (by decide) ?_
  refine M_ci 4 E w (c_MnoPart_b l D cI q f G (x := x) (y := y) (t := false) (Or.inl hbad)) (cv_M_M_noPart E.1.2.2.2 rfl rfl ⟨by decide, by decide⟩) (kl_sz hl) rfl rfl (Nat.le_of_ble_eq_true rfl) d_M_different_4 (fun r f1 G1 H locs hp w => ?_)
  obtain ⟨rfl, hm, e2⟩ := hp
  rw [e2] at w
  refine n_if_eq 7 (tgt := 12) E.1 d_M_different_7 rfl (by decide) (fun h7 => ?_) (fun h7 => ?_)
  · exact absurd h7 (by decide)
  · refine lv_iconst (pc := 10) (v := nI 0) E.1.1 E.1.2.1 d_M_different_10 (by decide) ?_
    exact M_iret 11 E w d_M_different_11 ⟨hm, rfl⟩
theorem c_Mmost_b (l : Launch) (D : va_G) (cI : ClassId) (q : Nat → Nat) (f : Nat → Int32) (G : Nat → Nat → Int32) {x y : Int32} (hbad : ¬ kp_ok (f 2) x y) : M_Mi l y_M_most b_M_most 5 (some .int) rm_m2 D cI q f G [.int x, .int y] (fun r f' G' => mk0 f f' (nI 1) ∧ G' = G) := by
  refine M_ofi rfl (Nat.le_of_ble_eq_true rfl) ?_
  intro p e s m args below meth c ls A E w hl
  have hl : kl ls [some (.ref (q 0)), some (.int x), some (.int y), none, none] := kl_of _ hl rfl rfl rfl
  refine kl_aload_n 0 E.1 d_M_most_0 hl rfl ?_
  refine kl_iload_n 1 E.1 d_M_most_1 hl rfl ?_
  refine kl_iload_n 2 E.1 d_M_most_2 hl rfl ?_
  refine lv_iconst (pc := 3) (v := nI 0) E.1.1 E.1.2.1 d_M_most_3 (by decide) ?_
  refine M_ci 4 E w (c_MnoPart_b l D cI q f G (x := x) (y := y) (t := false) (Or.inl hbad)) (cv_M_M_noPart E.1.2.2.2 rfl rfl ⟨by decide, by decide⟩) (kl_sz hl) rfl rfl (Nat.le_of_ble_eq_true rfl) d_M_most_4 (fun r f1 G1 H locs hp w => ?_)
  obtain ⟨rfl, hm, e2⟩ := hp
  rw [e2] at w
  refine n_if_eq 7 (tgt := 12) E.1 d_M_most_7 rfl (by decide) (fun h7 => ?_) (fun h7 => ?_)
  · exact absurd h7 (by decide)
  · refine lv_iconst (pc := 10) (v := nI 0) E.1.1 E.1.2.1 d_M_most_10 (by decide) ?_
    exact M_iret 11 E w d_M_most_11 ⟨hm, rfl⟩
theorem c_Mleast_b2 (l : Launch) (D : va_G) (cI : ClassId) (q : Nat → Nat) (f : Nat → Int32) (G : Nat → Nat → Int32) {n a b : Nat} {k : Int32} (hn : n ≤ 4000) (hf : f 2 = nI n) (hab : a ≤ b) (hb : b ≤ n) (hbad : ¬ (0 ≤ k ∧ k < nI (b - a))) : M_Mi l y_M_least b_M_least 6 (some .int) rm_m2 D cI q f G [.int (nI a), .int (nI b), .int k] (fun r f' G' => mk0 f f' (nI 2) ∧ G' = G) := by
  refine M_ofi rfl (Nat.le_of_ble_eq_true rfl) ?_
  intro p e s m args below meth c ls A E w hl
  have hl : kl ls [some (.ref (q 0)), some (.int (nI a)), some (.int (nI b)), some (.int k), none, none] := kl_of _ hl rfl rfl rfl
  refine kl_aload_n 0 E.1 d_M_least_0 hl rfl ?_
  refine kl_iload_n 1 E.1 d_M_least_1 hl rfl ?_
  refine kl_iload_n 2 E.1 d_M_least_2 hl rfl ?_
  refine lv_iconst (pc := 3) (v := nI 0) E.1.1 E.1.2.1 d_M_least_3 (by decide) ?_
  refine M_ci 4 E w (c_MnoPart l D cI q f G hn hf hab hb) (cv_M_M_noPart E.1.2.2.2 rfl rfl ⟨by decide, by decide⟩) (kl_sz hl) rfl rfl (Nat.le_of_ble_eq_true rfl) d_M_least_4 (fun r f1 G1 H locs hp w => ?_)
  obtain ⟨rfl, hm, e2⟩ := hp
  rw [e2] at w
  refine n_if_ne 7 (tgt := 34) E.1 d_M_least_7 rfl (by decide) (fun h7 => ?_) (fun h7 => ?_)
  · exact absurd rfl h7
  · refine kl_aload_n 10 E.1 d_M_least_10 hl rfl ?_
    refine lv_iconst (pc := 11) (v := nI 2) E.1.1 E.1.2.1 d_M_least_11 (by decide) ?_
    refine kl_iload_n 12 E.1 d_M_least_12 hl rfl ?_
    refine lv_if_lt (pc := 13) (tgt := 23) E.1.1 E.1.2.1 d_M_least_13 rfl (fun h13 => ?_) (fun h13 => ?_)
    · refine lv_iconst (pc := 23) (v := nI 1) E.1.1 E.1.2.1 d_M_least_23 (by decide) ?_
      refine lv_goto (pc := 24) (tgt := 28) E.1.1 E.1.2.1 d_M_least_24 rfl ?_
      refine M_ci 28 E w (c_Mrefuse l D cI q f1 G (nI 2) true) (cv_M_M_refuse E.1.2.2.2 rfl rfl ⟨by decide, by decide⟩) (kl_sz hl) rfl rfl (Nat.le_of_ble_eq_true rfl) d_M_least_28 (fun r f2 G2 H locs hp w => ?_)
      obtain ⟨rfl, hm2, e2⟩ := hp
      rw [e2] at w
      refine n_if_eq 31 (tgt := 36) E.1 d_M_least_31 rfl (by decide) (fun h31 => ?_) (fun h31 => ?_)
      · exact absurd h31 (by decide)
      · refine lv_iconst (pc := 34) (v := nI 0) E.1.1 E.1.2.1 d_M_least_34 (by decide) ?_
        exact M_iret 35 E w d_M_least_35 ⟨⟨hm2.1, fun j hj => (hm2.2 j hj).trans (hm.2 j hj)⟩, rfl⟩
    · refine kl_iload_n 16 E.1 d_M_least_16 hl rfl ?_
      refine kl_iload_n 17 E.1 d_M_least_17 hl rfl ?_
      refine kl_iload_n 18 E.1 d_M_least_18 hl rfl ?_
      refine n_isub 19 E.1 d_M_least_19 (by omega) ?_
      refine lv_icmp_lt (pc := 20) (tgt := 27) E.1.1 E.1.2.1 d_M_least_20 rfl (fun h20 => ?_) (fun h20 => ?_)
      · exact absurd ⟨Int32.not_lt.mp h13, h20⟩ hbad
      · refine lv_iconst (pc := 23) (v := nI 1) E.1.1 E.1.2.1 d_M_least_23 (by decide) ?_
        refine lv_goto (pc := 24) (tgt := 28) E.1.1 E.1.2.1 d_M_least_24 rfl ?_
        refine M_ci 28 E w (c_Mrefuse l D cI q f1 G (nI 2) true) (cv_M_M_refuse E.1.2.2.2 rfl rfl ⟨by decide, by decide⟩) (kl_sz hl) rfl rfl (Nat.le_of_ble_eq_true rfl) d_M_least_28 (fun r f2 G2 H locs hp w => ?_)
        obtain ⟨rfl, hm2, e2⟩ := hp
        rw [e2] at w
        refine n_if_eq 31 (tgt := 36) E.1 d_M_least_31 rfl (by decide) (fun h31 => ?_) (fun h31 => ?_)
        · exact absurd h31 (by decide)
        · refine lv_iconst (pc := 34) (v := nI 0) E.1.1 E.1.2.1 d_M_least_34 (by decide) ?_
          exact M_iret 35 E w d_M_least_35 ⟨⟨hm2.1, fun j hj => (hm2.2 j hj).trans (hm.2 j hj)⟩, rfl⟩
/-- the greatest that is at most nu among the places a .. k-1 -/
def wm_Bf (tr : Nat → Nat) (nu a k : Nat) (best : Int32) : Prop := (best = -1 ∧ ∀ j, a ≤ j → j < k → nu < tr j) ∨ ∃ v, best = nI v ∧ v ≤ nu ∧ (∃ j, a ≤ j ∧ j < k ∧ tr j = v) ∧ ∀ j, a ≤ j → j < k → tr j ≤ nu → tr j ≤ v
theorem wm_Bf_skip {tr : Nat → Nat} {nu a k : Nat} {best : Int32} (h : wm_Bf tr nu a k best) (hs : nu < tr k ∨ ∃ v, best = nI v ∧ v < 2 ^ 31 ∧ tr k ≤ v) (hk : nu < 512) : wm_Bf tr nu a (k + 1) best := by
  rcases h with ⟨h1, h2⟩ | ⟨v, h1, h2, ⟨j0, h3, h4, h5⟩, h6⟩
  · refine Or.inl ⟨h1, fun j hj1 hj2 => ?_⟩
    rcases Nat.lt_or_ge j k with g | g
    · exact h2 j hj1 g
    · have : j = k := by omega
      subst this
      rcases hs with hs | ⟨v, e, hv, -⟩
      · exact hs
      · rw [h1] at e
        exact absurd (e ▸ (by decide : (-1 : Int32) < 0)) (nI_pos hv)
  · refine Or.inr ⟨v, h1, h2, ⟨j0, h3, by omega, h5⟩, fun j hj1 hj2 hj3 => ?_⟩
    rcases Nat.lt_or_ge j k with g | g
    · exact h6 j hj1 g hj3
    · have : j = k := by omega
      subst this
      rcases hs with hs | ⟨v', e, hv', hs⟩
      · omega
      · have : v = v' := (nI_eq (by omega) hv').mp (h1.symm.trans e)
        omega
theorem wm_Bf_take {tr : Nat → Nat} {nu a k : Nat} {best : Int32} (h : wm_Bf tr nu a k best) (hak : a ≤ k) (h1 : tr k ≤ nu) (hk : nu < 512) (hb : best < nI (tr k)) : wm_Bf tr nu a (k + 1) (nI (tr k)) := by
  refine Or.inr ⟨tr k, rfl, h1, ⟨k, hak, by omega, rfl⟩, fun j hj1 hj2 hj3 => ?_⟩
  rcases Nat.lt_or_ge j k with g | g
  · rcases h with ⟨-, h2⟩ | ⟨v, e, h2, -, h6⟩
    · have := h2 j hj1 g; omega
    · have h7 := h6 j hj1 g hj3
      rw [e] at hb
      have := (nI_ltI (show v < 2 ^ 31 by omega) (show tr k < 2 ^ 31 by omega)).mp hb
      omega
  · have : j = k := by omega
    subst this; exact Nat.le_refl _
/-- it is what the tree answers -/
theorem wm_Bf_one {tr : Nat → Nat} {nu a b : Nat} {best r : Int32} (hab : a ≤ b) (hnu : nu < 512) (h : wm_Bf tr nu a b best) (hr : (wm_cn tr (fun x => decide (x < nu + 1)) a b = 0 ∧ r = -1) ∨ ∃ v, r = nI v ∧ 0 < wm_cn tr (fun x => decide (x < nu + 1)) a b ∧ wm_Qt tr a b (wm_cn tr (fun x => decide (x < nu + 1)) a b - 1) v) : r = best := by
  rcases h with ⟨h1, h2⟩ | ⟨v, h1, h2, ⟨j0, h3, h4, h5⟩, h6⟩
  · have h0 : wm_cn tr (fun x => decide (x < nu + 1)) a b = 0 := by
      rcases Nat.eq_zero_or_pos (wm_cn tr (fun x => decide (x < nu + 1)) a b) with g | g
      · exact g
      · obtain ⟨j, g1, g2, g3⟩ := wm_cn_pos tr hab g
        have := h2 j g1 g2
        simp only [decide_eq_true_eq] at g3
        omega
    rcases hr with ⟨-, e⟩ | ⟨v, -, g, -⟩
    · rw [e, h1]
    · omega
  · have hpos : 0 < wm_cn tr (fun x => decide (x < nu + 1)) a b := wm_cn_one tr h3 h4 (decide_eq_true (by omega))
    have heq : wm_cn tr (fun x => decide (x < nu + 1)) a b = wm_cn tr (fun x => decide (x < v + 1)) a b := wm_cn_congr hab (fun j g1 g2 => by
      rw [decide_eq_decide]
      constructor
      · intro g; have := h6 j g1 g2 (by omega); omega
      · intro g; omega)
    have hone : 0 < wm_cn tr (fun x => x == v) a b := wm_cn_one tr h3 h4 (by rw [h5]; simp)
    have hs := wm_lt_1 tr (v := v) hab
    have hQ : wm_Qt tr a b (wm_cn tr (fun x => decide (x < nu + 1)) a b - 1) v := ⟨by omega, by omega, by omega⟩
    rcases hr with ⟨g, -⟩ | ⟨v', e, -, g⟩
    · omega
    · rw [e, h1, wm_Qt_one hab g hQ]
section LMbefore
variable {p : Program} {l : Launch} {e : Env} {R : Room} {s : State} {m : MethodId} {args : Array Value} {below : List Frame} {meth : Method} {c : Code} {H : Heap} {locs : List Loc} {Q : State → Prop} {ls : Array Slot} {D : va_G} {cI : ClassId} {A : Nat → Prop} {q : Nat → Nat} {f : Nat → Int32} {G : Nat → Nat → Int32}
theorem lp_Mbefore {n nu a b : Nat} {tr : Nat → Nat} (E : kx_E p s m args c b_M_before R_M 6 meth (some .int) A) (hn : n ≤ 4000) (hnu : nu < 512) (htr : ∀ j, j < n → G 2 j = nI (tr j) ∧ tr j < 512) (hab : a ≤ b) (hb : b ≤ n) (w : kx_M D cI A q f G s H locs)
    (K : ∀ (best : Int32) (ls : Array Slot) (L : List (Option Value)), wm_Bf tr nu a b best → kl ls L → L[4]? = some (some (.int best)) → W p l e R s m args below meth c H locs 0 0 Q (F0 m 77 ls [])) :
    ∀ (u k : Nat) (best : Int32) (ls : Array Slot), b - k = u → a ≤ k → k ≤ b → wm_Bf tr nu a k best → kl ls [some (.ref (q 0)), some (.int (nI nu)), some (.int (nI a)), some (.int (nI b)), some (.int best), some (.int (nI k))] → W p l e R s m args below meth c H locs 0 0 Q (F0 m 33 ls []) := by
  intro u
  induction u with
  | zero =>
    intro k best ls hu hk1 hk hB hl
    have : k = b := by omega
    subst this
    refine kl_iload 33 E.1 d_M_before_33 hl rfl ?_
    refine kl_iload_n 35 E.1 d_M_before_35 hl rfl ?_
    refine n_icmp_ge 36 (tgt := 77) E.1 d_M_before_36 rfl (by omega) (by omega) (fun h36 => ?_) (fun h36 => ?_)
    · exact K best ls _ hB hl rfl
    · exact absurd h36 (by omega)
  | succ u ih =>
    intro k best ls hu hk1 hk hB hl
    obtain ⟨htk, htl⟩ := htr k (by omega)
    refine kl_iload 33 E.1 d_M_before_33 hl rfl ?_
    refine kl_iload_n 35 E.1 d_M_before_35 hl rfl ?_
    refine n_icmp_ge 36 (tgt := 77) E.1 d_M_before_36 rfl (by omega) (by omega) (fun h36 => ?_) (fun h36 => ?_)
    · exact absurd h36 (by omega)
    · refine kl_aload_n 39 E.1 d_M_before_39 hl rfl ?_
      refine M_ga 40 E.1 w 2 (by decide) l_M_tree d_M_before_40 ?_
      refine kl_iload 43 E.1 d_M_before_43 hl rfl ?_
      refine M_ald 45 E.1 w 2 (by decide) d_M_before_45 (show _ < 4000 by omega) ?_
      refine n_top (htk) ?_
      refine kl_iload_n 46 E.1 d_M_before_46 hl rfl ?_
      refine n_icmp_gt 47 (tgt := 71) E.1 d_M_before_47 rfl (by omega) (by omega) (fun h47 => ?_) (fun h47 => ?_)
      · refine kl_inc1 71 E.1 d_M_before_71 hl rfl (fun ls hl => ?_)
        refine lv_goto (pc := 74) (tgt := 33) E.1.1 E.1.2.1 d_M_before_74 rfl ?_
        exact ih (k + 1) best ls (by omega) (by omega) (by omega) (wm_Bf_skip hB (Or.inl h47) hnu) hl
      · refine kl_aload_n 50 E.1 d_M_before_50 hl rfl ?_
        refine M_ga 51 E.1 w 2 (by decide) l_M_tree d_M_before_51 ?_
        refine kl_iload 54 E.1 d_M_before_54 hl rfl ?_
        refine M_ald 56 E.1 w 2 (by decide) d_M_before_56 (show _ < 4000 by omega) ?_
        refine n_top (htk) ?_
        refine kl_iload 57 E.1 d_M_before_57 hl rfl ?_
        refine lv_icmp_le (pc := 59) (tgt := 71) E.1.1 E.1.2.1 d_M_before_59 rfl (fun h59 => ?_) (fun h59 => ?_)
        · refine kl_inc1 71 E.1 d_M_before_71 hl rfl (fun ls hl => ?_)
          refine lv_goto (pc := 74) (tgt := 33) E.1.1 E.1.2.1 d_M_before_74 rfl ?_
          refine ih (k + 1) best ls (by omega) (by omega) (by omega) (wm_Bf_skip hB ?_ hnu) hl
          rcases hB with ⟨e, -⟩ | ⟨v, e, hv, -⟩
          · rw [e] at h59
            exact absurd (Int32.lt_of_le_of_lt h59 (by decide : (-1 : Int32) < 0)) (nI_pos (by omega))
          · refine Or.inr ⟨v, e, by omega, ?_⟩
            rw [e] at h59
            exact (nI_leI (by omega) (by omega)).mp h59
        · refine kl_aload_n 62 E.1 d_M_before_62 hl rfl ?_
          refine M_ga 63 E.1 w 2 (by decide) l_M_tree d_M_before_63 ?_
          refine kl_iload 66 E.1 d_M_before_66 hl rfl ?_
          refine M_ald 68 E.1 w 2 (by decide) d_M_before_68 (show _ < 4000 by omega) ?_
          refine n_top (htk) ?_
          refine kl_istore 69 E.1 d_M_before_69 hl (Nat.le_of_ble_eq_true rfl) (fun ls hl => ?_)
          refine kl_inc1 71 E.1 d_M_before_71 hl rfl (fun ls hl => ?_)
          refine lv_goto (pc := 74) (tgt := 33) E.1.1 E.1.2.1 d_M_before_74 rfl ?_
          exact ih (k + 1) _ ls (by omega) (by omega) (by omega) (wm_Bf_take hB hk1 h47 hnu (Int32.not_le.mp h59)) hl
end LMbefore

theorem c_Mbefore (l : Launch) (D : va_G) (cI : ClassId) (q : Nat → Nat) (f : Nat → Int32) (G : Nat → Nat → Int32) {n nu a b : Nat} {tr : Nat → Nat} (hn : n ≤ 4000) (hf : f 2 = nI n) (hnu : nu < 512) (htr : ∀ j, j < n → G 2 j = nI (tr j) ∧ tr j < 512) (hab : a ≤ b) (hb : b ≤ n) : M_Mi l y_M_before b_M_before 6 (some .int) rm_m2 D cI q f G [.int (nI nu), .int (nI a), .int (nI b)] (fun r f' G' => wm_Bf tr nu a b r ∧ mk0 f f' (nI 0) ∧ G' = G) := by
  refine M_ofi rfl (Nat.le_of_ble_eq_true rfl) ?_
  intro p e s m args below meth c ls A E w hl
  have hl : kl ls [some (.ref (q 0)), some (.int (nI nu)), some (.int (nI a)), some (.int (nI b)), none, none] := kl_of _ hl rfl rfl rfl
  refine kl_aload_n 0 E.1 d_M_before_0 hl rfl ?_
  refine kl_iload_n 1 E.1 d_M_before_1 hl rfl ?_
  refine kl_iload_n 2 E.1 d_M_before_2 hl rfl ?_
  refine kl_iload_n 3 E.1 d_M_before_3 hl rfl ?_
  refine n_if_lt 4 E.1 d_M_before_4 (by omega) 14 rfl ?_
  refine kl_iload_n 7 E.1 d_M_before_7 hl rfl ?_
  refine lv_sipush (pc := 8) (v := nI 511) E.1.1 E.1.2.1 d_M_before_8 (by decide) ?_
  refine n_icmp_le 11 (tgt := 18) E.1 d_M_before_11 rfl (by omega) (by omega) (fun h11 => ?_) (fun h11 => ?_)
  · refine lv_iconst (pc := 18) (v := nI 0) E.1.1 E.1.2.1 d_M_before_18 (by decide) ?_
    refine M_ci 19 E w (c_MnoPart l D cI q f G hn hf hab hb) (cv_M_M_noPart E.1.2.2.2 rfl rfl ⟨by decide, by decide⟩) (kl_sz hl) rfl rfl (Nat.le_of_ble_eq_true rfl) d_M_before_19 (fun r f1 G1 H locs hp w => ?_)
    obtain ⟨rfl, hm, e2⟩ := hp
    rw [e2] at w
    refine n_if_eq 22 (tgt := 27) E.1 d_M_before_22 rfl (by decide) (fun h22 => ?_) (fun h22 => ?_)
    · refine lv_iconst (pc := 27) (v := -1) E.1.1 E.1.2.1 d_M_before_27 (by decide) ?_
      refine kl_istore 28 E.1 d_M_before_28 hl (Nat.le_of_ble_eq_true rfl) (fun ls hl => ?_)
      refine kl_iload_n 30 E.1 d_M_before_30 hl rfl ?_
      refine kl_istore 31 E.1 d_M_before_31 hl (Nat.le_of_ble_eq_true rfl) (fun ls hl => ?_)
      refine lp_Mbefore E hn hnu htr hab hb w (fun best ls L hB hl h4 => ?_) (b - a) a (-1) ls rfl (Nat.le_refl _) hab (Or.inl ⟨rfl, fun j h1 h2 => absurd h2 (by omega)⟩) hl
      refine kl_iload 77 E.1 d_M_before_77 hl h4 ?_
      exact M_iret 79 E w d_M_before_79 ⟨hB, hm, rfl⟩
    · exact absurd rfl h22
  · exact absurd h11 (by omega)
section LMplace
variable {p : Program} {l : Launch} {e : Env} {R : Room} {s : State} {m : MethodId} {args : Array Value} {below : List Frame} {meth : Method} {c : Code} {H : Heap} {locs : List Loc} {Q : State → Prop} {ls : Array Slot} {D : va_G} {cI : ClassId} {A : Nat → Prop} {q : Nat → Nat} {f : Nat → Int32} {G : Nat → Nat → Int32}
theorem lp_Mplace {n nu : Nat} {k : Int32} {tr : Nat → Nat} (E : kx_E p s m args c b_M_place R_M 5 meth (some .int) A) (hn : n ≤ 4000) (hf : f 2 = nI n) (hnu : nu < 512) (htr : ∀ j, j < n → G 2 j = nI (tr j) ∧ tr j < 512) (w : kx_M D cI A q f G s H locs)
    (K1 : ∀ (x : Nat) (ls : Array Slot) (L : List (Option Value)), x < n → tr x = nu → k = nI (wm_cn tr (fun v => v == nu) 0 x) → kl ls L → L[4]? = some (some (.int (nI x))) → W p l e R s m args below meth c H locs 0 0 Q (F0 m 64 ls []))
    (K2 : ∀ (ls : Array Slot) (L : List (Option Value)), (∀ c, c < wm_cn tr (fun v => v == nu) 0 n → k ≠ nI c) → kl ls L → L[0]? = some (some (.ref (q 0))) → L.length = 5 → W p l e R s m args below meth c H locs 0 0 Q (F0 m 76 ls [])) :
    ∀ (u x : Nat) (ls : Array Slot), n - x = u → x ≤ n → (∀ c, c < wm_cn tr (fun v => v == nu) 0 x → k ≠ nI c) → kl ls [some (.ref (q 0)), some (.int (nI nu)), some (.int k), some (.int (nI (wm_cn tr (fun v => v == nu) 0 x))), some (.int (nI x))] → W p l e R s m args below meth c H locs 0 0 Q (F0 m 36 ls []) := by
  intro u
  induction u with
  | zero =>
    intro x ls hu hx hc hl
    have : x = n := by omega
    subst this
    refine kl_iload 36 E.1 d_M_place_36 hl rfl ?_
    refine kl_aload_n 38 E.1 d_M_place_38 hl rfl ?_
    refine M_gi 39 E.1 w 2 (by decide) l_M_built d_M_place_39 ?_
    refine n_top (hf) ?_
    refine n_icmp_ge 42 (tgt := 76) E.1 d_M_place_42 rfl (by omega) (by omega) (fun h42 => ?_) (fun h42 => ?_)
    · exact K2 ls _ hc hl rfl rfl
    · exact absurd h42 (by omega)
  | succ u ih =>
    intro x ls hu hx hc hl
    obtain ⟨htk, htl⟩ := htr x (by omega)
    refine kl_iload 36 E.1 d_M_place_36 hl rfl ?_
    refine kl_aload_n 38 E.1 d_M_place_38 hl rfl ?_
    refine M_gi 39 E.1 w 2 (by decide) l_M_built d_M_place_39 ?_
    refine n_top (hf) ?_
    refine n_icmp_ge 42 (tgt := 76) E.1 d_M_place_42 rfl (by omega) (by omega) (fun h42 => ?_) (fun h42 => ?_)
    · exact absurd h42 (by omega)
    · refine kl_aload_n 45 E.1 d_M_place_45 hl rfl ?_
      refine M_ga 46 E.1 w 2 (by decide) l_M_tree d_M_place_46 ?_
      refine kl_iload 49 E.1 d_M_place_49 hl rfl ?_
      refine M_ald 51 E.1 w 2 (by decide) d_M_place_51 (show _ < 4000 by omega) ?_
      refine n_top (htk) ?_
      refine kl_iload_n 52 E.1 d_M_place_52 hl rfl ?_
      refine n_icmp_eq 53 (tgt := 59) E.1 d_M_place_53 rfl (by omega) (by omega) (fun h53 => ?_) (fun h53 => ?_)
      · refine kl_iload_n 59 E.1 d_M_place_59 hl rfl ?_
        refine kl_iload_n 60 E.1 d_M_place_60 hl rfl ?_
        refine lv_icmp_ne (pc := 61) (tgt := 67) E.1.1 E.1.2.1 d_M_place_61 rfl (fun h61 => ?_) (fun h61 => ?_)
        · refine kl_inc1 67 E.1 d_M_place_67 hl rfl (fun ls hl => ?_)
          refine kl_inc1 70 E.1 d_M_place_70 hl rfl (fun ls hl => ?_)
          refine lv_goto (pc := 73) (tgt := 36) E.1.1 E.1.2.1 d_M_place_73 rfl ?_
          have hs := wm_cn_t tr (p := fun v => v == nu) (Nat.zero_le x) (by simp; exact h53)
          refine ih (x + 1) ls (by omega) (by omega) (fun c hc2 => ?_) (by rw [hs]; exact hl)
          rw [hs] at hc2
          rcases Nat.lt_or_ge c (wm_cn tr (fun v => v == nu) 0 x) with g | g
          · exact hc c g
          · have : c = wm_cn tr (fun v => v == nu) 0 x := by omega
            rw [this]; exact fun e => h61 e.symm
        · exact K1 x ls _ (by omega) h53 h61.symm hl rfl
      · refine lv_goto (pc := 56) (tgt := 70) E.1.1 E.1.2.1 d_M_place_56 rfl ?_
        refine kl_inc1 70 E.1 d_M_place_70 hl rfl (fun ls hl => ?_)
        refine lv_goto (pc := 73) (tgt := 36) E.1.1 E.1.2.1 d_M_place_73 rfl ?_
        have hs := wm_cn_f tr (p := fun v => v == nu) (Nat.zero_le x) (by simp; exact h53)
        exact ih (x + 1) ls (by omega) (by omega) (by rw [hs]; exact hc) (by rw [hs]; exact hl)
end LMplace

theorem c_Mplace (l : Launch) (D : va_G) (cI : ClassId) (q : Nat → Nat) (f : Nat → Int32) (G : Nat → Nat → Int32) {n nu : Nat} {k : Int32} {tr : Nat → Nat} (hn : n ≤ 4000) (hf : f 2 = nI n) (hnu : nu < 512) (htr : ∀ j, j < n → G 2 j = nI (tr j) ∧ tr j < 512) : M_Mi l y_M_place b_M_place 5 (some .int) rm_m2 D cI q f G [.int (nI nu), .int k]
    (fun r f' G' => ((∃ x, r = nI x ∧ x < n ∧ tr x = nu ∧ k = nI (wm_cn tr (fun v => v == nu) 0 x) ∧ mk0 f f' (nI 0)) ∨ ((∀ c, c < wm_cn tr (fun v => v == nu) 0 n → k ≠ nI c) ∧ mk0 f f' (nI 2))) ∧ G' = G) := by
  refine M_ofi rfl (Nat.le_of_ble_eq_true rfl) ?_
  intro p e s m args below meth c ls A E w hl
  have hl : kl ls [some (.ref (q 0)), some (.int (nI nu)), some (.int k), none, none] := kl_of _ hl rfl rfl rfl
  refine kl_aload_n 0 E.1 d_M_place_0 hl rfl ?_
  refine lv_iconst (pc := 1) (v := nI 0) E.1.1 E.1.2.1 d_M_place_1 (by decide) ?_
  refine M_pi 2 E.1 w 0 (by decide) l_M_thrown d_M_place_2 (fun H locs w => ?_)
  refine kl_aload_n 5 E.1 d_M_place_5 hl rfl ?_
  refine lv_iconst (pc := 6) (v := nI 1) E.1.1 E.1.2.1 d_M_place_6 (by decide) ?_
  refine kl_iload_n 7 E.1 d_M_place_7 hl rfl ?_
  refine n_if_lt 8 E.1 d_M_place_8 (by omega) 18 rfl ?_
  refine kl_iload_n 11 E.1 d_M_place_11 hl rfl ?_
  refine lv_sipush (pc := 12) (v := nI 511) E.1.1 E.1.2.1 d_M_place_12 (by decide) ?_
  refine n_icmp_le 15 (tgt := 22) E.1 d_M_place_15 rfl (by omega) (by omega) (fun h15 => ?_) (fun h15 => ?_)
  · refine lv_iconst (pc := 22) (v := nI 0) E.1.1 E.1.2.1 d_M_place_22 (by decide) ?_
    refine M_ci 23 E w (c_Mrefuse l D cI q (upd f 0 (nI 0)) G (nI 1) false) (cv_M_M_refuse E.1.2.2.2 rfl rfl ⟨by decide, by decide⟩) (kl_sz hl) rfl rfl (Nat.le_of_ble_eq_true rfl) d_M_place_23 (fun r f1 G1 H locs hp w => ?_)
    obtain ⟨rfl, hm, e2⟩ := hp
    rw [e2] at w
    refine n_if_eq 26 (tgt := 31) E.1 d_M_place_26 rfl (by decide) (fun h26 => ?_) (fun h26 => ?_)
    · refine lv_iconst (pc := 31) (v := nI 0) E.1.1 E.1.2.1 d_M_place_31 (by decide) ?_
      refine kl_istore_n 32 E.1 d_M_place_32 hl (Nat.le_of_ble_eq_true rfl) (fun ls hl => ?_)
      refine lv_iconst (pc := 33) (v := nI 0) E.1.1 E.1.2.1 d_M_place_33 (by decide) ?_
      refine kl_istore 34 E.1 d_M_place_34 hl (Nat.le_of_ble_eq_true rfl) (fun ls hl => ?_)
      refine lp_Mplace E hn ((hm.2 2 (by decide)).trans hf) hnu htr w (fun x ls L hx1 hx2 hx3 hl h4 => ?_) (fun ls L hc hl h0 hL => ?_) n 0 ls rfl (Nat.zero_le _) (fun c hc => absurd hc (by rw [wm_cn_self]; omega)) (by rw [wm_cn_self]; exact hl)
      · refine kl_iload 64 E.1 d_M_place_64 hl h4 ?_
        exact M_iret 66 E w d_M_place_66 ⟨Or.inl ⟨x, rfl, hx1, hx2, hx3, hm.up⟩, rfl⟩
      · refine kl_aload_n 76 E.1 d_M_place_76 hl h0 ?_
        refine lv_iconst (pc := 77) (v := nI 2) E.1.1 E.1.2.1 d_M_place_77 (by decide) ?_
        refine lv_iconst (pc := 78) (v := nI 1) E.1.1 E.1.2.1 d_M_place_78 (by decide) ?_
        refine M_ci 79 E w (c_Mrefuse l D cI q f1 G (nI 2) true) (cv_M_M_refuse E.1.2.2.2 rfl rfl ⟨by decide, by decide⟩) ((kl_sz hl).trans hL) rfl rfl (Nat.le_of_ble_eq_true rfl) d_M_place_79 (fun r f2 G2 H locs hp w => ?_)
        obtain ⟨rfl, hm2, e2⟩ := hp
        rw [e2] at w
        refine lv_pop (pc := 82) E.1.1 E.1.2.1 d_M_place_82 rfl ?_
        refine lv_iconst (pc := 83) (v := nI 0) E.1.1 E.1.2.1 d_M_place_83 (by decide) ?_
        exact M_iret 84 E w d_M_place_84 ⟨Or.inr ⟨hc, hm2.1, fun j hj => (hm2.2 j hj).trans (hm.up.2 j hj)⟩, rfl⟩
    · exact absurd rfl h26
  · exact absurd h15 (by omega)
theorem c_Mplace_b (l : Launch) (D : va_G) (cI : ClassId) (q : Nat → Nat) (f : Nat → Int32) (G : Nat → Nat → Int32) {v k : Int32} (hbad : ¬ (0 ≤ v ∧ v ≤ nI 511)) : M_Mi l y_M_place b_M_place 5 (some .int) rm_m2 D cI q f G [.int v, .int k] (fun r f' G' => mk0 f f' (nI 1) ∧ G' = G) := by
  refine M_ofi rfl (Nat.le_of_ble_eq_true rfl) ?_
  intro p e s m args below meth c ls A E w hl
  have hl : kl ls [some (.ref (q 0)), some (.int v), some (.int k), none, none] := kl_of _ hl rfl rfl rfl
  refine kl_aload_n 0 E.1 d_M_place_0 hl rfl ?_
  refine lv_iconst (pc := 1) (v := nI 0) E.1.1 E.1.2.1 d_M_place_1 (by decide) ?_
  refine M_pi 2 E.1 w 0 (by decide) l_M_thrown d_M_place_2 (fun H locs w => ?_)
  refine kl_aload_n 5 E.1 d_M_place_5 hl rfl ?_
  refine lv_iconst (pc := 6) (v := nI 1) E.1.1 E.1.2.1 d_M_place_6 (by decide) ?_
  refine kl_iload_n 7 E.1 d_M_place_7 hl rfl ?_
  refine lv_if_lt (pc := 8) (tgt := 18) E.1.1 E.1.2.1 d_M_place_8 rfl (fun h8 => ?_) (fun h8 => ?_)
  · refine lv_iconst (pc := 18) (v := nI 1) E.1.1 E.1.2.1 d_M_place_18 (by decide) ?_
    refine lv_goto (pc := 19) (tgt := 23) E.1.1 E.1.2.1 d_M_place_19 rfl ?_
    refine M_ci 23 E w (c_Mrefuse l D cI q (upd f 0 (nI 0)) G (nI 1) true) (cv_M_M_refuse E.1.2.2.2 rfl rfl ⟨by decide, by decide⟩) (kl_sz hl) rfl rfl (Nat.le_of_ble_eq_true rfl) d_M_place_23 (fun r f1 G1 H locs hp w => ?_)
    obtain ⟨rfl, hm, e2⟩ := hp
    rw [e2] at w
    refine n_if_eq 26 (tgt := 31) E.1 d_M_place_26 rfl (by decide) (fun h26 => ?_) (fun h26 => ?_)
    · exact absurd h26 (by decide)
    · refine lv_iconst (pc := 29) (v := nI 0) E.1.1 E.1.2.1 d_M_place_29 (by decide) ?_
      exact M_iret 30 E w d_M_place_30 ⟨hm.up, rfl⟩
  · refine kl_iload_n 11 E.1 d_M_place_11 hl rfl ?_
    refine lv_sipush (pc := 12) (v := nI 511) E.1.1 E.1.2.1 d_M_place_12 (by decide) ?_
    refine lv_icmp_le (pc := 15) (tgt := 22) E.1.1 E.1.2.1 d_M_place_15 rfl (fun h15 => ?_) (fun h15 => ?_)
    · exact absurd ⟨Int32.not_lt.mp h8, h15⟩ hbad
    · refine lv_iconst (pc := 18) (v := nI 1) E.1.1 E.1.2.1 d_M_place_18 (by decide) ?_
      refine lv_goto (pc := 19) (tgt := 23) E.1.1 E.1.2.1 d_M_place_19 rfl ?_
      refine M_ci 23 E w (c_Mrefuse l D cI q (upd f 0 (nI 0)) G (nI 1) true) (cv_M_M_refuse E.1.2.2.2 rfl rfl ⟨by decide, by decide⟩) (kl_sz hl) rfl rfl (Nat.le_of_ble_eq_true rfl) d_M_place_23 (fun r f1 G1 H locs hp w => ?_)
      obtain ⟨rfl, hm, e2⟩ := hp
      rw [e2] at w
      refine n_if_eq 26 (tgt := 31) E.1 d_M_place_26 rfl (by decide) (fun h26 => ?_) (fun h26 => ?_)
      · exact absurd h26 (by decide)
      · refine lv_iconst (pc := 29) (v := nI 0) E.1.1 E.1.2.1 d_M_place_29 (by decide) ?_
        exact M_iret 30 E w d_M_place_30 ⟨hm.up, rfl⟩
end
section
/-! the model: counted, least, different, most -/
section LMc1
variable {p : Program} {l : Launch} {e : Env} {R : Room} {s : State} {m : MethodId} {args : Array Value} {below : List Frame} {meth : Method} {c : Code} {H : Heap} {locs : List Loc} {Q : State → Prop} {ls : Array Slot} {D : va_G} {cI : ClassId} {A : Nat → Prop} {q : Nat → Nat} {f : Nat → Int32} {G : Nat → Nat → Int32}
theorem lp_Mc1 {a b : Nat} (E : kx_E p s m args c b_M_counted R_M 4 meth none A)
    (K : ∀ (G' : Nat → Nat → Int32) (H : Heap) (locs : List Loc) (ls : Array Slot) (x3 : Option Value), (∀ j, j ≠ 3 → G' j = G j) → (∀ j, j < 512 → G' 3 j = nI 0) → kx_M D cI A q f G' s H locs → kl ls [some (.ref (q 0)), some (.int (nI a)), some (.int (nI b)), x3] → W p l e R s m args below meth c H locs 0 0 Q (F0 m 22 ls [])) :
    ∀ (u i : Nat) (G' : Nat → Nat → Int32) (H : Heap) (locs : List Loc) (ls : Array Slot), 512 - i = u → i ≤ 512 → (∀ j, j ≠ 3 → G' j = G j) → (∀ j, j < i → G' 3 j = nI 0) → kx_M D cI A q f G' s H locs → kl ls [some (.ref (q 0)), some (.int (nI a)), some (.int (nI b)), some (.int (nI i))] → W p l e R s m args below meth c H locs 0 0 Q (F0 m 2 ls []) := by
  intro u
  induction u with
  | zero =>
    intro i G' H locs ls hu hi hg h2 w hl
    have : i = 512 := by omega
    subst this
    refine kl_iload_n 2 E.1 d_M_counted_2 hl rfl ?_
    refine lv_sipush (pc := 3) (v := nI 512) E.1.1 E.1.2.1 d_M_counted_3 (by decide) ?_
    refine n_icmp_ge 6 (tgt := 22) E.1 d_M_counted_6 rfl (by omega) (by omega) (fun h6 => ?_) (fun h6 => ?_)
    · exact K G' H locs ls _ hg h2 w hl
    · exact absurd h6 (by omega)
  | succ u ih =>
    intro i G' H locs ls hu hi hg h2 w hl
    refine kl_iload_n 2 E.1 d_M_counted_2 hl rfl ?_
    refine lv_sipush (pc := 3) (v := nI 512) E.1.1 E.1.2.1 d_M_counted_3 (by decide) ?_
    refine n_icmp_ge 6 (tgt := 22) E.1 d_M_counted_6 rfl (by omega) (by omega) (fun h6 => ?_) (fun h6 => ?_)
    · exact absurd h6 (by omega)
    · refine kl_aload_n 9 E.1 d_M_counted_9 hl rfl ?_
      refine M_ga 10 E.1 w 3 (by decide) l_M_counts d_M_counted_10 ?_
      refine kl_iload_n 13 E.1 d_M_counted_13 hl rfl ?_
      refine lv_iconst (pc := 14) (v := nI 0) E.1.1 E.1.2.1 d_M_counted_14 (by decide) ?_
      refine M_ast 15 E.1 w 3 (by decide) d_M_counted_15 (show _ < 512 by omega) (fun H locs w => ?_)
      refine kl_inc1 16 E.1 d_M_counted_16 hl rfl (fun ls hl => ?_)
      refine lv_goto (pc := 19) (tgt := 2) E.1.1 E.1.2.1 d_M_counted_19 rfl ?_
      refine ih (i + 1) _ H locs ls (by omega) (by omega) ?_ ?_ w hl
      · exact fun j g2 => (va_up_ne _ _ g2).trans (hg j g2)
      · intro j hj
        show upd (G' 3) i _ j = _
        rcases Nat.lt_or_ge j i with g | g
        · rw [pk_un (by omega)]; exact h2 j g
        · have : j = i := by omega
          subst this
          rw [pk_us]
end LMc1

section LMc2
variable {p : Program} {l : Launch} {e : Env} {R : Room} {s : State} {m : MethodId} {args : Array Value} {below : List Frame} {meth : Method} {c : Code} {H : Heap} {locs : List Loc} {Q : State → Prop} {ls : Array Slot} {D : va_G} {cI : ClassId} {A : Nat → Prop} {q : Nat → Nat} {f : Nat → Int32} {G : Nat → Nat → Int32}
theorem lp_Mc2 {n a b : Nat} {tr : Nat → Nat} (E : kx_E p s m args c b_M_counted R_M 4 meth none A) (hn : n ≤ 4000) (htr : ∀ j, j < n → G 2 j = nI (tr j) ∧ tr j < 512) (hab : a ≤ b) (hb : b ≤ n)
    (K : ∀ (G' : Nat → Nat → Int32) (H : Heap) (locs : List Loc) (ls : Array Slot), (∀ j, j ≠ 3 → G' j = G j) → (∀ v, v < 512 → G' 3 v = nI (wm_cn tr (fun x => x == v) a b)) → kx_M D cI A q f G' s H locs → W p l e R s m args below meth c H locs 0 0 Q (F0 m 50 ls [])) :
    ∀ (u k : Nat) (G' : Nat → Nat → Int32) (H : Heap) (locs : List Loc) (ls : Array Slot), b - k = u → a ≤ k → k ≤ b → (∀ j, j ≠ 3 → G' j = G j) → (∀ v, v < 512 → G' 3 v = nI (wm_cn tr (fun x => x == v) a k)) → kx_M D cI A q f G' s H locs → kl ls [some (.ref (q 0)), some (.int (nI a)), some (.int (nI b)), some (.int (nI k))] → W p l e R s m args below meth c H locs 0 0 Q (F0 m 24 ls []) := by
  intro u
  induction u with
  | zero =>
    intro k G' H locs ls hu hk1 hk hg h3 w hl
    have : k = b := by omega
    subst this
    refine kl_iload_n 24 E.1 d_M_counted_24 hl rfl ?_
    refine kl_iload_n 25 E.1 d_M_counted_25 hl rfl ?_
    refine n_icmp_ge 26 (tgt := 50) E.1 d_M_counted_26 rfl (by omega) (by omega) (fun h26 => ?_) (fun h26 => ?_)
    · exact K G' H locs ls hg h3 w
    · exact absurd h26 (by omega)
  | succ u ih =>
    intro k G' H locs ls hu hk1 hk hg h3 w hl
    obtain ⟨htk, htl⟩ := htr k (by omega)
    have htk' : G' 2 k = nI (tr k) := by rw [hg 2 (by decide)]; exact htk
    refine kl_iload_n 24 E.1 d_M_counted_24 hl rfl ?_
    refine kl_iload_n 25 E.1 d_M_counted_25 hl rfl ?_
    refine n_icmp_ge 26 (tgt := 50) E.1 d_M_counted_26 rfl (by omega) (by omega) (fun h26 => ?_) (fun h26 => ?_)
    · exact absurd h26 (by omega)
    · refine kl_aload_n 29 E.1 d_M_counted_29 hl rfl ?_
      refine M_ga 30 E.1 w 3 (by decide) l_M_counts d_M_counted_30 ?_
      refine kl_aload_n 33 E.1 d_M_counted_33 hl rfl ?_
      refine M_ga 34 E.1 w 2 (by decide) l_M_tree d_M_counted_34 ?_
      refine kl_iload_n 37 E.1 d_M_counted_37 hl rfl ?_
      refine M_ald 38 E.1 w 2 (by decide) d_M_counted_38 (show _ < 4000 by omega) ?_
      refine n_top (htk') ?_
      refine lv_dup2_11 (pc := 39) E.1.1 E.1.2.1 d_M_counted_39 rfl rfl ?_
      refine M_ald 40 E.1 w 3 (by decide) d_M_counted_40 (show _ < 512 by omega) ?_
      refine n_top (h3 (tr k) htl) ?_
      refine lv_iconst (pc := 41) (v := nI 1) E.1.1 E.1.2.1 d_M_counted_41 (by decide) ?_
      refine n_iadd 42 E.1 d_M_counted_42 ?_
      refine M_ast 43 E.1 w 3 (by decide) d_M_counted_43 (show _ < 512 by omega) (fun H locs w => ?_)
      refine kl_inc1 44 E.1 d_M_counted_44 hl rfl (fun ls hl => ?_)
      refine lv_goto (pc := 47) (tgt := 24) E.1.1 E.1.2.1 d_M_counted_47 rfl ?_
      refine ih (k + 1) _ H locs ls (by omega) (by omega) (by omega) ?_ ?_ w hl
      · exact fun j g2 => (va_up_ne _ _ g2).trans (hg j g2)
      · intro v hv
        show upd (G' 3) (tr k) _ v = _
        by_cases hvk : v = tr k
        · subst hvk
          rw [pk_us, wm_cn_t tr hk1 (by simp)]
        · rw [pk_un hvk, wm_cn_f tr hk1 (by simp; omega)]; exact h3 v hv
end LMc2

theorem c_Mcounted (l : Launch) (D : va_G) (cI : ClassId) (q : Nat → Nat) (f : Nat → Int32) (G : Nat → Nat → Int32) {n a b : Nat} {tr : Nat → Nat} (hn : n ≤ 4000) (htr : ∀ j, j < n → G 2 j = nI (tr j) ∧ tr j < 512) (hab : a ≤ b) (hb : b ≤ n) : M_Mv l y_M_counted b_M_counted 4 rm_0 D cI q f G [.int (nI a), .int (nI b)] (fun f' G' => f' = f ∧ (∀ j, j ≠ 3 → G' j = G j) ∧ ∀ v, v < 512 → G' 3 v = nI (wm_cn tr (fun x => x == v) a b)) := by
  refine M_ofv rfl (Nat.le_of_ble_eq_true rfl) ?_
  intro p e s m args below meth c ls A E w hl
  have hl : kl ls [some (.ref (q 0)), some (.int (nI a)), some (.int (nI b)), none] := kl_of _ hl rfl rfl rfl
  refine lv_iconst (pc := 0) (v := nI 0) E.1.1 E.1.2.1 d_M_counted_0 (by decide) ?_
  refine kl_istore_n 1 E.1 d_M_counted_1 hl (Nat.le_of_ble_eq_true rfl) (fun ls hl => ?_)
  refine lp_Mc1 E (fun Ga H locs ls x3 ga ga3 w hl => ?_) 512 0 G s.heap [] ls rfl (Nat.zero_le _) (fun _ _ => rfl) (fun j hj => absurd hj (Nat.not_lt_zero j)) w hl
  refine kl_iload_n 22 E.1 d_M_counted_22 hl rfl ?_
  refine kl_istore_n 23 E.1 d_M_counted_23 hl (Nat.le_of_ble_eq_true rfl) (fun ls hl => ?_)
  refine lp_Mc2 (G := Ga) E hn (fun j hj => by rw [ga 2 (by decide)]; exact htr j hj) hab hb (fun Gb H locs ls gb gb3 w => ?_) (b - a) a Ga H locs ls rfl (Nat.le_refl _) hab (fun _ _ => rfl) (fun v hv => by rw [wm_cn_self]; exact ga3 v hv) w hl
  exact M_vret 50 E w d_M_counted_50 ⟨rfl, fun j hj => (gb j hj).trans (ga j hj), gb3⟩
section LMleast
variable {p : Program} {l : Launch} {e : Env} {R : Room} {s : State} {m : MethodId} {args : Array Value} {below : List Frame} {meth : Method} {c : Code} {H : Heap} {locs : List Loc} {Q : State → Prop} {ls : Array Slot} {D : va_G} {cI : ClassId} {A : Nat → Prop} {q : Nat → Nat} {f : Nat → Int32} {G : Nat → Nat → Int32}
theorem lp_Mleast {n a b k : Nat} {tr : Nat → Nat} (E : kx_E p s m args c b_M_least R_M 6 meth (some .int) A) (hn : n ≤ 4000) (htr : ∀ j, j < n → tr j < 512) (hab : a ≤ b) (hb : b ≤ n) (hk : k < b - a) (hc : ∀ v, v < 512 → G 3 v = nI (wm_cn tr (fun x => x == v) a b)) (w : kx_M D cI A q f G s H locs)
    (K : ∀ (v : Nat) (ls : Array Slot) (L : List (Option Value)), wm_Qt tr a b k v → kl ls L → L[5]? = some (some (.int (nI v))) → W p l e R s m args below meth c H locs 0 0 Q (F0 m 78 ls [])) :
    ∀ (u v left : Nat) (ls : Array Slot), 512 - v = u → v ≤ 512 → left + wm_cn tr (fun x => decide (x < v)) a b = k → kl ls [some (.ref (q 0)), some (.int (nI a)), some (.int (nI b)), some (.int (nI k)), some (.int (nI left)), some (.int (nI v))] → W p l e R s m args below meth c H locs 0 0 Q (F0 m 48 ls []) := by
  intro u
  induction u with
  | zero =>
    intro v left ls hu hv hleft hl
    have : v = 512 := by omega
    subst this
    rw [wm_cn_congr (g := tr) (p' := fun _ => true) hab (fun j h1 h2 => decide_eq_true (htr j (by omega))), wm_cn_all _ hab] at hleft
    omega
  | succ u ih =>
    intro v left ls hu hv hleft hl
    have hcv := hc v (by omega)
    have hs := wm_lt_1 tr (v := v) hab
    have hle := wm_cn_le tr (fun x => x == v) hab
    refine kl_iload 48 E.1 d_M_least_48 hl rfl ?_
    refine kl_aload_n 50 E.1 d_M_least_50 hl rfl ?_
    refine M_ga 51 E.1 w 3 (by decide) l_M_counts d_M_least_51 ?_
    refine kl_iload 54 E.1 d_M_least_54 hl rfl ?_
    refine M_ald 56 E.1 w 3 (by decide) d_M_least_56 (show _ < 512 by omega) ?_
    refine n_top (hcv) ?_
    refine n_icmp_lt 57 (tgt := 78) E.1 d_M_least_57 rfl (by omega) (by omega) (fun h57 => ?_) (fun h57 => ?_)
    · exact K v ls _ ⟨by omega, by omega, by omega⟩ hl rfl
    · refine kl_iload 60 E.1 d_M_least_60 hl rfl ?_
      refine kl_aload_n 62 E.1 d_M_least_62 hl rfl ?_
      refine M_ga 63 E.1 w 3 (by decide) l_M_counts d_M_least_63 ?_
      refine kl_iload 66 E.1 d_M_least_66 hl rfl ?_
      refine M_ald 68 E.1 w 3 (by decide) d_M_least_68 (show _ < 512 by omega) ?_
      refine n_top (hcv) ?_
      refine n_isub 69 E.1 d_M_least_69 (by omega) ?_
      refine kl_istore 70 E.1 d_M_least_70 hl (Nat.le_of_ble_eq_true rfl) (fun ls hl => ?_)
      refine kl_inc1 72 E.1 d_M_least_72 hl rfl (fun ls hl => ?_)
      refine lv_goto (pc := 75) (tgt := 48) E.1.1 E.1.2.1 d_M_least_75 rfl ?_
      exact ih (v + 1) _ ls (by omega) (by omega) (by rw [hs]; omega) hl
end LMleast

theorem c_Mleast (l : Launch) (D : va_G) (cI : ClassId) (q : Nat → Nat) (f : Nat → Int32) (G : Nat → Nat → Int32) {n a b k : Nat} {tr : Nat → Nat} (hn : n ≤ 4000) (hf : f 2 = nI n) (htr : ∀ j, j < n → G 2 j = nI (tr j) ∧ tr j < 512) (hab : a ≤ b) (hb : b ≤ n) (hk : k < b - a) : M_Mi l y_M_least b_M_least 6 (some .int) rm_m2 D cI q f G [.int (nI a), .int (nI b), .int (nI k)] (fun r f' G' => (∃ v, r = nI v ∧ wm_Qt tr a b k v) ∧ mk0 f f' (nI 0) ∧ ∀ j, j ≠ 3 → G' j = G j) := by
  refine M_ofi rfl (Nat.le_of_ble_eq_true rfl) ?_
  intro p e s m args below meth c ls A E w hl
  have hl : kl ls [some (.ref (q 0)), some (.int (nI a)), some (.int (nI b)), some (.int (nI k)), none, none] := kl_of _ hl rfl rfl rfl
  refine kl_aload_n 0 E.1 d_M_least_0 hl rfl ?_
  refine kl_iload_n 1 E.1 d_M_least_1 hl rfl ?_
  refine kl_iload_n 2 E.1 d_M_least_2 hl rfl ?_
  refine lv_iconst (pc := 3) (v := nI 0) E.1.1 E.1.2.1 d_M_least_3 (by decide) ?_
  refine M_ci 4 E w (c_MnoPart l D cI q f G hn hf hab hb) (cv_M_M_noPart E.1.2.2.2 rfl rfl ⟨by decide, by decide⟩) (kl_sz hl) rfl rfl (Nat.le_of_ble_eq_true rfl) d_M_least_4 (fun r f1 G1 H locs hp w => ?_)
  obtain ⟨rfl, hm, e2⟩ := hp
  rw [e2] at w
  refine n_if_ne 7 (tgt := 34) E.1 d_M_least_7 rfl (by decide) (fun h7 => ?_) (fun h7 => ?_)
  · exact absurd rfl h7
  · refine kl_aload_n 10 E.1 d_M_least_10 hl rfl ?_
    refine lv_iconst (pc := 11) (v := nI 2) E.1.1 E.1.2.1 d_M_least_11 (by decide) ?_
    refine kl_iload_n 12 E.1 d_M_least_12 hl rfl ?_
    refine n_if_lt 13 E.1 d_M_least_13 (by omega) 23 rfl ?_
    refine kl_iload_n 16 E.1 d_M_least_16 hl rfl ?_
    refine kl_iload_n 17 E.1 d_M_least_17 hl rfl ?_
    refine kl_iload_n 18 E.1 d_M_least_18 hl rfl ?_
    refine n_isub 19 E.1 d_M_least_19 (by omega) ?_
    refine n_icmp_lt 20 (tgt := 27) E.1 d_M_least_20 rfl (by omega) (by omega) (fun h20 => ?_) (fun h20 => ?_)
    · refine lv_iconst (pc := 27) (v := nI 0) E.1.1 E.1.2.1 d_M_least_27 (by decide) ?_
      refine M_ci 28 E w (c_Mrefuse l D cI q f1 G (nI 2) false) (cv_M_M_refuse E.1.2.2.2 rfl rfl ⟨by decide, by decide⟩) (kl_sz hl) rfl rfl (Nat.le_of_ble_eq_true rfl) d_M_least_28 (fun r f2 G2 H locs hp w => ?_)
      obtain ⟨rfl, hm2, e2⟩ := hp
      rw [e2] at w
      refine n_if_eq 31 (tgt := 36) E.1 d_M_least_31 rfl (by decide) (fun h31 => ?_) (fun h31 => ?_)
      · refine kl_aload_n 36 E.1 d_M_least_36 hl rfl ?_
        refine kl_iload_n 37 E.1 d_M_least_37 hl rfl ?_
        refine kl_iload_n 38 E.1 d_M_least_38 hl rfl ?_
        refine M_cv 39 E w (c_Mcounted l D cI q f2 G hn htr hab hb) (cv_M_M_counted E.1.2.2.2 rfl rfl ⟨by decide, by decide⟩) (kl_sz hl) rfl rfl (Nat.le_of_ble_eq_true rfl) d_M_least_39 (fun f9 Gc H locs hp w => ?_)
        obtain ⟨e1, gc, hc⟩ := hp
        rw [e1] at w
        refine kl_iload_n 42 E.1 d_M_least_42 hl rfl ?_
        refine kl_istore 43 E.1 d_M_least_43 hl (Nat.le_of_ble_eq_true rfl) (fun ls hl => ?_)
        refine lv_iconst (pc := 45) (v := nI 0) E.1.1 E.1.2.1 d_M_least_45 (by decide) ?_
        refine kl_istore 46 E.1 d_M_least_46 hl (Nat.le_of_ble_eq_true rfl) (fun ls hl => ?_)
        refine lp_Mleast E hn (fun j hj => (htr j hj).2) hab hb hk hc w (fun v ls L hQ hl h5 => ?_) 512 0 k ls rfl (Nat.zero_le _) (by rw [wm_cn_none tr hab (fun v => decide_eq_false (Nat.not_lt_zero v))]; rfl) hl
        refine kl_iload 78 E.1 d_M_least_78 hl h5 ?_
        exact M_iret 80 E w d_M_least_80 ⟨⟨v, rfl, hQ⟩, ⟨hm2.1.trans hm.1, fun j hj => (hm2.2 j hj).trans (hm.2 j hj)⟩, gc⟩
      · exact absurd rfl h31
    · exact absurd h20 (by omega)
section LMdiff
variable {p : Program} {l : Launch} {e : Env} {R : Room} {s : State} {m : MethodId} {args : Array Value} {below : List Frame} {meth : Method} {c : Code} {H : Heap} {locs : List Loc} {Q : State → Prop} {ls : Array Slot} {D : va_G} {cI : ClassId} {A : Nat → Prop} {q : Nat → Nat} {f : Nat → Int32} {G : Nat → Nat → Int32}
theorem lp_Mdiff {a b : Nat} {tr : Nat → Nat} (E : kx_E p s m args c b_M_different R_M 4 meth (some .int) A) (hab : a ≤ b) (hb4 : b ≤ 4000) (hc : ∀ v, v < 512 → G 3 v = nI (wm_cn tr (fun x => x == v) a b))
    (K : ∀ (f' : Nat → Int32) (G' : Nat → Nat → Int32) (H : Heap) (locs : List Loc) (ls : Array Slot) (L : List (Option Value)), (∀ j, j ≠ 3 → f' j = f j) → f' 3 = nI (wm_Sn (fun v => wm_cn tr (fun x => x == v) a b) 512) → (∀ j, j ≠ 4 → j ≠ 5 → G' j = G j) → wm_Fd (fun v => wm_cn tr (fun x => x == v) a b) (G' 4) (G' 5) 512 → kx_M D cI A q f' G' s H locs → kl ls L → L[0]? = some (some (.ref (q 0))) → W p l e R s m args below meth c H locs 0 0 Q (F0 m 82 ls [])) :
    ∀ (u v : Nat) (f' : Nat → Int32) (G' : Nat → Nat → Int32) (H : Heap) (locs : List Loc) (ls : Array Slot), 512 - v = u → v ≤ 512 → (∀ j, j ≠ 3 → f' j = f j) → f' 3 = nI (wm_Sn (fun v => wm_cn tr (fun x => x == v) a b) v) → (∀ j, j ≠ 4 → j ≠ 5 → G' j = G j) → wm_Fd (fun v => wm_cn tr (fun x => x == v) a b) (G' 4) (G' 5) v → kx_M D cI A q f' G' s H locs →
      kl ls [some (.ref (q 0)), some (.int (nI a)), some (.int (nI b)), some (.int (nI v))] → W p l e R s m args below meth c H locs 0 0 Q (F0 m 25 ls []) := by
  generalize hcd : (fun v => wm_cn tr (fun x => x == v) a b) = cnt at K ⊢
  have hc' : ∀ v, v < 512 → G 3 v = nI (cnt v) := fun v hv => by rw [← hcd]; exact hc v hv
  have hcl : ∀ v, cnt v ≤ 4000 := fun v => by rw [← hcd]; exact Nat.le_trans (wm_cn_le _ _ hab) (by omega)
  intro u
  induction u with
  | zero =>
    intro v f' G' H locs ls hu hv hfo h3 hg hF w hl
    have : v = 512 := by omega
    subst this
    refine kl_iload_n 25 E.1 d_M_different_25 hl rfl ?_
    refine lv_sipush (pc := 26) (v := nI 512) E.1.1 E.1.2.1 d_M_different_26 (by decide) ?_
    refine n_icmp_ge 29 (tgt := 82) E.1 d_M_different_29 rfl (by omega) (by omega) (fun h29 => ?_) (fun h29 => ?_)
    · exact K f' G' H locs ls _ hfo h3 hg hF w hl rfl
    · exact absurd h29 (by omega)
  | succ u ih =>
    intro v f' G' H locs ls hu hv hfo h3 hg hF w hl
    have hcv : G' 3 v = nI (cnt v) := by rw [hg 3 (by decide) (by decide)]; exact hc' v (by omega)
    have hSl := wm_Sn_le cnt v
    have hcl' := hcl v
    refine kl_iload_n 25 E.1 d_M_different_25 hl rfl ?_
    refine lv_sipush (pc := 26) (v := nI 512) E.1.1 E.1.2.1 d_M_different_26 (by decide) ?_
    refine n_icmp_ge 29 (tgt := 82) E.1 d_M_different_29 rfl (by omega) (by omega) (fun h29 => ?_) (fun h29 => ?_)
    · exact absurd h29 (by omega)
    · refine kl_aload_n 32 E.1 d_M_different_32 hl rfl ?_
      refine M_ga 33 E.1 w 3 (by decide) l_M_counts d_M_different_33 ?_
      refine kl_iload_n 36 E.1 d_M_different_36 hl rfl ?_
      refine M_ald 37 E.1 w 3 (by decide) d_M_different_37 (show _ < 512 by omega) ?_
      refine n_top (hcv) ?_
      refine n_if_ne 38 (tgt := 44) E.1 d_M_different_38 rfl (by omega) (fun h38 => ?_) (fun h38 => ?_)
      · refine kl_aload_n 44 E.1 d_M_different_44 hl rfl ?_
        refine M_ga 45 E.1 w 4 (by decide) l_M_told d_M_different_45 ?_
        refine kl_aload_n 48 E.1 d_M_different_48 hl rfl ?_
        refine M_gi 49 E.1 w 3 (by decide) l_M_tolds d_M_different_49 ?_
        refine n_top (h3) ?_
        refine kl_iload_n 52 E.1 d_M_different_52 hl rfl ?_
        refine M_ast 53 E.1 w 4 (by decide) d_M_different_53 (show _ < 512 by omega) (fun H locs w => ?_)
        refine kl_aload_n 54 E.1 d_M_different_54 hl rfl ?_
        refine M_ga 55 E.1 w 5 (by decide) l_M_toldOften d_M_different_55 ?_
        refine kl_aload_n 58 E.1 d_M_different_58 hl rfl ?_
        refine lv_dup (pc := 59) E.1.1 E.1.2.1 d_M_different_59 rfl ?_
        refine M_gi 60 E.1 w 3 (by decide) l_M_tolds d_M_different_60 ?_
        refine n_top (h3) ?_
        refine lv_dup_x1 (pc := 63) E.1.1 E.1.2.1 d_M_different_63 rfl rfl ?_
        refine lv_iconst (pc := 64) (v := nI 1) E.1.1 E.1.2.1 d_M_different_64 (by decide) ?_
        refine n_iadd 65 E.1 d_M_different_65 ?_
        refine M_pi 66 E.1 w 3 (by decide) l_M_tolds d_M_different_66 (fun H locs w => ?_)
        refine kl_aload_n 69 E.1 d_M_different_69 hl rfl ?_
        refine M_ga 70 E.1 w 3 (by decide) l_M_counts d_M_different_70 ?_
        refine kl_iload_n 73 E.1 d_M_different_73 hl rfl ?_
        refine M_ald 74 E.1 w 3 (by decide) d_M_different_74 (show _ < 512 by omega) ?_
        refine n_top (hcv) ?_
        refine M_ast 75 E.1 w 5 (by decide) d_M_different_75 (show _ < 512 by omega) (fun H locs w => ?_)
        refine kl_inc1 76 E.1 d_M_different_76 hl rfl (fun ls hl => ?_)
        refine lv_goto (pc := 79) (tgt := 25) E.1.1 E.1.2.1 d_M_different_79 rfl ?_
        refine ih (v + 1) _ _ H locs ls (by omega) (by omega) ?_ ?_ ?_ ?_ w hl
        · exact fun j hj => (pk_un hj).trans (hfo j hj)
        · rw [wm_Sn_s (show 0 < cnt v by omega)]; rfl
        · exact fun j h4 h5 => (va_up_ne _ _ h5).trans ((va_up_ne _ _ h4).trans (hg j h4 h5))
        · exact wm_Fd_s hF (show 0 < cnt v by omega)
      · refine lv_goto (pc := 41) (tgt := 76) E.1.1 E.1.2.1 d_M_different_41 rfl ?_
        refine kl_inc1 76 E.1 d_M_different_76 hl rfl (fun ls hl => ?_)
        refine lv_goto (pc := 79) (tgt := 25) E.1.1 E.1.2.1 d_M_different_79 rfl ?_
        have h0 : ∀ u, v ≤ u → u < v + 1 → cnt u = 0 := fun u g1 g2 => by
          have : u = v := by omega
          rw [this]; exact h38
        exact ih (v + 1) f' G' H locs ls (by omega) (by omega) hfo (by rw [wm_Sn_gap (Nat.le_succ v) h0]; exact h3) hg (wm_Fd_gap hF h0) w hl
end LMdiff

theorem c_Mdifferent (l : Launch) (D : va_G) (cI : ClassId) (q : Nat → Nat) (f : Nat → Int32) (G : Nat → Nat → Int32) {n a b : Nat} {tr : Nat → Nat} (hn : n ≤ 4000) (hf : f 2 = nI n) (htr : ∀ j, j < n → G 2 j = nI (tr j) ∧ tr j < 512) (hab : a ≤ b) (hb : b ≤ n) : M_Mi l y_M_different b_M_different 4 (some .int) rm_m2 D cI q f G [.int (nI a), .int (nI b)]
    (fun r f' G' => r = nI (wm_Sn (fun v => wm_cn tr (fun x => x == v) a b) 512) ∧ (f' 0 = nI 0 ∧ f' 3 = nI (wm_Sn (fun v => wm_cn tr (fun x => x == v) a b) 512) ∧ ∀ j, j ≠ 0 → j ≠ 3 → f' j = f j) ∧ wm_Fd (fun v => wm_cn tr (fun x => x == v) a b) (G' 4) (G' 5) 512 ∧ ∀ j, j ≠ 3 → j ≠ 4 → j ≠ 5 → G' j = G j) := by
  refine M_ofi rfl (Nat.le_of_ble_eq_true rfl) ?_
  intro p e s m args below meth c ls A E w hl
  have hl : kl ls [some (.ref (q 0)), some (.int (nI a)), some (.int (nI b)), none] := kl_of _ hl rfl rfl rfl
  refine kl_aload_n 0 E.1 d_M_different_0 hl rfl ?_
  refine kl_iload_n 1 E.1 d_M_different_1 hl rfl ?_
  refine kl_iload_n 2 E.1 d_M_different_2 hl rfl ?_
  refine lv_iconst (pc := 3) (v := nI 0) E.1.1 E.1.2.1 d_M_different_3 (by decide) ?_
  refine M_ci 4 E w (c_MnoPart l D cI q f G hn hf hab hb) (cv_M_M_noPart E.1.2.2.2 rfl rfl ⟨by decide, by decide⟩) (kl_sz hl) rfl rfl (Nat.le_of_ble_eq_true rfl) d_M_different_4 (fun r f1 G1 H locs hp w => ?_)
  obtain ⟨rfl, hm, e2⟩ := hp
  rw [e2] at w
  refine n_if_eq 7 (tgt := 12) E.1 d_M_different_7 rfl (by decide) (fun h7 => ?_) (fun h7 => ?_)
  · refine kl_aload_n 12 E.1 d_M_different_12 hl rfl ?_
    refine kl_iload_n 13 E.1 d_M_different_13 hl rfl ?_
    refine kl_iload_n 14 E.1 d_M_different_14 hl rfl ?_
    refine M_cv 15 E w (c_Mcounted l D cI q f1 G hn htr hab hb) (cv_M_M_counted E.1.2.2.2 rfl rfl ⟨by decide, by decide⟩) (kl_sz hl) rfl rfl (Nat.le_of_ble_eq_true rfl) d_M_different_15 (fun f9 Gc H locs hp w => ?_)
    obtain ⟨e1, gc, hc⟩ := hp
    rw [e1] at w
    refine kl_aload_n 18 E.1 d_M_different_18 hl rfl ?_
    refine lv_iconst (pc := 19) (v := nI 0) E.1.1 E.1.2.1 d_M_different_19 (by decide) ?_
    refine M_pi 20 E.1 w 3 (by decide) l_M_tolds d_M_different_20 (fun H locs w => ?_)
    refine lv_iconst (pc := 23) (v := nI 0) E.1.1 E.1.2.1 d_M_different_23 (by decide) ?_
    refine kl_istore_n 24 E.1 d_M_different_24 hl (Nat.le_of_ble_eq_true rfl) (fun ls hl => ?_)
    refine lp_Mdiff (G := Gc) E hab (by omega) hc (fun f' G' H locs ls L hfo h3 hg hF w hl h0 => ?_) 512 0 _ Gc H locs ls rfl (Nat.zero_le _) (fun _ _ => rfl) rfl (fun _ _ _ => rfl) (fun u hu => absurd hu (Nat.not_lt_zero u)) w hl
    refine kl_aload_n 82 E.1 d_M_different_82 hl h0 ?_
    refine M_gi 83 E.1 w 3 (by decide) l_M_tolds d_M_different_83 ?_
    refine n_top (h3) ?_
    exact M_iret 86 E w d_M_different_86 ⟨rfl, ⟨(hfo 0 (by decide)).trans hm.1, h3, fun j g0 g3 => (hfo j g3).trans ((pk_un g3).trans (hm.2 j g0))⟩, hF, fun j g3 g4 g5 => (hg j g4 g5).trans (gc j g3)⟩
  · exact absurd rfl h7
section LMmost
variable {p : Program} {l : Launch} {e : Env} {R : Room} {s : State} {m : MethodId} {args : Array Value} {below : List Frame} {meth : Method} {c : Code} {H : Heap} {locs : List Loc} {Q : State → Prop} {ls : Array Slot} {D : va_G} {cI : ClassId} {A : Nat → Prop} {q : Nat → Nat} {f : Nat → Int32} {G : Nat → Nat → Int32}
theorem lp_Mmost {a b : Nat} {tr : Nat → Nat} (E : kx_E p s m args c b_M_most R_M 5 meth (some .int) A) (hab : a ≤ b) (hb4 : b ≤ 4000) (hc : ∀ v, v < 512 → G 3 v = nI (wm_cn tr (fun x => x == v) a b)) (w : kx_M D cI A q f G s H locs)
    (K : ∀ (best : Int32) (bt : Nat) (ls : Array Slot) (L : List (Option Value)), wm_Mx (fun v => wm_cn tr (fun x => x == v) a b) 512 best bt → kl ls L → L[3]? = some (some (.int best)) → W p l e R s m args below meth c H locs 0 0 Q (F0 m 70 ls [])) :
    ∀ (u v : Nat) (best : Int32) (bt : Nat) (ls : Array Slot), 512 - v = u → v ≤ 512 → wm_Mx (fun v => wm_cn tr (fun x => x == v) a b) v best bt →
      kl ls [some (.ref (q 0)), some (.int (nI a)), some (.int (nI b)), some (.int best), some (.int (nI v))] → W p l e R s m args below meth c H locs 0 0 Q (F0 m 23 ls []) := by
  generalize hcd : (fun v => wm_cn tr (fun x => x == v) a b) = cnt at K ⊢
  have hc' : ∀ v, v < 512 → G 3 v = nI (cnt v) := fun v hv => by rw [← hcd]; exact hc v hv
  have hcl : ∀ v, cnt v ≤ 4000 := fun v => by rw [← hcd]; exact Nat.le_trans (wm_cn_le _ _ hab) (by omega)
  intro u
  induction u with
  | zero =>
    intro v best bt ls hu hv hM hl
    have : v = 512 := by omega
    subst this
    refine kl_iload 23 E.1 d_M_most_23 hl rfl ?_
    refine lv_sipush (pc := 25) (v := nI 512) E.1.1 E.1.2.1 d_M_most_25 (by decide) ?_
    refine n_icmp_ge 28 (tgt := 70) E.1 d_M_most_28 rfl (by omega) (by omega) (fun h28 => ?_) (fun h28 => ?_)
    · exact K best bt ls _ hM hl rfl
    · exact absurd h28 (by omega)
  | succ u ih =>
    intro v best bt ls hu hv hM hl
    have hcv := hc' v (by omega)
    have hcl' := hcl v
    have step : ∀ u, v ≤ u → u < v + 1 → cnt u = cnt v := fun u g1 g2 => by rw [show u = v by omega]
    rcases hM.2 with ⟨hbt, hbest⟩ | ⟨x, hx1, hbest, hx2, hx3, hx4⟩
    · subst hbest; subst hbt
      refine kl_iload 23 E.1 d_M_most_23 hl rfl ?_
      refine lv_sipush (pc := 25) (v := nI 512) E.1.1 E.1.2.1 d_M_most_25 (by decide) ?_
      refine n_icmp_ge 28 (tgt := 70) E.1 d_M_most_28 rfl (by omega) (by omega) (fun h28 => ?_) (fun h28 => ?_)
      · exact absurd h28 (by omega)
      · refine kl_aload_n 31 E.1 d_M_most_31 hl rfl ?_
        refine M_ga 32 E.1 w 3 (by decide) l_M_counts d_M_most_32 ?_
        refine kl_iload 35 E.1 d_M_most_35 hl rfl ?_
        refine M_ald 37 E.1 w 3 (by decide) d_M_most_37 (show _ < 512 by omega) ?_
        refine n_top (hcv) ?_
        refine lv_if_le (pc := 38) (tgt := 64) E.1.1 E.1.2.1 d_M_most_38 rfl (fun h38 => ?_) (fun h38 => ?_)
        · refine kl_inc1 64 E.1 d_M_most_64 hl rfl (fun ls hl => ?_)
          refine lv_goto (pc := 67) (tgt := 23) E.1.1 E.1.2.1 d_M_most_67 rfl ?_
          have h0 : cnt v = 0 := by
            rcases Nat.eq_zero_or_pos (cnt v) with g | g
            · exact g
            · exact absurd h38 (nI_nle g (by omega))
          exact ih (v + 1) _ 0 ls (by omega) (by omega) (wm_Mx_gap (Nat.le_succ v) hM (fun u g1 g2 => by rw [step u g1 g2]; omega)) hl
        · have h0 : 0 < cnt v := by
            rcases Nat.eq_zero_or_pos (cnt v) with g | g
            · rw [g] at h38; exact absurd (by decide) h38
            · exact g
          refine kl_iload_n 41 E.1 d_M_most_41 hl rfl ?_
          refine lv_if_lt (pc := 42) (tgt := 61) E.1.1 E.1.2.1 d_M_most_42 rfl (fun h42 => ?_) (fun h42 => ?_)
          · refine kl_iload 61 E.1 d_M_most_61 hl rfl ?_
            refine kl_istore_n 63 E.1 d_M_most_63 hl (Nat.le_of_ble_eq_true rfl) (fun ls hl => ?_)
            refine kl_inc1 64 E.1 d_M_most_64 hl rfl (fun ls hl => ?_)
            refine lv_goto (pc := 67) (tgt := 23) E.1.1 E.1.2.1 d_M_most_67 rfl ?_
            exact ih (v + 1) _ (cnt v) ls (by omega) (by omega) (wm_Mx_s hM h0) hl
          · exact absurd (by decide) h42
    · subst hbest
      refine kl_iload 23 E.1 d_M_most_23 hl rfl ?_
      refine lv_sipush (pc := 25) (v := nI 512) E.1.1 E.1.2.1 d_M_most_25 (by decide) ?_
      refine n_icmp_ge 28 (tgt := 70) E.1 d_M_most_28 rfl (by omega) (by omega) (fun h28 => ?_) (fun h28 => ?_)
      · exact absurd h28 (by omega)
      · refine kl_aload_n 31 E.1 d_M_most_31 hl rfl ?_
        refine M_ga 32 E.1 w 3 (by decide) l_M_counts d_M_most_32 ?_
        refine kl_iload 35 E.1 d_M_most_35 hl rfl ?_
        refine M_ald 37 E.1 w 3 (by decide) d_M_most_37 (show _ < 512 by omega) ?_
        refine n_top (hcv) ?_
        refine lv_if_le (pc := 38) (tgt := 64) E.1.1 E.1.2.1 d_M_most_38 rfl (fun h38 => ?_) (fun h38 => ?_)
        · refine kl_inc1 64 E.1 d_M_most_64 hl rfl (fun ls hl => ?_)
          refine lv_goto (pc := 67) (tgt := 23) E.1.1 E.1.2.1 d_M_most_67 rfl ?_
          have h0 : cnt v = 0 := by
            rcases Nat.eq_zero_or_pos (cnt v) with g | g
            · exact g
            · exact absurd h38 (nI_nle g (by omega))
          exact ih (v + 1) _ bt ls (by omega) (by omega) (wm_Mx_gap (Nat.le_succ v) hM (fun u g1 g2 => by rw [step u g1 g2]; omega)) hl
        · have h0 : 0 < cnt v := by
            rcases Nat.eq_zero_or_pos (cnt v) with g | g
            · rw [g] at h38; exact absurd (by decide) h38
            · exact g
          refine kl_iload_n 41 E.1 d_M_most_41 hl rfl ?_
          refine n_if_lt 42 E.1 d_M_most_42 (by omega) 61 rfl ?_
          have hclx := hcl x
          refine kl_aload_n 45 E.1 d_M_most_45 hl rfl ?_
          refine M_ga 46 E.1 w 3 (by decide) l_M_counts d_M_most_46 ?_
          refine kl_iload 49 E.1 d_M_most_49 hl rfl ?_
          refine M_ald 51 E.1 w 3 (by decide) d_M_most_51 (show _ < 512 by omega) ?_
          refine n_top (hcv) ?_
          refine kl_aload_n 52 E.1 d_M_most_52 hl rfl ?_
          refine M_ga 53 E.1 w 3 (by decide) l_M_counts d_M_most_53 ?_
          refine kl_iload_n 56 E.1 d_M_most_56 hl rfl ?_
          refine M_ald 57 E.1 w 3 (by decide) d_M_most_57 (show _ < 512 by omega) ?_
          refine n_top (hc' x (by omega)) ?_
          refine n_icmp_le 58 (tgt := 64) E.1 d_M_most_58 rfl (by omega) (by omega) (fun h58 => ?_) (fun h58 => ?_)
          · refine kl_inc1 64 E.1 d_M_most_64 hl rfl (fun ls hl => ?_)
            refine lv_goto (pc := 67) (tgt := 23) E.1.1 E.1.2.1 d_M_most_67 rfl ?_
            exact ih (v + 1) _ bt ls (by omega) (by omega) (wm_Mx_gap (Nat.le_succ v) hM (fun u g1 g2 => by rw [step u g1 g2]; omega)) hl
          · refine kl_iload 61 E.1 d_M_most_61 hl rfl ?_
            refine kl_istore_n 63 E.1 d_M_most_63 hl (Nat.le_of_ble_eq_true rfl) (fun ls hl => ?_)
            refine kl_inc1 64 E.1 d_M_most_64 hl rfl (fun ls hl => ?_)
            refine lv_goto (pc := 67) (tgt := 23) E.1.1 E.1.2.1 d_M_most_67 rfl ?_
            exact ih (v + 1) _ (cnt v) ls (by omega) (by omega) (wm_Mx_s hM (by omega)) hl
end LMmost

theorem c_Mmost (l : Launch) (D : va_G) (cI : ClassId) (q : Nat → Nat) (f : Nat → Int32) (G : Nat → Nat → Int32) {n a b : Nat} {tr : Nat → Nat} (hn : n ≤ 4000) (hf : f 2 = nI n) (htr : ∀ j, j < n → G 2 j = nI (tr j) ∧ tr j < 512) (hab : a ≤ b) (hb : b ≤ n) : M_Mi l y_M_most b_M_most 5 (some .int) rm_m2 D cI q f G [.int (nI a), .int (nI b)]
    (fun r f' G' => (∃ bt, wm_Mx (fun v => wm_cn tr (fun x => x == v) a b) 512 r bt) ∧ mk0 f f' (nI 0) ∧ ∀ j, j ≠ 3 → G' j = G j) := by
  refine M_ofi rfl (Nat.le_of_ble_eq_true rfl) ?_
  intro p e s m args below meth c ls A E w hl
  have hl : kl ls [some (.ref (q 0)), some (.int (nI a)), some (.int (nI b)), none, none] := kl_of _ hl rfl rfl rfl
  refine kl_aload_n 0 E.1 d_M_most_0 hl rfl ?_
  refine kl_iload_n 1 E.1 d_M_most_1 hl rfl ?_
  refine kl_iload_n 2 E.1 d_M_most_2 hl rfl ?_
  refine lv_iconst (pc := 3) (v := nI 0) E.1.1 E.1.2.1 d_M_most_3 (by decide) ?_
  refine M_ci 4 E w (c_MnoPart l D cI q f G hn hf hab hb) (cv_M_M_noPart E.1.2.2.2 rfl rfl ⟨by decide, by decide⟩) (kl_sz hl) rfl rfl (Nat.le_of_ble_eq_true rfl) d_M_most_4 (fun r f1 G1 H locs hp w => ?_)
  obtain ⟨rfl, hm, e2⟩ := hp
  rw [e2] at w
  refine n_if_eq 7 (tgt := 12) E.1 d_M_most_7 rfl (by decide) (fun h7 => ?_) (fun h7 => ?_)
  · refine kl_aload_n 12 E.1 d_M_most_12 hl rfl ?_
    refine kl_iload_n 13 E.1 d_M_most_13 hl rfl ?_
    refine kl_iload_n 14 E.1 d_M_most_14 hl rfl ?_
    refine M_cv 15 E w (c_Mcounted l D cI q f1 G hn htr hab hb) (cv_M_M_counted E.1.2.2.2 rfl rfl ⟨by decide, by decide⟩) (kl_sz hl) rfl rfl (Nat.le_of_ble_eq_true rfl) d_M_most_15 (fun f9 Gc H locs hp w => ?_)
    obtain ⟨e1, gc, hc⟩ := hp
    rw [e1] at w
    refine lv_iconst (pc := 18) (v := -1) E.1.1 E.1.2.1 d_M_most_18 (by decide) ?_
    refine kl_istore_n 19 E.1 d_M_most_19 hl (Nat.le_of_ble_eq_true rfl) (fun ls hl => ?_)
    refine lv_iconst (pc := 20) (v := nI 0) E.1.1 E.1.2.1 d_M_most_20 (by decide) ?_
    refine kl_istore 21 E.1 d_M_most_21 hl (Nat.le_of_ble_eq_true rfl) (fun ls hl => ?_)
    refine lp_Mmost (G := Gc) E hab (by omega) hc w (fun best bt ls L hM hl h3 => ?_) 512 0 (-1) 0 ls rfl (Nat.zero_le _) (wm_Mx_0 _) hl
    refine kl_iload_n 70 E.1 d_M_most_70 hl h3 ?_
    exact M_iret 71 E w d_M_most_71 ⟨⟨bt, hM⟩, hm, gc⟩
  · exact absurd rfl h7
end
section
/-! the law's small methods: the tree and the law's own array of one long; a handler catches what the tree throws -/
abbrev wO (cJ : ClassId) (qo : Nat) (g : Nat → Int64) : va_W := [(qo, .inl (cJ, 1, .inr (.inl g)))]
def wL (cI cJ : ClassId) (q : Nat → Nat) (qo : Nat) (f : Nat → Int32) (G : Nat → Nat → Int32) (g : Nat → Int64) : va_W := wT cI q f G ++ wO cJ qo g
def kx_L (D : va_G) (cI cJ : ClassId) (A : Nat → Prop) (q : Nat → Nat) (qo : Nat) (f : Nat → Int32) (G : Nat → Nat → Int32) (g : Nat → Int64) (s : State) (H : Heap) (locs : List Loc) : Prop :=
  va_P D cls_ (wL cI cJ q qo f G g) H ∧ va_D A (wL cI cJ q qo f G g) ∧ va_S A s.heap H locs ∧ va_K D cls_ [(cI, .int), (cJ, .long)] s
def kt_nc (U : State) : Prop := ∀ c1 c2, U.vm.findClass R_NSE = some c1 → U.vm.findClass R_IAE = some c2 → U.vm.assignable c1 c2 = false
theorem kt_nc.moved {u U : State} (hvm : u.vm.Alike U.vm) (h : kt_nc u) : kt_nc U := fun c1 c2 h1 h2 => by
  rw [hvm.findClass] at h1 h2
  rw [hvm.assignable]
  exact h c1 c2 h1 h2
/-- what a throw and its catch ask of the state -/
def kt_Y (U : State) (H : Heap) : Prop := kt_X U H ∧ kt_nc U
theorem kt_Y.moved {u U : State} {H : Heap} (hvm : u.vm.Alike U.vm) (h : kt_Y u H) : kt_Y U H := ⟨h.1.moved hvm, h.2.moved hvm⟩
abbrev kx_V : Type := kx_U × (Nat → Int64)
def L_pre (D : va_G) (cI cJ : ClassId) (q : Nat → Nat) (qo : Nat) (f : Nat → Int32) (G : Nat → Nat → Int32) (g : Nat → Int64) (sz : Nat) : State → Prop := fun U => U.heap.size = sz ∧ va_P D cls_ (wL cI cJ q qo f G g) U.heap ∧ va_K D cls_ [(cI, .int), (cJ, .long)] U ∧ va_D (fun _ => True) (wL cI cJ q qo f G g) ∧ kt_Y U U.heap
def L_at (D : va_G) (cI cJ : ClassId) (q : Nat → Nat) (qo : Nat) (A : Nat → Prop) (u : kx_V) (t : State) : Prop := va_P D cls_ (wL cI cJ q qo u.1.1 u.1.2 u.2) t.heap ∧ va_K D cls_ [(cI, .int), (cJ, .long)] t ∧ va_D A (wL cI cJ q qo u.1.1 u.1.2 u.2)
abbrev L_Qi (D : va_G) (cI cJ : ClassId) (q : Nat → Nat) (qo : Nat) (A : Nat → Prop) (post : Int32 → (Nat → Int32) → (Nat → Nat → Int32) → (Nat → Int64) → Prop) : Array Value → State → Outcome → State → Prop := va_Qi (fun r (u : kx_V) => post r u.1.1 u.1.2 u.2) (L_at D cI cJ q qo A) A
abbrev L_Mi (l : Launch) (y : MethodName) (b : ByteArray) (n : Nat) (hh : List (Nat × Nat × Nat × Nat)) (rm : Room) (D : va_G) (cI cJ : ClassId) (q : Nat → Nat) (qo : Nat) (f : Nat → Int32) (G : Nat → Nat → Int32) (g : Nat → Int64) (As : List Value) (post : Int32 → (Nat → Int32) → (Nat → Nat → Int32) → (Nat → Int64) → Prop) : Prop :=
  ∀ sz : Nat, Met l y (.codeWith y b n (some .int) hh :: lw_g) rm (va_Pc As (L_pre D cI cJ q qo f G g sz)) (L_Qi D cI cJ q qo (va_A (wL cI cJ q qo f G g) sz) post) 1 6 (va_A (wL cI cJ q qo f G g) sz)
abbrev kx_F (p : Program) (s : State) (m : MethodId) (args : Array Value) (c : Code) (cc : ByteArray) (n : Nat) (meth : Method) (hh : List (Nat × Nat × Nat × Nat)) (A : Nat → Prop) : Prop :=
  kx_C p s m args c cc R_L ∧ c.maxLocals = n ∧ meth.sig.returnType = some .int ∧ meth.locks = false ∧ kt_tab c hh ∧ (∀ x : Nat, s.heap.size ≤ x → A x) ∧ kt_Y s s.heap ∧ ∀ x : Nat, A x → ∀ cell, s.heap[x]? = some cell → cell.vm.isStatics = false
theorem L_blind (av : List Value) (D : va_G) (cI cJ : ClassId) (q : Nat → Nat) (qo : Nat) (f : Nat → Int32) (G : Nat → Nat → Int32) (g : Nat → Int64) (sz : Nat) : FrameBlind (va_Pc av (L_pre D cI cJ q qo f G g sz)) := fun a U g mk h => by
  obtain ⟨q0, q1, qP, qK, qD, qY⟩ := h
  exact ⟨q0, q1, qP, va_K.moved (u := U) (U := U.calling g mk a) (Vm.Alike.refl U.vm) qK, qD, kt_Y.moved (u := U) (U := U.calling g mk a) (Vm.Alike.refl U.vm) qY⟩
theorem L_ofi {l : Launch} {y : MethodName} {b : ByteArray} {n : Nat} {hh : List (Nat × Nat × Nat × Nat)} {rm : Room} {D : va_G} {cI cJ : ClassId} {q : Nat → Nat} {qo : Nat} {f : Nat → Int32} {G : Nat → Nat → Int32} {g : Nat → Int64} {As : List Value} {post : Int32 → (Nat → Int32) → (Nat → Nat → Int32) → (Nat → Int64) → Prop}
    (hy : y.cls = R_L) (hlen : (lg_sl As).length ≤ n)
    (body : ∀ (p : Program) (e : Env) (s : State) (m : MethodId) (args : Array Value) (below : List Frame) (meth : Method) (c : Code) (ls : Array Slot) (A : Nat → Prop), kx_F p s m args c b n meth hh A → kx_L D cI cJ A q qo f G g s s.heap [] → lv_has ls n (lv_args 0 As) →
      W p l e rm s m args below meth c s.heap [] 0 0 (MQ below (L_Qi D cI cJ q qo A post) args s 1 6 A) (F0 m 0 ls [])) : L_Mi l y b n hh rm D cI cJ q qo f G g As post := by
  intro sz
  refine va_MetW (cc := b) (maxL := n) (ret := some .int) (hh := hh) (by rw [hy]; decide) rfl ?_
  intro p e s m args below meth c s₁ B hml hv
  obtain ⟨rfl, hsz, hP, hK, hD0, hY⟩ := hv
  have hts := atoms_spec (ws := .codeWith y b n (some .int) hh :: lw_g) B.pre
  have hown : s.vm.findClass R_L = some m.cls := by rw [← hy]; exact findClass_of_methodNamed B.named
  have htab : kt_tab c hh := by
    obtain ⟨m9, meth9, c9, hn9, hm9, hc9, -, -, ht9, -⟩ := Cond.codeWith_spec (hts _ List.mem_cons_self)
    cases B.named.symm.trans hn9
    cases B.method.symm.trans hm9
    cases (Stand.of_body B).code.symm.trans hc9
    exact ht9
  subst hsz
  rw [lg_entry_eq]
  exact body p e s m _ below meth c _ _ ⟨⟨B.exec, B.bytes, hown, fun w h => hts w (List.mem_cons_of_mem _ h)⟩, hml, B.returns, B.notSynchronized, htab, fun x h => Or.inr h, hY, kt_ns hP⟩ ⟨hP, hD0.self, va_S.rf, hK⟩ (lv_entry As hlen)
section KLL
variable {p : Program} {l : Launch} {e : Env} {R : Room} {s : State} {m : MethodId} {args : Array Value} {below : List Frame} {meth : Method} {c : Code} {H : Heap} {locs : List Loc} {cells slots : Nat} {Q : State → Prop}
variable {cc : ByteArray} {ls : Array Slot} {rest : List Value} {D : va_G} {cI cJ : ClassId} {A : Nat → Prop} {q : Nat → Nat} {qo : Nat} {f : Nat → Int32} {G : Nat → Nat → Int32} {g : Nat → Int64} {nL : Nat} {hh : List (Nat × Nat × Nat × Nat)}
theorem L_cutP (w : kx_L D cI cJ A q qo f G g s H locs) : va_P D cls_ (wT cI q f G) H := w.1.sub (ws' := wT cI q f G) [0, 1, 2, 3, 4, 5, 6, 7, 8] rfl
theorem L_cutD (w : kx_L D cI cJ A q qo f G g s H locs) : va_D A (wT cI q f G) := w.2.1.sub (ws' := wT cI q f G) [0, 1, 2, 3, 4, 5, 6, 7, 8] (by decide) rfl
theorem L_cutK (w : kx_L D cI cJ A q qo f G g s H locs) : va_K D cls_ [(cI, .int)] s := w.2.2.2.sub (tys' := [(cI, .int)]) [0] rfl
theorem L_free (hA : ∀ x : Nat, s.heap.size ≤ x → A x) (w : kx_L D cI cJ A q qo f G g s H locs) : ∀ x, va_A (wT cI q f G) H.size x → A x :=
  va_free (wc := wT cI q f G) w.2.1 w.2.2.1 hA [0, 1, 2, 3, 4, 5, 6, 7, 8] rfl
/-- behind a call on the tree: its world beside the law's array -/
theorem L_join {H1 : Heap} {locs1 : List Loc} {f' : Nat → Int32} {G' : Nat → Nat → Int32} (hA : ∀ x : Nat, s.heap.size ≤ x → A x) (w : kx_L D cI cJ A q qo f G g s H locs) (hk : ∀ x : Nat, x < H.size → ¬ va_A (wT cI q f G) H.size x → H1[x]? = H[x]?)
    (hP1 : va_P D cls_ (wT cI q f' G') H1) (hD1 : va_D (va_A (wT cI q f G) H.size) (wT cI q f' G')) (hS : va_S A s.heap H1 locs1) : kx_L D cI cJ A q qo f' G' g s H1 locs1 := by
  obtain ⟨hP, hD⟩ := va_join (wr := wO cJ qo g) (w1 := wT cI q f' G') w.1 w.2.1 [0, 1, 2, 3, 4, 5, 6, 7, 8] [9] rfl rfl (by decide) (by decide) hk (L_free hA w) hP1 hD1
  exact ⟨hP.sub (ws' := wL cI cJ q qo f' G' g) [1, 2, 3, 4, 5, 6, 7, 8, 9, 0] rfl, hD.sub (ws' := wL cI cJ q qo f' G' g) [1, 2, 3, 4, 5, 6, 7, 8, 9, 0] (by decide) rfl, hS, w.2.2.2⟩
theorem L_ci (pc : Nat) (E : kx_F p s m args c cc nL meth hh A) (w : kx_L D cI cJ A q qo f G g s H locs) {y : MethodName} {b : ByteArray} {n idx na : Nat} {ret : Option FieldType} {rm : Room} {As : List Value} {post : Int32 → (Nat → Int32) → (Nat → Nat → Int32) → Prop} {st0 : List Value}
    (hM : T_Mi l y b n ret rm D cI q f G As post) (cw : CallW R s args R_L R_T idx y b n ret (.code y b n ret :: lw_g) rm 0 0 na) (hls : ls.size = nL) (hn : As.length = na) (hst : st0 = As.reverse ++ .ref (q 0) :: rest) (hW : (rest.map fun v => v.category).sum ≤ 8) (hdg : decode cc pc = .ok (.invokevirtual idx, 3))
    (kk : ∀ (r : Int32) (f' : Nat → Int32) (G' : Nat → Nat → Int32) (H : Heap) (locs : List Loc), post r f' G' → kx_L D cI cJ A q qo f' G' g s H locs → W p l e R s m args below meth c H locs 0 0 Q (F0 m (pc + 3) ls (.int r :: rest))) : W p l e R s m args below meth c H locs 0 0 Q (F0 m pc ls st0) := by
  have hFc := L_free E.2.2.2.2.2.1 w
  refine va_calli (va_runV (As := As) (rest := rest) ⟨E.1.1, E.1.2.1, E.2.1, E.1.2.2.1, E.1.2.2.2⟩ (hM H.size) cw
    ⟨T_blind _ D cI q f G H.size, va_recv (ci := 0) (L_cutK w) (L_cutP w) rfl (show (wT cI q f G)[0]? = some _ from rfl), fun U hU hW => ⟨rfl, by rw [hU], by rw [hU]; exact L_cutP w, va_K.moved hW.alike (L_cutK w), (L_cutD w).weaken (fun _ _ _ _ => trivial)⟩⟩
    rfl hn hls hst (lv_room hW) hdg ⟨Nat.zero_le _, Nat.zero_le _⟩) w.2.2.1 (fun x _ h => hFc x h) hFc (fun r u t H1 locs1 ht hvm hpost hB hz hk hS => ?_)
  exact kk r u.1 u.2 H1 locs1 hpost (L_join E.2.2.2.2.2.1 w hk (by rw [← ht]; exact hB.1) hB.2.2 hS)
theorem L_runT {pc : Nat} (E : kx_F p s m args c cc nL meth hh A) (w : kx_L D cI cJ A q qo f G g s H locs) {y : MethodName} {b : ByteArray} {n idx na : Nat} {ret : Option FieldType} {rm : Room} {As : List Value} {X : String} {post : (Nat → Int32) → (Nat → Nat → Int32) → Prop} {st0 : List Value}
    (hM : T_Mt l y b n ret rm D cI q f G As X post) (cw : CallW R s args R_L R_T idx y b n ret (.code y b n ret :: lw_g) rm 1 6 na) (hR : 1 ≤ R.cells ∧ 6 ≤ R.slots) (hls : ls.size = nL) (hn : As.length = na) (hst : st0 = As.reverse ++ .ref (q 0) :: rest) (hW : (rest.map fun v => v.category).sum ≤ 8) (hdg : decode cc pc = .ok (.invokevirtual idx, 3)) :
    kt_Run p l e R s m args below meth c H locs 0 0 1 6 (F0 m pc ls st0) rest (T_Qt D cI q (va_A (wT cI q f G) H.size) X post (Value.ref (q 0) :: As).toArray) (va_A (wT cI q f G) H.size) := by
  have hX : kt_X s H := E.2.2.2.2.2.2.1.1.kept E.2.2.2.2.2.2.2 w.2.2.1.2.1
  exact kt_runV ⟨E.1.1, E.1.2.1, E.2.1, E.1.2.2.1, E.1.2.2.2⟩ (hM H.size) cw
    ⟨T_blindX _ D cI q f G H.size, va_recv (ci := 0) (L_cutK w) (L_cutP w) rfl (show (wT cI q f G)[0]? = some _ from rfl), fun U hU hW => ⟨rfl, ⟨by rw [hU], by rw [hU]; exact L_cutP w, va_K.moved hW.alike (L_cutK w), (L_cutD w).weaken (fun _ _ _ _ => trivial)⟩, by rw [hU]; exact hX.moved hW.alike⟩⟩
    rfl hn hls hst (lv_room hW) hdg ⟨by omega, by omega⟩
/-- what a caught throw leaves -/
theorem L_thrown (E : kx_F p s m args c cc nL meth hh A) (w : kx_L D cI cJ A q qo f G g s H locs) {X : String} {post : (Nat → Int32) → (Nat → Nat → Int32) → Prop} {av : Array Value} {x : Addr} {st₀ t : State} {L : List Loc} (h0 : st₀.heap = H) (hq : T_Qt D cI q (va_A (wT cI q f G) H.size) X post av st₀ (.threw x) t) (hL : ∀ z ∈ L, va_A (wT cI q f G) H.size z.base) :
    kt_is X x t ∧ ∃ f' G', post f' G' ∧ kx_L D cI cJ A q qo f' G' g s t.heap (locs ++ L) := by
  obtain ⟨⟨x', u, h1, h2, h3, h4, h5, h6⟩, h7, h8⟩ := hq
  cases h1
  rw [h0] at h7 h8
  have hFc := L_free E.2.2.2.2.2.1 w
  refine ⟨h2, u.1, u.2, h3, L_join E.2.2.2.2.2.1 w h8 h4 h6 ⟨Nat.le_trans w.2.2.1.1 h7, fun z hz hA => ?_, fun z hz => ?_⟩⟩
  · rw [h8 z (Nat.lt_of_lt_of_le hz w.2.2.1.1) (fun h => hA (hFc z h))]
    exact w.2.2.1.2.1 z hz hA
  · rcases List.mem_append.mp hz with h | h
    · exact w.2.2.1.2.2 z h
    · exact hFc _ (hL z h)
theorem kt_self {X : String} (hY : kt_Y s s.heap) (hm : Cond.castable X X ∈ lw_tbl) : (Cond.castable X X).before args s = true :=
  kt_face_moved rfl (Vm.Alike.refl s.vm) (hY.1.2.2 _ (List.mem_filter.mpr ⟨hm, rfl⟩))
theorem L_ct1 (pc : Nat) {b0 e0 h0 i0 : Nat} {hh' : List (Nat × Nat × Nat × Nat)} (E : kx_F p s m args c cc nL meth ((b0, e0, h0, i0) :: hh') A) (w : kx_L D cI cJ A q qo f G g s H locs) {y : MethodName} {b : ByteArray} {n idx na : Nat} {ret : Option FieldType} {rm : Room} {As : List Value} {X : String} {post : (Nat → Int32) → (Nat → Nat → Int32) → Prop} {st0 : List Value}
    (hM : T_Mt l y b n ret rm D cI q f G As X post) (cw : CallW R s args R_L R_T idx y b n ret (.code y b n ret :: lw_g) rm 1 6 na) (hR : 1 ≤ R.cells ∧ 6 ≤ R.slots) (hls : ls.size = nL) (hn : As.length = na) (hst : st0 = As.reverse ++ .ref (q 0) :: rest) (hW : (rest.map fun v => v.category).sum ≤ 8) (hdg : decode cc pc = .ok (.invokevirtual idx, 3))
    (hcov : (b0 ≤ pc ∧ pc < e0) ∧ i0 ≠ 0) (hl : Cond.classLink R_L i0 X ∈ lw_g) (hself : Cond.castable X X ∈ lw_tbl)
    (kk : ∀ (x : Nat) (f' : Nat → Int32) (G' : Nat → Nat → Int32) (H : Heap) (locs : List Loc), post f' G' → kx_L D cI cJ A q qo f' G' g s H locs → W p l e R s m args below meth c H locs 1 6 Q (F0 m h0 ls [.ref x])) : W p l e R s m args below meth c H locs 0 0 Q (F0 m pc ls st0) := by
  refine kt_in1 (mc := 1) (ms := 6) E.1.2.2.1 E.2.2.2.2.1 hcov (E.1.2.2.2 _ hl) (kt_self E.2.2.2.2.2.2.1 hself) (L_runT E w hM cw hR hls hn hst hW hdg) (fun x st₀ t L g0 hq hL _ => ?_)
  obtain ⟨h1, f', G', h2, h3⟩ := L_thrown E w g0 hq hL
  exact ⟨h1, kk x f' G' _ _ h2 h3⟩
theorem L_ct2 (pc : Nat) {b0 e0 h0 i0 b1 e1 h1 i1 : Nat} (E : kx_F p s m args c cc nL meth [(b0, e0, h0, i0), (b1, e1, h1, i1)] A) (w : kx_L D cI cJ A q qo f G g s H locs) {y : MethodName} {b : ByteArray} {n idx na : Nat} {ret : Option FieldType} {rm : Room} {As : List Value} {post : (Nat → Int32) → (Nat → Nat → Int32) → Prop} {st0 : List Value}
    (hM : T_Mt l y b n ret rm D cI q f G As R_NSE post) (cw : CallW R s args R_L R_T idx y b n ret (.code y b n ret :: lw_g) rm 1 6 na) (hR : 1 ≤ R.cells ∧ 6 ≤ R.slots) (hls : ls.size = nL) (hn : As.length = na) (hst : st0 = As.reverse ++ .ref (q 0) :: rest) (hW : (rest.map fun v => v.category).sum ≤ 8) (hdg : decode cc pc = .ok (.invokevirtual idx, 3))
    (hcov : ((b0 ≤ pc ∧ pc < e0) ∧ i0 ≠ 0) ∧ (b1 ≤ pc ∧ pc < e1) ∧ i1 ≠ 0) (hl0 : Cond.classLink R_L i0 R_IAE ∈ lw_g) (hl : Cond.classLink R_L i1 R_NSE ∈ lw_g) (hself : Cond.castable R_NSE R_NSE ∈ lw_tbl)
    (kk : ∀ (x : Nat) (f' : Nat → Int32) (G' : Nat → Nat → Int32) (H : Heap) (locs : List Loc), post f' G' → kx_L D cI cJ A q qo f' G' g s H locs → W p l e R s m args below meth c H locs 1 6 Q (F0 m h1 ls [.ref x])) : W p l e R s m args below meth c H locs 0 0 Q (F0 m pc ls st0) := by
  refine kt_in2 (mc := 1) (ms := 6) E.1.2.2.1 E.2.2.2.2.1 hcov (E.1.2.2.2 _ hl0) (E.1.2.2.2 _ hl) E.2.2.2.2.2.2.1.2 (kt_self E.2.2.2.2.2.2.1 hself) (L_runT E w hM cw hR hls hn hst hW hdg) (fun x st₀ t L g0 hq hL _ => ?_)
  obtain ⟨h1, f', G', h2, h3⟩ := L_thrown E w g0 hq hL
  exact ⟨h1, kk x f' G' _ _ h2 h3⟩
theorem L_last (pc : Nat) (E : kx_F p s m args c cc nL meth hh A) (w : kx_L D cI cJ A q qo f G g s H locs) {x : Int64} (hdg : decode cc pc = .ok (.lastore, 1)) (kk : ∀ (H : Heap) (locs : List Loc), kx_L D cI cJ A q qo f G (vp_updL g 0 x) s H locs → W p l e R s m args below meth c H locs cells slots Q (F0 m (pc + 1) ls rest)) : W p l e R s m args below meth c H locs cells slots Q (F0 m pc ls (.long x :: .int (nI 0) :: .ref qo :: rest)) := by
  refine va_last (cA := cJ) (n := 1) (f := g) E.1.1 E.1.2.1 w.2.2.2 w.1 w.2.1 w.2.2.1 9 1 rfl rfl (vp_in_nI (by decide) (by decide)) hdg (fun H1 locs1 hP hD hS => ?_)
  exact kk H1 locs1 ⟨hP, hD, hS, w.2.2.2⟩
theorem L_iret (pc : Nat) (E : kx_F p s m args c cc nL meth hh A) (w : kx_L D cI cJ A q qo f G g s H locs) {v : Int32} {post : Int32 → (Nat → Int32) → (Nat → Nat → Int32) → (Nat → Int64) → Prop} (hdg : decode cc pc = .ok (.ireturn, 1)) (hc : cells ≤ 1 ∧ slots ≤ 6) (hpost : post v f G g) :
    W p l e R s m args below meth c H locs cells slots (MQ below (L_Qi D cI cJ q qo A post) args s 1 6 A) (F0 m pc ls [.int v]) :=
  W.widen hc.1 hc.2 (W.iret E.1.1 E.1.2.1 E.2.2.1 (fun t ht hW => ⟨⟨v, ((f, G), g), rfl, hpost, by rw [ht]; exact w.1, va_K.moved hW.alike w.2.2.2, w.2.1⟩, w.2.2.1.F ht⟩) w.2.2.1.2.2 hdg E.2.2.2.1)
end KLL
end
section
/-! the law's small methods -/
theorem kv_eq {a j : Nat} (ha : a < 2 ^ 32) (hj : j < 2 ^ 31) (h : nI a = nI j) : a = j := by
  have h1 := congrArg uv h
  rw [uv_nI ha, uv_nI (by omega)] at h1
  exact h1
theorem kv_le {a m : Nat} (ha : a < 2 ^ 32) (hm : m < 2 ^ 31) (h0 : 0 ≤ nI a) (h : nI a ≤ nI m) : a ≤ m := by
  obtain ⟨j, hj, e⟩ := nI_of (Int32.not_lt.mpr h0)
  have := kv_eq ha hj e
  rw [e] at h
  have := (nI_leI hj hm).mp h
  omega
theorem kv_lt {a m : Nat} (ha : a < 2 ^ 32) (hm : m < 2 ^ 31) (h0 : 0 ≤ nI a) (h : nI a < nI m) : a < m := by
  obtain ⟨j, hj, e⟩ := nI_of (Int32.not_lt.mpr h0)
  have := kv_eq ha hj e
  rw [e] at h
  have := (nI_ltI hj hm).mp h
  omega
theorem kv_p {n a b : Nat} (hn : n ≤ 4000) (ha : a < 2 ^ 32) (hb : b < 2 ^ 32) (h : kp_ok (nI n) (nI a) (nI b)) : a ≤ b ∧ b ≤ n := by
  obtain ⟨a', b', e1, e2, h1, h2⟩ := kp_nat hn h
  have := kv_eq ha (by omega) e1
  have := kv_eq hb (by omega) e2
  omega
def rm_L : Room := { frames := 13, cells := 1, slots := 6, locals := 380 }
theorem c_L_add (l : Launch) (hfl : l.flags = flags0) (D : va_G) (cI cJ : ClassId) (q : Nat → Nat) (qo : Nat) (f : Nat → Int32) (G : Nat → Nat → Int32) (g : Nat → Int64) {a b c : Nat} {n : Nat} (hn : n + 3 ≤ 4000) (hf : f 0 = nI n) :
    L_Mi l y_L_add b_L_add 6 [(0, 12, 15, 13)] rm_L D cI cJ q qo f G g [.ref (q 0), .int (nI a), .int (nI b), .int (nI c), .ref qo]
      (fun r f' G' g' => r = nI 0 ∧ g' 0 = (nI (n + 3)).toInt64 ∧ f' = upd f 0 (nI (n + 3)) ∧ G' = va_up G 1 (upd (upd (upd (G 1) n (nI ((nI a).toBitVec.toNat % 512))) (n + 1) (nI ((nI b).toBitVec.toNat % 512))) (n + 2) (nI ((nI c).toBitVec.toNat % 512)))) := by
  refine L_ofi rfl (Nat.le_of_ble_eq_true rfl) ?_
  intro p e s m args below meth c9 ls A E w hl
  have hl : kl ls [some (.ref (q 0)), some (.int (nI a)), some (.int (nI b)), some (.int (nI c)), some (.ref qo), none] := kl_of _ hl rfl rfl rfl
  refine kl_aload 0 E.1 d_L_add_0 hl rfl ?_
  refine lv_iconst (pc := 2) (v := nI 0) E.1.1 E.1.2.1 d_L_add_2 (by decide) ?_
  refine kl_aload_n 3 E.1 d_L_add_3 hl rfl ?_
  refine kl_iload_n 4 E.1 d_L_add_4 hl rfl ?_
  refine kl_iload_n 5 E.1 d_L_add_5 hl rfl ?_
  refine kl_iload_n 6 E.1 d_L_add_6 hl rfl ?_
  refine L_ci 7 E w (c_add l D cI q f G hn hf _ _ _) (cv_L_T_add E.1.2.2.2 rfl rfl ⟨by decide, by decide⟩) (kl_sz hl) rfl rfl (Nat.le_of_ble_eq_true rfl) d_L_add_7 (fun r f1 G1 H locs hp w => ?_)
  refine lv_i2l (pc := 10) E.1.1 E.1.2.1 d_L_add_10 rfl ?_
  refine L_last 11 E w d_L_add_11 (fun H locs w => ?_)
  refine lv_goto (pc := 12) (tgt := 19) E.1.1 E.1.2.1 d_L_add_12 rfl ?_
  refine lv_iconst (pc := 19) (v := nI 0) E.1.1 E.1.2.1 d_L_add_19 (by decide) ?_
  refine L_iret 20 E w d_L_add_20 (by decide) ?_
  obtain ⟨rfl, h1, h2⟩ := hp
  exact ⟨rfl, rfl, h1, h2⟩
theorem c_L_cut (l : Launch) (hfl : l.flags = flags0) (D : va_G) (cI cJ : ClassId) (q : Nat → Nat) (qo : Nat) (f : Nat → Int32) (G : Nat → Nat → Int32) (g : Nat → Int64) {a : Nat} {n : Nat} (hn : n ≤ 4000) (hf : f 0 = nI n) (ha : a < 2 ^ 32) :
    L_Mi l y_L_cut b_L_cut 4 [(0, 9, 12, 19)] rm_L D cI cJ q qo f G g [.ref (q 0), .int (nI a), .ref qo]
      (fun r f' G' g' => ((a ≤ n ∧ r = nI 0 ∧ g' 0 = (nI a).toInt64 ∧ f' = upd f 0 (nI a)) ∨ (¬ a ≤ n ∧ r = nI 1 ∧ f' = f)) ∧ G' = G) := by
  refine L_ofi rfl (Nat.le_of_ble_eq_true rfl) ?_
  intro p e s m args below meth c9 ls A E w hl
  have hl : kl ls [some (.ref (q 0)), some (.int (nI a)), some (.ref qo), none] := kl_of _ hl rfl rfl rfl
  refine kl_aload_n 0 E.1 d_L_cut_0 hl rfl ?_
  refine lv_iconst (pc := 1) (v := nI 0) E.1.1 E.1.2.1 d_L_cut_1 (by decide) ?_
  refine kl_aload_n 2 E.1 d_L_cut_2 hl rfl ?_
  refine kl_iload_n 3 E.1 d_L_cut_3 hl rfl ?_
  by_cases h : a ≤ n
  · refine L_ci 4 E w (c_cut l D cI q f G hn hf h) (cv_L_T_cut E.1.2.2.2 rfl rfl ⟨by decide, by decide⟩) (kl_sz hl) rfl rfl (Nat.le_of_ble_eq_true rfl) d_L_cut_4 (fun r f1 G1 H locs hp w => ?_)
    refine lv_i2l (pc := 7) E.1.1 E.1.2.1 d_L_cut_7 rfl ?_
    refine L_last 8 E w d_L_cut_8 (fun H locs w => ?_)
    refine lv_goto (pc := 9) (tgt := 15) E.1.1 E.1.2.1 d_L_cut_9 rfl ?_
    refine lv_iconst (pc := 15) (v := nI 0) E.1.1 E.1.2.1 d_L_cut_15 (by decide) ?_
    refine L_iret 16 E w d_L_cut_16 (by decide) ?_
    obtain ⟨rfl, h1, h2⟩ := hp
    exact ⟨Or.inl ⟨h, rfl, rfl, h1⟩, h2⟩
  · refine L_ct1 4 E w (c_cut_t l D cI q f G hfl (x := nI a) (fun h9 => h (kv_le ha (by omega) h9.1 (hf ▸ h9.2)))) (cv_L_T_cut E.1.2.2.2 rfl rfl ⟨by decide, by decide⟩) (by decide) (kl_sz hl) rfl rfl (Nat.le_of_ble_eq_true rfl) d_L_cut_4 (by decide) tw_157 tw_164 (fun x f1 G1 H locs hp w => ?_)
    refine kl_astore_n 12 E.1 d_L_cut_12 hl (Nat.le_of_ble_eq_true rfl) (fun ls hl => ?_)
    refine lv_iconst (pc := 13) (v := nI 1) E.1.1 E.1.2.1 d_L_cut_13 (by decide) ?_
    refine L_iret 14 E w d_L_cut_14 (by decide) ?_
    exact ⟨Or.inr ⟨h, rfl, hp.1⟩, hp.2⟩
theorem c_L_at (l : Launch) (hfl : l.flags = flags0) (D : va_G) (cI cJ : ClassId) (q : Nat → Nat) (qo : Nat) (f : Nat → Int32) (G : Nat → Nat → Int32) (g : Nat → Int64) {a : Nat} {n : Nat} {A0 : Nat → Nat → Nat} (hq : kq f G n A0) (ha : a < 2 ^ 32) :
    L_Mi l y_L_at b_L_at 4 [(0, 9, 12, 24)] rm_L D cI cJ q qo f G g [.ref (q 0), .int (nI a), .ref qo]
      (fun r f' G' g' => ((a < n ∧ r = nI 0 ∧ g' 0 = (nI (A0 0 a)).toInt64) ∨ (¬ a < n ∧ r = nI 1)) ∧ f' = f ∧ G' = G) := by
  refine L_ofi rfl (Nat.le_of_ble_eq_true rfl) ?_
  intro p e s m args below meth c9 ls A E w hl
  have hl : kl ls [some (.ref (q 0)), some (.int (nI a)), some (.ref qo), none] := kl_of _ hl rfl rfl rfl
  refine kl_aload_n 0 E.1 d_L_at_0 hl rfl ?_
  refine lv_iconst (pc := 1) (v := nI 0) E.1.1 E.1.2.1 d_L_at_1 (by decide) ?_
  refine kl_aload_n 2 E.1 d_L_at_2 hl rfl ?_
  refine kl_iload_n 3 E.1 d_L_at_3 hl rfl ?_
  by_cases h : a < n
  · refine L_ci 4 E w (c_at l D cI q f G hq h) (cv_L_T_at E.1.2.2.2 rfl rfl ⟨by decide, by decide⟩) (kl_sz hl) rfl rfl (Nat.le_of_ble_eq_true rfl) d_L_at_4 (fun r f1 G1 H locs hp w => ?_)
    refine lv_i2l (pc := 7) E.1.1 E.1.2.1 d_L_at_7 rfl ?_
    refine L_last 8 E w d_L_at_8 (fun H locs w => ?_)
    refine lv_goto (pc := 9) (tgt := 15) E.1.1 E.1.2.1 d_L_at_9 rfl ?_
    refine lv_iconst (pc := 15) (v := nI 0) E.1.1 E.1.2.1 d_L_at_15 (by decide) ?_
    refine L_iret 16 E w d_L_at_16 (by decide) ?_
    obtain ⟨rfl, h1, h2⟩ := hp
    exact ⟨Or.inl ⟨h, rfl, rfl⟩, h1, h2⟩
  · refine L_ct1 4 E w (c_at_t l D cI q f G hfl (x := nI a) (fun h9 => h (kv_lt ha (by have := hq.2.1; omega) h9.1 (hq.1 ▸ h9.2)))) (cv_L_T_at E.1.2.2.2 rfl rfl ⟨by decide, by decide⟩) (by decide) (kl_sz hl) rfl rfl (Nat.le_of_ble_eq_true rfl) d_L_at_4 (by decide) tw_180 tw_187 (fun x f1 G1 H locs hp w => ?_)
    refine kl_astore_n 12 E.1 d_L_at_12 hl (Nat.le_of_ble_eq_true rfl) (fun ls hl => ?_)
    refine lv_iconst (pc := 13) (v := nI 1) E.1.1 E.1.2.1 d_L_at_13 (by decide) ?_
    refine L_iret 14 E w d_L_at_14 (by decide) ?_
    exact ⟨Or.inr ⟨h, rfl⟩, hp.1, hp.2⟩
theorem c_L_number (l : Launch) (hfl : l.flags = flags0) (D : va_G) (cI cJ : ClassId) (q : Nat → Nat) (qo : Nat) (f : Nat → Int32) (G : Nat → Nat → Int32) (g : Nat → Int64) {a : Nat} {F : Nat} (hF : F ≤ 512) (hf : f 2 = nI F) (hN : ∀ i, i < F → ∃ v t, G 7 i = nI v ∧ G 8 i = nI t ∧ v < 512 ∧ t < 4096) (ha : a < 2 ^ 32) :
    L_Mi l y_L_number b_L_number 4 [(0, 9, 12, 24)] rm_L D cI cJ q qo f G g [.ref (q 0), .int (nI a), .ref qo]
      (fun r f' G' g' => ((a < F ∧ r = nI 0 ∧ ∃ v t, G 7 a = nI v ∧ G 8 a = nI t ∧ g' 0 = (nI (4096 * v + t)).toInt64 ∧ v < 512 ∧ t < 4096) ∨ (¬ a < F ∧ r = nI 1)) ∧ f' = f ∧ G' = G) := by
  refine L_ofi rfl (Nat.le_of_ble_eq_true rfl) ?_
  intro p e s m args below meth c9 ls A E w hl
  have hl : kl ls [some (.ref (q 0)), some (.int (nI a)), some (.ref qo), none] := kl_of _ hl rfl rfl rfl
  refine kl_aload_n 0 E.1 d_L_number_0 hl rfl ?_
  refine lv_iconst (pc := 1) (v := nI 0) E.1.1 E.1.2.1 d_L_number_1 (by decide) ?_
  refine kl_aload_n 2 E.1 d_L_number_2 hl rfl ?_
  refine kl_iload_n 3 E.1 d_L_number_3 hl rfl ?_
  by_cases h : a < F
  · refine L_ci 4 E w (c_number l D cI q f G hF hf h (hN a h).choose_spec.choose_spec.1 (hN a h).choose_spec.choose_spec.2.1 (hN a h).choose_spec.choose_spec.2.2.1 (hN a h).choose_spec.choose_spec.2.2.2) (cv_L_T_number E.1.2.2.2 rfl rfl ⟨by decide, by decide⟩) (kl_sz hl) rfl rfl (Nat.le_of_ble_eq_true rfl) d_L_number_4 (fun r f1 G1 H locs hp w => ?_)
    refine lv_i2l (pc := 7) E.1.1 E.1.2.1 d_L_number_7 rfl ?_
    refine L_last 8 E w d_L_number_8 (fun H locs w => ?_)
    refine lv_goto (pc := 9) (tgt := 15) E.1.1 E.1.2.1 d_L_number_9 rfl ?_
    refine lv_iconst (pc := 15) (v := nI 0) E.1.1 E.1.2.1 d_L_number_15 (by decide) ?_
    refine L_iret 16 E w d_L_number_16 (by decide) ?_
    obtain ⟨rfl, h1, h2⟩ := hp
    exact ⟨Or.inl ⟨h, rfl, _, _, (hN a h).choose_spec.choose_spec.1, (hN a h).choose_spec.choose_spec.2.1, rfl, (hN a h).choose_spec.choose_spec.2.2⟩, h1, h2⟩
  · refine L_ct1 4 E w (c_number_t l D cI q f G hfl (x := nI a) (fun h9 => h (kv_lt ha (by omega) h9.1 (hf ▸ h9.2)))) (cv_L_T_number E.1.2.2.2 rfl rfl ⟨by decide, by decide⟩) (by decide) (kl_sz hl) rfl rfl (Nat.le_of_ble_eq_true rfl) d_L_number_4 (by decide) tw_180 tw_187 (fun x f1 G1 H locs hp w => ?_)
    refine kl_astore_n 12 E.1 d_L_number_12 hl (Nat.le_of_ble_eq_true rfl) (fun ls hl => ?_)
    refine lv_iconst (pc := 13) (v := nI 1) E.1.1 E.1.2.1 d_L_number_13 (by decide) ?_
    refine L_iret 14 E w d_L_number_14 (by decide) ?_
    exact ⟨Or.inr ⟨h, rfl⟩, hp.1, hp.2⟩
theorem c_L_often (l : Launch) (hfl : l.flags = flags0) (D : va_G) (cI cJ : ClassId) (q : Nat → Nat) (qo : Nat) (f : Nat → Int32) (G : Nat → Nat → Int32) (g : Nat → Int64) {a b c : Nat} {n : Nat} {A0 : Nat → Nat → Nat} (hq : kq f G n A0) (ha : a < 2 ^ 32) (hb : b < 2 ^ 32) (hc : c < 2 ^ 32) :
    L_Mi l y_L_often b_L_often 6 [(0, 12, 15, 19)] rm_L D cI cJ q qo f G g [.ref (q 0), .int (nI a), .int (nI b), .int (nI c), .ref qo]
      (fun r f' G' g' => (((a ≤ 511 ∧ b ≤ c ∧ c ≤ n) ∧ r = nI 0 ∧ g' 0 = (nI (wm_cn (A0 0) (fun x => x == a) b c)).toInt64) ∨ (¬ (a ≤ 511 ∧ b ≤ c ∧ c ≤ n) ∧ r = nI 1)) ∧ fk f f' ∧ G' = G) := by
  refine L_ofi rfl (Nat.le_of_ble_eq_true rfl) ?_
  intro p e s m args below meth c9 ls A E w hl
  have hl : kl ls [some (.ref (q 0)), some (.int (nI a)), some (.int (nI b)), some (.int (nI c)), some (.ref qo), none] := kl_of _ hl rfl rfl rfl
  refine kl_aload 0 E.1 d_L_often_0 hl rfl ?_
  refine lv_iconst (pc := 2) (v := nI 0) E.1.1 E.1.2.1 d_L_often_2 (by decide) ?_
  refine kl_aload_n 3 E.1 d_L_often_3 hl rfl ?_
  refine kl_iload_n 4 E.1 d_L_often_4 hl rfl ?_
  refine kl_iload_n 5 E.1 d_L_often_5 hl rfl ?_
  refine kl_iload_n 6 E.1 d_L_often_6 hl rfl ?_
  by_cases h : (a ≤ 511 ∧ b ≤ c ∧ c ≤ n)
  · refine L_ci 7 E w (c_often l D cI q f G hq (show a < 512 by omega) h.2.1 h.2.2) (cv_L_T_often E.1.2.2.2 rfl rfl ⟨by decide, by decide⟩) (kl_sz hl) rfl rfl (Nat.le_of_ble_eq_true rfl) d_L_often_7 (fun r f1 G1 H locs hp w => ?_)
    refine lv_i2l (pc := 10) E.1.1 E.1.2.1 d_L_often_10 rfl ?_
    refine L_last 11 E w d_L_often_11 (fun H locs w => ?_)
    refine lv_goto (pc := 12) (tgt := 19) E.1.1 E.1.2.1 d_L_often_12 rfl ?_
    refine lv_iconst (pc := 19) (v := nI 0) E.1.1 E.1.2.1 d_L_often_19 (by decide) ?_
    refine L_iret 20 E w d_L_often_20 (by decide) ?_
    obtain ⟨rfl, h1, -, h2⟩ := hp
    exact ⟨Or.inl ⟨h, rfl, rfl⟩, h1, h2⟩
  · refine L_ct1 7 E w (c_often_t l D cI q f G hfl (v := nI a) (x := nI b) (y := nI c) (fun h9 => h ⟨kv_le ha (by decide) h9.1.1 h9.1.2, kv_p hq.2.1 hb hc (hq.1 ▸ h9.2)⟩)) (cv_L_T_often E.1.2.2.2 rfl rfl ⟨by decide, by decide⟩) (by decide) (kl_sz hl) rfl rfl (Nat.le_of_ble_eq_true rfl) d_L_often_7 (by decide) tw_157 tw_164 (fun x f1 G1 H locs hp w => ?_)
    refine kl_astore 15 E.1 d_L_often_15 hl (Nat.le_of_ble_eq_true rfl) (fun ls hl => ?_)
    refine lv_iconst (pc := 17) (v := nI 1) E.1.1 E.1.2.1 d_L_often_17 (by decide) ?_
    refine L_iret 18 E w d_L_often_18 (by decide) ?_
    exact ⟨Or.inr ⟨h, rfl⟩, by rw [hp.1]; exact fk.rf f, hp.2⟩
theorem c_L_below (l : Launch) (hfl : l.flags = flags0) (D : va_G) (cI cJ : ClassId) (q : Nat → Nat) (qo : Nat) (f : Nat → Int32) (G : Nat → Nat → Int32) (g : Nat → Int64) {a b c : Nat} {n : Nat} {A0 : Nat → Nat → Nat} (hq : kq f G n A0) (ha : a < 2 ^ 32) (hb : b < 2 ^ 32) (hc : c < 2 ^ 32) :
    L_Mi l y_L_below b_L_below 6 [(0, 12, 15, 19)] rm_L D cI cJ q qo f G g [.ref (q 0), .int (nI a), .int (nI b), .int (nI c), .ref qo]
      (fun r f' G' g' => (((a ≤ 512 ∧ b ≤ c ∧ c ≤ n) ∧ r = nI 0 ∧ g' 0 = (nI (wm_cn (A0 0) (fun x => decide (x < a)) b c)).toInt64) ∨ (¬ (a ≤ 512 ∧ b ≤ c ∧ c ≤ n) ∧ r = nI 1)) ∧ fk f f' ∧ G' = G) := by
  refine L_ofi rfl (Nat.le_of_ble_eq_true rfl) ?_
  intro p e s m args below meth c9 ls A E w hl
  have hl : kl ls [some (.ref (q 0)), some (.int (nI a)), some (.int (nI b)), some (.int (nI c)), some (.ref qo), none] := kl_of _ hl rfl rfl rfl
  refine kl_aload 0 E.1 d_L_below_0 hl rfl ?_
  refine lv_iconst (pc := 2) (v := nI 0) E.1.1 E.1.2.1 d_L_below_2 (by decide) ?_
  refine kl_aload_n 3 E.1 d_L_below_3 hl rfl ?_
  refine kl_iload_n 4 E.1 d_L_below_4 hl rfl ?_
  refine kl_iload_n 5 E.1 d_L_below_5 hl rfl ?_
  refine kl_iload_n 6 E.1 d_L_below_6 hl rfl ?_
  by_cases h : (a ≤ 512 ∧ b ≤ c ∧ c ≤ n)
  · refine L_ci 7 E w (c_below l D cI q f G hq h.1 h.2.1 h.2.2) (cv_L_T_below E.1.2.2.2 rfl rfl ⟨by decide, by decide⟩) (kl_sz hl) rfl rfl (Nat.le_of_ble_eq_true rfl) d_L_below_7 (fun r f1 G1 H locs hp w => ?_)
    refine lv_i2l (pc := 10) E.1.1 E.1.2.1 d_L_below_10 rfl ?_
    refine L_last 11 E w d_L_below_11 (fun H locs w => ?_)
    refine lv_goto (pc := 12) (tgt := 19) E.1.1 E.1.2.1 d_L_below_12 rfl ?_
    refine lv_iconst (pc := 19) (v := nI 0) E.1.1 E.1.2.1 d_L_below_19 (by decide) ?_
    refine L_iret 20 E w d_L_below_20 (by decide) ?_
    obtain ⟨rfl, h1, h2⟩ := hp
    exact ⟨Or.inl ⟨h, rfl, rfl⟩, h1, h2⟩
  · refine L_ct1 7 E w (c_below_t l D cI q f G hfl (v := nI a) (x := nI b) (y := nI c) (fun h9 => h ⟨kv_le ha (by decide) h9.1.1 h9.1.2, kv_p hq.2.1 hb hc (hq.1 ▸ h9.2)⟩)) (cv_L_T_below E.1.2.2.2 rfl rfl ⟨by decide, by decide⟩) (by decide) (kl_sz hl) rfl rfl (Nat.le_of_ble_eq_true rfl) d_L_below_7 (by decide) tw_157 tw_164 (fun x f1 G1 H locs hp w => ?_)
    refine kl_astore 15 E.1 d_L_below_15 hl (Nat.le_of_ble_eq_true rfl) (fun ls hl => ?_)
    refine lv_iconst (pc := 17) (v := nI 1) E.1.1 E.1.2.1 d_L_below_17 (by decide) ?_
    refine L_iret 18 E w d_L_below_18 (by decide) ?_
    exact ⟨Or.inr ⟨h, rfl⟩, by rw [hp.1]; exact fk.rf f, hp.2⟩
theorem c_L_before (l : Launch) (hfl : l.flags = flags0) (D : va_G) (cI cJ : ClassId) (q : Nat → Nat) (qo : Nat) (f : Nat → Int32) (G : Nat → Nat → Int32) (g : Nat → Int64) {a b c : Nat} {n : Nat} {A0 : Nat → Nat → Nat} (hq : kq f G n A0) (ha : a < 2 ^ 32) (hb : b < 2 ^ 32) (hc : c < 2 ^ 32) :
    L_Mi l y_L_before b_L_before 6 [(0, 12, 15, 19)] rm_L D cI cJ q qo f G g [.ref (q 0), .int (nI a), .int (nI b), .int (nI c), .ref qo]
      (fun r f' G' g' => (((a ≤ 511 ∧ b ≤ c ∧ c ≤ n) ∧ r = nI 0 ∧ ∃ x, g' 0 = x.toInt64 ∧ ((wm_cn (A0 0) (fun x => decide (x < a + 1)) b c = 0 ∧ x = -1) ∨ ∃ v, x = nI v ∧ 0 < wm_cn (A0 0) (fun x => decide (x < a + 1)) b c ∧ wm_Qt (A0 0) b c (wm_cn (A0 0) (fun x => decide (x < a + 1)) b c - 1) v)) ∨ (¬ (a ≤ 511 ∧ b ≤ c ∧ c ≤ n) ∧ r = nI 1)) ∧ fk f f' ∧ G' = G) := by
  refine L_ofi rfl (Nat.le_of_ble_eq_true rfl) ?_
  intro p e s m args below meth c9 ls A E w hl
  have hl : kl ls [some (.ref (q 0)), some (.int (nI a)), some (.int (nI b)), some (.int (nI c)), some (.ref qo), none] := kl_of _ hl rfl rfl rfl
  refine kl_aload 0 E.1 d_L_before_0 hl rfl ?_
  refine lv_iconst (pc := 2) (v := nI 0) E.1.1 E.1.2.1 d_L_before_2 (by decide) ?_
  refine kl_aload_n 3 E.1 d_L_before_3 hl rfl ?_
  refine kl_iload_n 4 E.1 d_L_before_4 hl rfl ?_
  refine kl_iload_n 5 E.1 d_L_before_5 hl rfl ?_
  refine kl_iload_n 6 E.1 d_L_before_6 hl rfl ?_
  by_cases h : (a ≤ 511 ∧ b ≤ c ∧ c ≤ n)
  · refine L_ci 7 E w (c_before l D cI q f G hq (show a < 512 by omega) h.2.1 h.2.2) (cv_L_T_before E.1.2.2.2 rfl rfl ⟨by decide, by decide⟩) (kl_sz hl) rfl rfl (Nat.le_of_ble_eq_true rfl) d_L_before_7 (fun r f1 G1 H locs hp w => ?_)
    refine lv_i2l (pc := 10) E.1.1 E.1.2.1 d_L_before_10 rfl ?_
    refine L_last 11 E w d_L_before_11 (fun H locs w => ?_)
    refine lv_goto (pc := 12) (tgt := 19) E.1.1 E.1.2.1 d_L_before_12 rfl ?_
    refine lv_iconst (pc := 19) (v := nI 0) E.1.1 E.1.2.1 d_L_before_19 (by decide) ?_
    refine L_iret 20 E w d_L_before_20 (by decide) ?_
    obtain ⟨h0, h1, h2⟩ := hp
    exact ⟨Or.inl ⟨h, rfl, r, rfl, h0⟩, h1, h2⟩
  · refine L_ct1 7 E w (c_before_t l D cI q f G hfl (v := nI a) (x := nI b) (y := nI c) (fun h9 => h ⟨kv_le ha (by decide) h9.1.1 h9.1.2, kv_p hq.2.1 hb hc (hq.1 ▸ h9.2)⟩)) (cv_L_T_before E.1.2.2.2 rfl rfl ⟨by decide, by decide⟩) (by decide) (kl_sz hl) rfl rfl (Nat.le_of_ble_eq_true rfl) d_L_before_7 (by decide) tw_157 tw_164 (fun x f1 G1 H locs hp w => ?_)
    refine kl_astore 15 E.1 d_L_before_15 hl (Nat.le_of_ble_eq_true rfl) (fun ls hl => ?_)
    refine lv_iconst (pc := 17) (v := nI 1) E.1.1 E.1.2.1 d_L_before_17 (by decide) ?_
    refine L_iret 18 E w d_L_before_18 (by decide) ?_
    exact ⟨Or.inr ⟨h, rfl⟩, by rw [hp.1]; exact fk.rf f, hp.2⟩
theorem c_L_least (l : Launch) (hfl : l.flags = flags0) (D : va_G) (cI cJ : ClassId) (q : Nat → Nat) (qo : Nat) (f : Nat → Int32) (G : Nat → Nat → Int32) (g : Nat → Int64) {a b c : Nat} {n : Nat} {A0 : Nat → Nat → Nat} (hq : kq f G n A0) (ha : a < 2 ^ 32) (hb : b < 2 ^ 32) (hc : c < 2 ^ 32) :
    L_Mi l y_L_least b_L_least 6 [(0, 12, 15, 19), (0, 12, 19, 24)] rm_L D cI cJ q qo f G g [.ref (q 0), .int (nI a), .int (nI b), .int (nI c), .ref qo]
      (fun r f' G' g' => (((a ≤ b ∧ b ≤ n) ∧ c < b - a ∧ r = nI 0 ∧ ∃ v, g' 0 = (nI v).toInt64 ∧ wm_Qt (A0 0) a b c v) ∨ ((a ≤ b ∧ b ≤ n) ∧ ¬ c < b - a ∧ r = nI 2) ∨ (¬ (a ≤ b ∧ b ≤ n) ∧ r = nI 1)) ∧ fk f f' ∧ G' = G) := by
  refine L_ofi rfl (Nat.le_of_ble_eq_true rfl) ?_
  intro p e s m args below meth c9 ls A E w hl
  have hl : kl ls [some (.ref (q 0)), some (.int (nI a)), some (.int (nI b)), some (.int (nI c)), some (.ref qo), none] := kl_of _ hl rfl rfl rfl
  refine kl_aload 0 E.1 d_L_least_0 hl rfl ?_
  refine lv_iconst (pc := 2) (v := nI 0) E.1.1 E.1.2.1 d_L_least_2 (by decide) ?_
  refine kl_aload_n 3 E.1 d_L_least_3 hl rfl ?_
  refine kl_iload_n 4 E.1 d_L_least_4 hl rfl ?_
  refine kl_iload_n 5 E.1 d_L_least_5 hl rfl ?_
  refine kl_iload_n 6 E.1 d_L_least_6 hl rfl ?_
  by_cases h : (a ≤ b ∧ b ≤ n)
  · by_cases h2 : c < b - a
    · refine L_ci 7 E w (c_least l D cI q f G hq h.1 h.2 h2) (cv_L_T_least E.1.2.2.2 rfl rfl ⟨by decide, by decide⟩) (kl_sz hl) rfl rfl (Nat.le_of_ble_eq_true rfl) d_L_least_7 (fun r f1 G1 H locs hp w => ?_)
      refine lv_i2l (pc := 10) E.1.1 E.1.2.1 d_L_least_10 rfl ?_
      refine L_last 11 E w d_L_least_11 (fun H locs w => ?_)
      refine lv_goto (pc := 12) (tgt := 23) E.1.1 E.1.2.1 d_L_least_12 rfl ?_
      refine lv_iconst (pc := 23) (v := nI 0) E.1.1 E.1.2.1 d_L_least_23 (by decide) ?_
      refine L_iret 24 E w d_L_least_24 (by decide) ?_
      obtain ⟨⟨v, rfl, h0⟩, h1, h3⟩ := hp
      exact ⟨Or.inl ⟨h, h2, rfl, v, rfl, h0⟩, h1, h3⟩
    · refine L_ct2 7 E w (c_least_t2 l D cI q f G hfl hq.2.1 hq.1 h.1 h.2 (k := nI c) (fun h9 => h2 (kv_lt hc (by have := hq.2.1; omega) h9.1 h9.2))) (cv_L_T_least E.1.2.2.2 rfl rfl ⟨by decide, by decide⟩) (by decide) (kl_sz hl) rfl rfl (Nat.le_of_ble_eq_true rfl) d_L_least_7 (by decide) tw_157 tw_180 tw_187 (fun x f1 G1 H locs hp w => ?_)
      refine kl_astore 19 E.1 d_L_least_19 hl (Nat.le_of_ble_eq_true rfl) (fun ls hl => ?_)
      refine lv_iconst (pc := 21) (v := nI 2) E.1.1 E.1.2.1 d_L_least_21 (by decide) ?_
      refine L_iret 22 E w d_L_least_22 (by decide) ?_
      exact ⟨Or.inr (Or.inl ⟨h, h2, rfl⟩), by rw [hp.1]; exact fk.rf f, hp.2⟩
  · refine L_ct1 7 E w (c_least_t l D cI q f G hfl (x := nI a) (y := nI b) (k := nI c) (fun h9 => h (kv_p hq.2.1 ha hb (hq.1 ▸ h9)))) (cv_L_T_least E.1.2.2.2 rfl rfl ⟨by decide, by decide⟩) (by decide) (kl_sz hl) rfl rfl (Nat.le_of_ble_eq_true rfl) d_L_least_7 (by decide) tw_157 tw_164 (fun x f1 G1 H locs hp w => ?_)
    refine kl_astore 15 E.1 d_L_least_15 hl (Nat.le_of_ble_eq_true rfl) (fun ls hl => ?_)
    refine lv_iconst (pc := 17) (v := nI 1) E.1.1 E.1.2.1 d_L_least_17 (by decide) ?_
    refine L_iret 18 E w d_L_least_18 (by decide) ?_
    exact ⟨Or.inr (Or.inr ⟨h, rfl⟩), by rw [hp.1]; exact fk.rf f, hp.2⟩
theorem c_L_place (l : Launch) (hfl : l.flags = flags0) (D : va_G) (cI cJ : ClassId) (q : Nat → Nat) (qo : Nat) (f : Nat → Int32) (G : Nat → Nat → Int32) (g : Nat → Int64) {a b : Nat} {n : Nat} {A0 : Nat → Nat → Nat} (hq : kq f G n A0) (ha : a < 2 ^ 32) (hb : b < 2 ^ 32) :
    L_Mi l y_L_place b_L_place 5 [(0, 10, 13, 19), (0, 10, 17, 24)] rm_L D cI cJ q qo f G g [.ref (q 0), .int (nI a), .int (nI b), .ref qo]
      (fun r f' G' g' => ((a ≤ 511 ∧ b < wm_cn (A0 0) (fun x => x == a) 0 n ∧ r = nI 0 ∧ ∃ x, g' 0 = (nI x).toInt64 ∧ x < n ∧ A0 0 x = a ∧ wm_cn (A0 0) (fun v => v == a) 0 x = b) ∨ (a ≤ 511 ∧ ¬ b < wm_cn (A0 0) (fun x => x == a) 0 n ∧ r = nI 2) ∨ (¬ a ≤ 511 ∧ r = nI 1)) ∧ fk f f' ∧ G' = G) := by
  refine L_ofi rfl (Nat.le_of_ble_eq_true rfl) ?_
  intro p e s m args below meth c9 ls A E w hl
  have hl : kl ls [some (.ref (q 0)), some (.int (nI a)), some (.int (nI b)), some (.ref qo), none] := kl_of _ hl rfl rfl rfl
  refine kl_aload_n 0 E.1 d_L_place_0 hl rfl ?_
  refine lv_iconst (pc := 1) (v := nI 0) E.1.1 E.1.2.1 d_L_place_1 (by decide) ?_
  refine kl_aload_n 2 E.1 d_L_place_2 hl rfl ?_
  refine kl_iload_n 3 E.1 d_L_place_3 hl rfl ?_
  refine kl_iload_n 4 E.1 d_L_place_4 hl rfl ?_
  by_cases h : a ≤ 511
  · by_cases h2 : b < wm_cn (A0 0) (fun x => x == a) 0 n
    · refine L_ci 5 E w (c_place l D cI q f G hq (show a < 512 by omega) h2) (cv_L_T_place E.1.2.2.2 rfl rfl ⟨by decide, by decide⟩) (kl_sz hl) rfl rfl (Nat.le_of_ble_eq_true rfl) d_L_place_5 (fun r f1 G1 H locs hp w => ?_)
      refine lv_i2l (pc := 8) E.1.1 E.1.2.1 d_L_place_8 rfl ?_
      refine L_last 9 E w d_L_place_9 (fun H locs w => ?_)
      refine lv_goto (pc := 10) (tgt := 21) E.1.1 E.1.2.1 d_L_place_10 rfl ?_
      refine lv_iconst (pc := 21) (v := nI 0) E.1.1 E.1.2.1 d_L_place_21 (by decide) ?_
      refine L_iret 22 E w d_L_place_22 (by decide) ?_
      obtain ⟨⟨x, rfl, h0⟩, h1, h3⟩ := hp
      exact ⟨Or.inl ⟨h, h2, rfl, x, rfl, h0⟩, h1, h3⟩
    · refine L_ct2 5 E w (c_place_t2 l D cI q f G hfl hq (show a < 512 by omega) (k := nI b) (fun h9 => h2 (kv_lt hb (by have := hq.2.1; have := wm_cn_le (A0 0) (fun x => x == a) (Nat.zero_le n); omega) h9.1 h9.2))) (cv_L_T_place E.1.2.2.2 rfl rfl ⟨by decide, by decide⟩) (by decide) (kl_sz hl) rfl rfl (Nat.le_of_ble_eq_true rfl) d_L_place_5 (by decide) tw_157 tw_180 tw_187 (fun x f1 G1 H locs hp w => ?_)
      refine kl_astore 17 E.1 d_L_place_17 hl (Nat.le_of_ble_eq_true rfl) (fun ls hl => ?_)
      refine lv_iconst (pc := 19) (v := nI 2) E.1.1 E.1.2.1 d_L_place_19 (by decide) ?_
      refine L_iret 20 E w d_L_place_20 (by decide) ?_
      exact ⟨Or.inr (Or.inl ⟨h, h2, rfl⟩), hp.1, hp.2⟩
  · refine L_ct1 5 E w (c_place_t l D cI q f G hfl (v := nI a) (k := nI b) (fun h9 => h (kv_le ha (by decide) h9.1 h9.2))) (cv_L_T_place E.1.2.2.2 rfl rfl ⟨by decide, by decide⟩) (by decide) (kl_sz hl) rfl rfl (Nat.le_of_ble_eq_true rfl) d_L_place_5 (by decide) tw_157 tw_164 (fun x f1 G1 H locs hp w => ?_)
    refine kl_astore 13 E.1 d_L_place_13 hl (Nat.le_of_ble_eq_true rfl) (fun ls hl => ?_)
    refine lv_iconst (pc := 15) (v := nI 1) E.1.1 E.1.2.1 d_L_place_15 (by decide) ?_
    refine L_iret 16 E w d_L_place_16 (by decide) ?_
    exact ⟨Or.inr (Or.inr ⟨h, rfl⟩), by rw [hp.1]; exact fk.rf f, hp.2⟩
theorem c_L_different (l : Launch) (hfl : l.flags = flags0) (D : va_G) (cI cJ : ClassId) (q : Nat → Nat) (qo : Nat) (f : Nat → Int32) (G : Nat → Nat → Int32) (g : Nat → Int64) {a b : Nat} {n : Nat} {A0 : Nat → Nat → Nat} (hq : kq f G n A0) (ha : a < 2 ^ 32) (hb : b < 2 ^ 32) :
    L_Mi l y_L_different b_L_different 5 [(0, 10, 13, 19)] rm_L D cI cJ q qo f G g [.ref (q 0), .int (nI a), .int (nI b), .ref qo]
      (fun r f' G' g' => (((a ≤ b ∧ b ≤ n) ∧ r = nI 0 ∧ g' 0 = (nI (wm_Sn (wm_c A0 a b) 512)).toInt64 ∧ f' 2 = nI (wm_Sn (wm_c A0 a b) 512) ∧ wm_Fd (wm_c A0 a b) (G' 7) (G' 8) 512 ∧ (∀ j, j ≠ 2 → f' j = f j) ∧ ∀ j, j ≠ 7 → j ≠ 8 → G' j = G j) ∨ (¬ (a ≤ b ∧ b ≤ n) ∧ r = nI 1 ∧ f' = f ∧ G' = G))) := by
  refine L_ofi rfl (Nat.le_of_ble_eq_true rfl) ?_
  intro p e s m args below meth c9 ls A E w hl
  have hl : kl ls [some (.ref (q 0)), some (.int (nI a)), some (.int (nI b)), some (.ref qo), none] := kl_of _ hl rfl rfl rfl
  refine kl_aload_n 0 E.1 d_L_different_0 hl rfl ?_
  refine lv_iconst (pc := 1) (v := nI 0) E.1.1 E.1.2.1 d_L_different_1 (by decide) ?_
  refine kl_aload_n 2 E.1 d_L_different_2 hl rfl ?_
  refine kl_iload_n 3 E.1 d_L_different_3 hl rfl ?_
  refine kl_iload_n 4 E.1 d_L_different_4 hl rfl ?_
  by_cases h : (a ≤ b ∧ b ≤ n)
  · refine L_ci 5 E w (c_different l D cI q f G hq h.1 h.2) (cv_L_T_different E.1.2.2.2 rfl rfl ⟨by decide, by decide⟩) (kl_sz hl) rfl rfl (Nat.le_of_ble_eq_true rfl) d_L_different_5 (fun r f1 G1 H locs hp w => ?_)
    refine lv_i2l (pc := 8) E.1.1 E.1.2.1 d_L_different_8 rfl ?_
    refine L_last 9 E w d_L_different_9 (fun H locs w => ?_)
    refine lv_goto (pc := 10) (tgt := 17) E.1.1 E.1.2.1 d_L_different_10 rfl ?_
    refine lv_iconst (pc := 17) (v := nI 0) E.1.1 E.1.2.1 d_L_different_17 (by decide) ?_
    refine L_iret 18 E w d_L_different_18 (by decide) ?_
    obtain ⟨rfl, h0⟩ := hp
    exact Or.inl ⟨h, rfl, rfl, h0⟩
  · refine L_ct1 5 E w (c_different_t l D cI q f G hfl (x := nI a) (y := nI b) (fun h9 => h (kv_p hq.2.1 ha hb (hq.1 ▸ h9)))) (cv_L_T_different E.1.2.2.2 rfl rfl ⟨by decide, by decide⟩) (by decide) (kl_sz hl) rfl rfl (Nat.le_of_ble_eq_true rfl) d_L_different_5 (by decide) tw_157 tw_164 (fun x f1 G1 H locs hp w => ?_)
    refine kl_astore 13 E.1 d_L_different_13 hl (Nat.le_of_ble_eq_true rfl) (fun ls hl => ?_)
    refine lv_iconst (pc := 15) (v := nI 1) E.1.1 E.1.2.1 d_L_different_15 (by decide) ?_
    refine L_iret 16 E w d_L_different_16 (by decide) ?_
    exact Or.inr ⟨h, rfl, hp⟩
theorem c_L_most (l : Launch) (hfl : l.flags = flags0) (D : va_G) (cI cJ : ClassId) (q : Nat → Nat) (qo : Nat) (f : Nat → Int32) (G : Nat → Nat → Int32) (g : Nat → Int64) {a b : Nat} {n : Nat} {A0 : Nat → Nat → Nat} (hq : kq f G n A0) (ha : a < 2 ^ 32) (hb : b < 2 ^ 32) :
    L_Mi l y_L_most b_L_most 5 [(0, 10, 13, 19)] rm_L D cI cJ q qo f G g [.ref (q 0), .int (nI a), .int (nI b), .ref qo]
      (fun r f' G' g' => (((a ≤ b ∧ b ≤ n) ∧ r = nI 0 ∧ ∃ x, g' 0 = x.toInt64 ∧ ∃ bt, wm_Mx (wm_c A0 a b) 512 x bt) ∨ (¬ (a ≤ b ∧ b ≤ n) ∧ r = nI 1)) ∧ (∀ j, j ≠ 3 → j ≠ 4 → f' j = f j) ∧ G' = G) := by
  refine L_ofi rfl (Nat.le_of_ble_eq_true rfl) ?_
  intro p e s m args below meth c9 ls A E w hl
  have hl : kl ls [some (.ref (q 0)), some (.int (nI a)), some (.int (nI b)), some (.ref qo), none] := kl_of _ hl rfl rfl rfl
  refine kl_aload_n 0 E.1 d_L_most_0 hl rfl ?_
  refine lv_iconst (pc := 1) (v := nI 0) E.1.1 E.1.2.1 d_L_most_1 (by decide) ?_
  refine kl_aload_n 2 E.1 d_L_most_2 hl rfl ?_
  refine kl_iload_n 3 E.1 d_L_most_3 hl rfl ?_
  refine kl_iload_n 4 E.1 d_L_most_4 hl rfl ?_
  by_cases h : (a ≤ b ∧ b ≤ n)
  · refine L_ci 5 E w (c_most l D cI q f G hq h.1 h.2) (cv_L_T_most E.1.2.2.2 rfl rfl ⟨by decide, by decide⟩) (kl_sz hl) rfl rfl (Nat.le_of_ble_eq_true rfl) d_L_most_5 (fun r f1 G1 H locs hp w => ?_)
    refine lv_i2l (pc := 8) E.1.1 E.1.2.1 d_L_most_8 rfl ?_
    refine L_last 9 E w d_L_most_9 (fun H locs w => ?_)
    refine lv_goto (pc := 10) (tgt := 17) E.1.1 E.1.2.1 d_L_most_10 rfl ?_
    refine lv_iconst (pc := 17) (v := nI 0) E.1.1 E.1.2.1 d_L_most_17 (by decide) ?_
    refine L_iret 18 E w d_L_most_18 (by decide) ?_
    obtain ⟨h0, h1, h2⟩ := hp
    exact ⟨Or.inl ⟨h, rfl, r, rfl, h0⟩, h1, h2⟩
  · refine L_ct1 5 E w (c_most_t l D cI q f G hfl (x := nI a) (y := nI b) (fun h9 => h (kv_p hq.2.1 ha hb (hq.1 ▸ h9)))) (cv_L_T_most E.1.2.2.2 rfl rfl ⟨by decide, by decide⟩) (by decide) (kl_sz hl) rfl rfl (Nat.le_of_ble_eq_true rfl) d_L_most_5 (by decide) tw_157 tw_164 (fun x f1 G1 H locs hp w => ?_)
    refine kl_astore 13 E.1 d_L_most_13 hl (Nat.le_of_ble_eq_true rfl) (fun ls hl => ?_)
    refine lv_iconst (pc := 15) (v := nI 1) E.1.1 E.1.2.1 d_L_most_15 (by decide) ?_
    refine L_iret 16 E w d_L_most_16 (by decide) ?_
    exact ⟨Or.inr ⟨h, rfl⟩, fun j _ _ => by rw [hp.1], hp.2⟩
end
section
/-! the law's joint standing: the tree and the model agree -/
def kJ (k : Nat) (f : Nat → Int32) (G : Nat → Nat → Int32) (fm : Nat → Int32) (Gm : Nat → Nat → Int32) (len n F : Nat) (r : Nat → Nat) (A0 : Nat → Nat → Nat) : Prop :=
  (len ≤ 3 * k ∧ f 0 = nI len ∧ fm 1 = nI len ∧ ∀ j, j < len → r j < 512 ∧ G 1 j = nI (r j) ∧ Gm 1 j = nI (r j)) ∧ kq f G n A0 ∧ (fm 2 = nI n ∧ ∀ j, j < n → Gm 2 j = nI (A0 0 j)) ∧
  (F ≤ 512 ∧ f 2 = nI F ∧ fm 3 = nI F ∧ ∀ i, i < F → ∃ v t, (G 7 i = nI v ∧ G 8 i = nI t ∧ v < 512 ∧ t < 4096) ∧ Gm 4 i = nI v ∧ Gm 5 i = nI t)
def kI (k : Nat) (f : Nat → Int32) (G : Nat → Nat → Int32) (fm : Nat → Int32) (Gm : Nat → Nat → Int32) : Prop := ∃ len n F r A0, kJ k f G fm Gm len n F r A0
/-- behind both calls: the same kind of answer, the same answer, both as agreed -/
def kJp (k : Nat) (r : Int32) (f' : Nat → Int32) (G' : Nat → Nat → Int32) (g' : Nat → Int64) (r2 : Int32) (fm' : Nat → Int32) (Gm' : Nat → Nat → Int32) : Prop := fm' 0 = r ∧ (r = nI 0 → g' 0 = r2.toInt64) ∧ kI (k + 1) f' G' fm' Gm'
theorem M_weak {l : Launch} {y : MethodName} {b : ByteArray} {n : Nat} {ret : Option FieldType} {rm : Room} {D : va_G} {cI : ClassId} {q : Nat → Nat} {f : Nat → Int32} {G : Nat → Nat → Int32} {As : List Value} {post post' : Int32 → (Nat → Int32) → (Nat → Nat → Int32) → Prop} (h : M_Mi l y b n ret rm D cI q f G As post) (hp : ∀ r f' G', post r f' G' → post' r f' G') : M_Mi l y b n ret rm D cI q f G As post' := by
  intro sz p e ha hc hk s m args below hf happ hP hK
  obtain ⟨n, o, h1, h2, h3, ⟨⟨r, u, e1, e2, e3⟩, e4⟩, h5⟩ := h sz p e ha hc hk s m args below hf happ hP hK
  exact ⟨n, o, h1, h2, h3, ⟨⟨r, u, e1, hp _ _ _ e2, e3⟩, e4⟩, h5⟩
theorem wm_pl_lt {tr : Nat → Nat} {nu x n : Nat} (hx : x < n) (h : tr x = nu) : wm_cn tr (fun v => v == nu) 0 x < wm_cn tr (fun v => v == nu) 0 n := by
  have := wm_ct_lt (P := fun j => tr j == nu) (show (tr x == nu) = true by rw [h]; simp) hx
  unfold wm_cn
  exact this
theorem wm_pl_one {tr : Nat → Nat} {nu x y : Nat} (h1 : tr x = nu) (h2 : tr y = nu) (e : wm_cn tr (fun v => v == nu) 0 x = wm_cn tr (fun v => v == nu) 0 y) : x = y := by
  rcases Nat.lt_trichotomy x y with h | h | h
  · have := wm_pl_lt h h1; omega
  · exact h
  · have := wm_pl_lt h h2; omega
theorem u3_2 {g : Nat → Int32} {n : Nat} {x y z : Int32} : upd (upd (upd g n x) (n + 1) y) (n + 2) z (n + 2) = z := pk_us
theorem u3_1 {g : Nat → Int32} {n : Nat} {x y z : Int32} : upd (upd (upd g n x) (n + 1) y) (n + 2) z (n + 1) = y := (pk_un (by omega)).trans pk_us
theorem u3_0 {g : Nat → Int32} {n : Nat} {x y z : Int32} : upd (upd (upd g n x) (n + 1) y) (n + 2) z n = x := (pk_un (by omega)).trans ((pk_un (by omega)).trans pk_us)
theorem u3_r {g : Nat → Int32} {n j : Nat} {x y z : Int32} (h : j < n) : upd (upd (upd g n x) (n + 1) y) (n + 2) z j = g j := (pk_un (by omega)).trans ((pk_un (by omega)).trans (pk_un (by omega)))
theorem v3_2 {g : Nat → Nat} {n : Nat} {x y z : Nat} : va_up (va_up (va_up g n x) (n + 1) y) (n + 2) z (n + 2) = z := va_up_self _ _ _
theorem v3_1 {g : Nat → Nat} {n : Nat} {x y z : Nat} : va_up (va_up (va_up g n x) (n + 1) y) (n + 2) z (n + 1) = y := (va_up_ne _ _ (by omega)).trans (va_up_self _ _ _)
theorem v3_0 {g : Nat → Nat} {n : Nat} {x y z : Nat} : va_up (va_up (va_up g n x) (n + 1) y) (n + 2) z n = x := (va_up_ne _ _ (by omega)).trans ((va_up_ne _ _ (by omega)).trans (va_up_self _ _ _))
theorem v3_r {g : Nat → Nat} {n j : Nat} {x y z : Nat} (h : j < n) : va_up (va_up (va_up g n x) (n + 1) y) (n + 2) z j = g j := (va_up_ne _ _ (by omega)).trans ((va_up_ne _ _ (by omega)).trans (va_up_ne _ _ (by omega)))
section KJ
variable {k : Nat} {f f' : Nat → Int32} {G G' : Nat → Nat → Int32} {fm fm' : Nat → Int32} {Gm Gm' : Nat → Nat → Int32} {len n F : Nat} {ro : Nat → Nat} {A0 : Nat → Nat → Nat} {r : Int32} {g' : Nat → Int64}
theorem kJ.tr (h : kJ k f G fm Gm len n F ro A0) : ∀ j, j < n → Gm 2 j = nI (A0 0 j) ∧ A0 0 j < 512 := fun j hj => ⟨h.2.2.1.2 j hj, h.2.1.2.2.2.2 j hj⟩
theorem kJ.hN (h : kJ k f G fm Gm len n F ro A0) : ∀ i, i < F → ∃ v t, G 7 i = nI v ∧ G 8 i = nI t ∧ v < 512 ∧ t < 4096 := fun i hi => by
  obtain ⟨v, t, h1, -⟩ := h.2.2.2.2.2.2 i hi
  exact ⟨v, t, h1⟩
theorem kJ.keep (h : kJ k f G fm Gm len n F ro A0) (h0 : ∀ j, j < 3 → f' j = f j) (hm : ∀ j, j ≠ 0 → fm' j = fm j) (hM : ∀ j, j ≠ 3 → Gm' j = Gm j) : kI (k + 1) f' G fm' Gm' := by
  obtain ⟨⟨a1, a2, a3, a4⟩, ⟨b1, b2⟩, ⟨c1, c2⟩, d1, d2, d3, d4⟩ := h
  refine ⟨len, n, F, ro, A0, ⟨by omega, (h0 0 (by omega)).trans a2, (hm 1 (by omega)).trans a3, ?_⟩, ⟨(h0 1 (by omega)).trans b1, b2⟩, ⟨(hm 2 (by omega)).trans c1, ?_⟩, d1, (h0 2 (by omega)).trans d2, (hm 3 (by omega)).trans d3, ?_⟩
  · rw [hM 1 (by omega)]; exact a4
  · rw [hM 2 (by omega)]; exact c2
  · rw [hM 4 (by omega), hM 5 (by omega)]; exact d4
/-- the numbers found, on both sides -/
theorem kF_of {c : Nat → Nat} {g7 g8 m4 m5 : Nat → Int32} (h1 : wm_Fd c g7 g8 512) (h2 : wm_Fd c m4 m5 512) (hc : ∀ u, c u ≤ 4000) : ∀ i, i < wm_Sn c 512 → ∃ v t, (g7 i = nI v ∧ g8 i = nI t ∧ v < 512 ∧ t < 4096) ∧ m4 i = nI v ∧ m5 i = nI t := by
  intro i hi
  obtain ⟨u, hu, hp, e⟩ := wm_ct_at hi
  have hp := of_decide_eq_true hp
  have h3 := h1 u hu hp
  have h4 := h2 u hu hp
  have e : wm_Sn c u = i := e
  rw [e] at h3 h4
  have := hc u
  exact ⟨u, c u, ⟨h3.1, h3.2, hu, by omega⟩, h4⟩
theorem Mx_eq {c : Nat → Nat} {x y : Int32} (h1 : ∃ bt, wm_Mx c 512 x bt) (h2 : ∃ bt, wm_Mx c 512 y bt) : x = y := by
  obtain ⟨_, h1⟩ := h1
  obtain ⟨_, h2⟩ := h2
  exact wm_Mx_one h1 h2
theorem j_add (l : Launch) (D : va_G) (cI : ClassId) (qm : Nat → Nat) (hI : kJ k f G fm Gm len n F ro A0) {a b c : Nat} (hl : len + 3 ≤ 4000) (hp : r = nI 0 ∧ g' 0 = (nI (len + 3)).toInt64 ∧ f' = upd f 0 (nI (len + 3)) ∧ G' = va_up G 1 (upd (upd (upd (G 1) len (nI ((nI a).toBitVec.toNat % 512))) (len + 1) (nI ((nI b).toBitVec.toNat % 512))) (len + 2) (nI ((nI c).toBitVec.toNat % 512)))) :
    M_Mi l y_M_add b_M_add 4 (some .int) rm_m1 D cI qm fm Gm [.int (nI a), .int (nI b), .int (nI c)] (kJp k r f' G' g') := by
  obtain ⟨rfl, hg, rfl, rfl⟩ := hp
  obtain ⟨⟨a1, a2, a3, a4⟩, ⟨b1, b2, b3, b4⟩, ⟨c1, c2⟩, d1, d2, d3, d4⟩ := hI
  refine M_weak (c_Madd l D cI qm fm Gm hl a3 _ _ _) (fun r2 fm' Gm' hq => ?_)
  obtain ⟨rfl, ⟨h0, h1, h2⟩, rfl⟩ := hq
  refine ⟨h0, fun _ => hg, len + 3, n, F, va_up (va_up (va_up ro len ((nI a).toBitVec.toNat % 512)) (len + 1) ((nI b).toBitVec.toNat % 512)) (len + 2) ((nI c).toBitVec.toNat % 512), A0, ⟨by omega, rfl, h1, ?_⟩, ⟨b1, b2, b3.congr rfl rfl rfl, b4⟩, ⟨(h2 2 (by omega) (by omega)).trans c1, c2⟩, d1, d2, (h2 3 (by omega) (by omega)).trans d3, d4⟩
  intro j hj
  show _ ∧ upd (upd (upd (G 1) len _) (len + 1) _) (len + 2) _ j = _ ∧ upd (upd (upd (Gm 1) len _) (len + 1) _) (len + 2) _ j = _
  rcases (show j = len + 2 ∨ j = len + 1 ∨ j = len ∨ j < len by omega) with rfl | rfl | rfl | hj
  · rw [v3_2, u3_2, u3_2]; exact ⟨Nat.mod_lt _ (by decide), rfl, rfl⟩
  · rw [v3_1, u3_1, u3_1]; exact ⟨Nat.mod_lt _ (by decide), rfl, rfl⟩
  · rw [v3_0, u3_0, u3_0]; exact ⟨Nat.mod_lt _ (by decide), rfl, rfl⟩
  · rw [v3_r hj, u3_r hj, u3_r hj]; exact a4 j hj
theorem j_cut (l : Launch) (D : va_G) (cI : ClassId) (qm : Nat → Nat) (hI : kJ k f G fm Gm len n F ro A0) {a : Nat} (ha : a < 2 ^ 32) (hl : len ≤ 4000) (hp : ((a ≤ len ∧ r = nI 0 ∧ g' 0 = (nI a).toInt64 ∧ f' = upd f 0 (nI a)) ∨ (¬ a ≤ len ∧ r = nI 1 ∧ f' = f)) ∧ G' = G) :
    M_Mi l y_M_cut b_M_cut 2 (some .int) rm_m1 D cI qm fm Gm [.int (nI a)] (kJp k r f' G' g') := by
  obtain ⟨hp, rfl⟩ := hp
  rcases hp with ⟨h, rfl, hg, rfl⟩ | ⟨h, rfl, rfl⟩
  · obtain ⟨⟨a1, a2, a3, a4⟩, ⟨b1, b2⟩, ⟨c1, c2⟩, d1, d2, d3, d4⟩ := hI
    refine M_weak (c_Mcut l D cI qm fm Gm hl a3 h) (fun r2 fm' Gm' hq => ?_)
    obtain ⟨rfl, ⟨h0, h1, h2⟩, rfl⟩ := hq
    exact ⟨h0, fun _ => hg, a, n, F, ro, A0, ⟨by omega, rfl, h1, fun j hj => a4 j (by omega)⟩, ⟨b1, b2⟩, ⟨(h2 2 (by omega) (by omega)).trans c1, c2⟩, d1, d2, (h2 3 (by omega) (by omega)).trans d3, d4⟩
  · refine M_weak (c_Mcut_b l D cI qm fm Gm (x := nI a) (fun h9 => h (kv_le ha (by omega) h9.1 (hI.1.2.2.1 ▸ h9.2)))) (fun r2 fm' Gm' hq => ?_)
    obtain ⟨⟨h0, h1⟩, rfl⟩ := hq
    exact ⟨h0, fun h => absurd h (by decide), hI.keep (fun _ _ => rfl) h1 (fun _ _ => rfl)⟩
theorem j_at (l : Launch) (D : va_G) (cI : ClassId) (qm : Nat → Nat) (hI : kJ k f G fm Gm len n F ro A0) {a : Nat} (ha : a < 2 ^ 32) (hp : ((a < n ∧ r = nI 0 ∧ g' 0 = (nI (A0 0 a)).toInt64) ∨ (¬ a < n ∧ r = nI 1)) ∧ f' = f ∧ G' = G) :
    M_Mi l y_M_at b_M_at 2 (some .int) rm_m1 D cI qm fm Gm [.int (nI a)] (kJp k r f' G' g') := by
  obtain ⟨hp, rfl, rfl⟩ := hp
  rcases hp with ⟨h, rfl, hg⟩ | ⟨h, rfl⟩
  · refine M_weak (c_Mat l D cI qm fm Gm hI.2.1.2.1 hI.2.2.1.1 h (hI.tr a h).1) (fun r2 fm' Gm' hq => ?_)
    obtain ⟨rfl, ⟨h0, h1⟩, rfl⟩ := hq
    exact ⟨h0, fun _ => hg, hI.keep (fun _ _ => rfl) h1 (fun _ _ => rfl)⟩
  · refine M_weak (c_Mat_b l D cI qm fm Gm (x := nI a) (fun h9 => h (kv_lt ha (by have := hI.2.1.2.1; omega) h9.1 (hI.2.2.1.1 ▸ h9.2)))) (fun r2 fm' Gm' hq => ?_)
    obtain ⟨⟨h0, h1⟩, rfl⟩ := hq
    exact ⟨h0, fun h => absurd h (by decide), hI.keep (fun _ _ => rfl) h1 (fun _ _ => rfl)⟩
theorem j_number (l : Launch) (D : va_G) (cI : ClassId) (qm : Nat → Nat) (hI : kJ k f G fm Gm len n F ro A0) {a : Nat} (ha : a < 2 ^ 32) (hp : ((a < F ∧ r = nI 0 ∧ ∃ v t, G 7 a = nI v ∧ G 8 a = nI t ∧ g' 0 = (nI (4096 * v + t)).toInt64 ∧ v < 512 ∧ t < 4096) ∨ (¬ a < F ∧ r = nI 1)) ∧ f' = f ∧ G' = G) :
    M_Mi l y_M_number b_M_number 2 (some .int) rm_m1 D cI qm fm Gm [.int (nI a)] (kJp k r f' G' g') := by
  obtain ⟨hp, rfl, rfl⟩ := hp
  obtain ⟨d1, d2, d3, d4⟩ := hI.2.2.2
  rcases hp with ⟨h, rfl, v, t, e7, e8, hg, hv, ht⟩ | ⟨h, rfl⟩
  · refine M_weak (c_Mnumber l D cI qm fm Gm (v := v) (t := t) d1 d3 h (by obtain ⟨v9, t9, ⟨x1, x2, x3, x4⟩, x5, x6⟩ := d4 a h; rw [x5, ← x1, e7]) (by obtain ⟨v9, t9, ⟨x1, x2, x3, x4⟩, x5, x6⟩ := d4 a h; rw [x6, ← x2, e8])) (fun r2 fm' Gm' hq => ?_)
    obtain ⟨rfl, ⟨h0, h1⟩, rfl⟩ := hq
    exact ⟨h0, fun _ => hg, hI.keep (fun _ _ => rfl) h1 (fun _ _ => rfl)⟩
  · refine M_weak (c_Mnumber_b l D cI qm fm Gm (x := nI a) (fun h9 => h (kv_lt ha (by omega) h9.1 (d3 ▸ h9.2)))) (fun r2 fm' Gm' hq => ?_)
    obtain ⟨⟨h0, h1⟩, rfl⟩ := hq
    exact ⟨h0, fun h => absurd h (by decide), hI.keep (fun _ _ => rfl) h1 (fun _ _ => rfl)⟩
theorem j_often (l : Launch) (D : va_G) (cI : ClassId) (qm : Nat → Nat) (hI : kJ k f G fm Gm len n F ro A0) {a b c : Nat} (ha : a < 2 ^ 32) (hb : b < 2 ^ 32) (hc : c < 2 ^ 32) (hp : (((a ≤ 511 ∧ b ≤ c ∧ c ≤ n) ∧ r = nI 0 ∧ g' 0 = (nI (wm_cn (A0 0) (fun x => x == a) b c)).toInt64) ∨ (¬ (a ≤ 511 ∧ b ≤ c ∧ c ≤ n) ∧ r = nI 1)) ∧ fk f f' ∧ G' = G) :
    M_Mi l y_M_often b_M_often 6 (some .int) rm_m2 D cI qm fm Gm [.int (nI a), .int (nI b), .int (nI c)] (kJp k r f' G' g') := by
  obtain ⟨hp, hk, rfl⟩ := hp
  rcases hp with ⟨h, rfl, hg⟩ | ⟨h, rfl⟩
  · refine M_weak (c_Moften l D cI qm fm Gm hI.2.1.2.1 hI.2.2.1.1 h.1 hI.tr h.2.1 h.2.2) (fun r2 fm' Gm' hq => ?_)
    obtain ⟨rfl, ⟨h0, h1⟩, rfl⟩ := hq
    exact ⟨h0, fun _ => hg, hI.keep (fun j hj => hk j (by omega)) h1 (fun _ _ => rfl)⟩
  · refine M_weak (c_Moften_b l D cI qm fm Gm (v := nI a) (x := nI b) (y := nI c) (fun h9 => h ⟨kv_le ha (by decide) h9.1.1 h9.1.2, kv_p hI.2.1.2.1 hb hc (hI.2.2.1.1 ▸ h9.2)⟩)) (fun r2 fm' Gm' hq => ?_)
    obtain ⟨⟨h0, h1⟩, rfl⟩ := hq
    exact ⟨h0, fun h => absurd h (by decide), hI.keep (fun j hj => hk j (by omega)) h1 (fun _ _ => rfl)⟩
theorem j_below (l : Launch) (D : va_G) (cI : ClassId) (qm : Nat → Nat) (hI : kJ k f G fm Gm len n F ro A0) {a b c : Nat} (ha : a < 2 ^ 32) (hb : b < 2 ^ 32) (hc : c < 2 ^ 32) (hp : (((a ≤ 512 ∧ b ≤ c ∧ c ≤ n) ∧ r = nI 0 ∧ g' 0 = (nI (wm_cn (A0 0) (fun x => decide (x < a)) b c)).toInt64) ∨ (¬ (a ≤ 512 ∧ b ≤ c ∧ c ≤ n) ∧ r = nI 1)) ∧ fk f f' ∧ G' = G) :
    M_Mi l y_M_below b_M_below 6 (some .int) rm_m2 D cI qm fm Gm [.int (nI a), .int (nI b), .int (nI c)] (kJp k r f' G' g') := by
  obtain ⟨hp, hk, rfl⟩ := hp
  rcases hp with ⟨h, rfl, hg⟩ | ⟨h, rfl⟩
  · refine M_weak (c_Mbelow l D cI qm fm Gm hI.2.1.2.1 hI.2.2.1.1 h.1 hI.tr h.2.1 h.2.2) (fun r2 fm' Gm' hq => ?_)
    obtain ⟨rfl, ⟨h0, h1⟩, rfl⟩ := hq
    exact ⟨h0, fun _ => hg, hI.keep (fun j hj => hk j (by omega)) h1 (fun _ _ => rfl)⟩
  · refine M_weak (c_Mbelow_b l D cI qm fm Gm (v := nI a) (x := nI b) (y := nI c) (fun h9 => h ⟨kv_le ha (by decide) h9.1.1 h9.1.2, kv_p hI.2.1.2.1 hb hc (hI.2.2.1.1 ▸ h9.2)⟩)) (fun r2 fm' Gm' hq => ?_)
    obtain ⟨⟨h0, h1⟩, rfl⟩ := hq
    exact ⟨h0, fun h => absurd h (by decide), hI.keep (fun j hj => hk j (by omega)) h1 (fun _ _ => rfl)⟩
theorem j_before (l : Launch) (D : va_G) (cI : ClassId) (qm : Nat → Nat) (hI : kJ k f G fm Gm len n F ro A0) {a b c : Nat} (ha : a < 2 ^ 32) (hb : b < 2 ^ 32) (hc : c < 2 ^ 32) (hp : (((a ≤ 511 ∧ b ≤ c ∧ c ≤ n) ∧ r = nI 0 ∧ ∃ x, g' 0 = x.toInt64 ∧ ((wm_cn (A0 0) (fun x => decide (x < a + 1)) b c = 0 ∧ x = -1) ∨ ∃ v, x = nI v ∧ 0 < wm_cn (A0 0) (fun x => decide (x < a + 1)) b c ∧ wm_Qt (A0 0) b c (wm_cn (A0 0) (fun x => decide (x < a + 1)) b c - 1) v)) ∨ (¬ (a ≤ 511 ∧ b ≤ c ∧ c ≤ n) ∧ r = nI 1)) ∧ fk f f' ∧ G' = G) :
    M_Mi l y_M_before b_M_before 6 (some .int) rm_m2 D cI qm fm Gm [.int (nI a), .int (nI b), .int (nI c)] (kJp k r f' G' g') := by
  obtain ⟨hp, hk, rfl⟩ := hp
  rcases hp with ⟨h, rfl, x, hg, hx⟩ | ⟨h, rfl⟩
  · refine M_weak (c_Mbefore l D cI qm fm Gm hI.2.1.2.1 hI.2.2.1.1 (show a < 512 by omega) hI.tr h.2.1 h.2.2) (fun r2 fm' Gm' hq => ?_)
    obtain ⟨hb2, ⟨h0, h1⟩, rfl⟩ := hq
    exact ⟨h0, fun _ => by rw [hg, wm_Bf_one h.2.1 (show a < 512 by omega) hb2 hx], hI.keep (fun j hj => hk j (by omega)) h1 (fun _ _ => rfl)⟩
  · refine M_weak (c_Mbefore_b l D cI qm fm Gm (v := nI a) (x := nI b) (y := nI c) (fun h9 => h ⟨kv_le ha (by decide) h9.1.1 h9.1.2, kv_p hI.2.1.2.1 hb hc (hI.2.2.1.1 ▸ h9.2)⟩)) (fun r2 fm' Gm' hq => ?_)
    obtain ⟨⟨h0, h1⟩, rfl⟩ := hq
    exact ⟨h0, fun h => absurd h (by decide), hI.keep (fun j hj => hk j (by omega)) h1 (fun _ _ => rfl)⟩
theorem j_least (l : Launch) (D : va_G) (cI : ClassId) (qm : Nat → Nat) (hI : kJ k f G fm Gm len n F ro A0) {a b c : Nat} (ha : a < 2 ^ 32) (hb : b < 2 ^ 32) (hc : c < 2 ^ 32) (hp : (((a ≤ b ∧ b ≤ n) ∧ c < b - a ∧ r = nI 0 ∧ ∃ v, g' 0 = (nI v).toInt64 ∧ wm_Qt (A0 0) a b c v) ∨ ((a ≤ b ∧ b ≤ n) ∧ ¬ c < b - a ∧ r = nI 2) ∨ (¬ (a ≤ b ∧ b ≤ n) ∧ r = nI 1)) ∧ fk f f' ∧ G' = G) :
    M_Mi l y_M_least b_M_least 6 (some .int) rm_m2 D cI qm fm Gm [.int (nI a), .int (nI b), .int (nI c)] (kJp k r f' G' g') := by
  obtain ⟨hp, hk, rfl⟩ := hp
  rcases hp with ⟨h, h2, rfl, v, hg, hv⟩ | ⟨h, h2, rfl⟩ | ⟨h, rfl⟩
  · refine M_weak (c_Mleast l D cI qm fm Gm hI.2.1.2.1 hI.2.2.1.1 hI.tr h.1 h.2 h2) (fun r2 fm' Gm' hq => ?_)
    obtain ⟨⟨v2, rfl, hv2⟩, ⟨h0, h1⟩, h3⟩ := hq
    exact ⟨h0, fun _ => by rw [hg, wm_Qt_one h.1 hv hv2], hI.keep (fun j hj => hk j (by omega)) h1 h3⟩
  · refine M_weak (c_Mleast_b2 l D cI qm fm Gm hI.2.1.2.1 hI.2.2.1.1 h.1 h.2 (k := nI c) (fun h9 => h2 (kv_lt hc (by have := hI.2.1.2.1; omega) h9.1 h9.2))) (fun r2 fm' Gm' hq => ?_)
    obtain ⟨⟨h0, h1⟩, rfl⟩ := hq
    exact ⟨h0, fun h => absurd h (by decide), hI.keep (fun j hj => hk j (by omega)) h1 (fun _ _ => rfl)⟩
  · refine M_weak (c_Mleast_b l D cI qm fm Gm (x := nI a) (y := nI b) (k := nI c) (fun h9 => h (kv_p hI.2.1.2.1 ha hb (hI.2.2.1.1 ▸ h9)))) (fun r2 fm' Gm' hq => ?_)
    obtain ⟨⟨h0, h1⟩, rfl⟩ := hq
    exact ⟨h0, fun h => absurd h (by decide), hI.keep (fun j hj => hk j (by omega)) h1 (fun _ _ => rfl)⟩
theorem j_place (l : Launch) (D : va_G) (cI : ClassId) (qm : Nat → Nat) (hI : kJ k f G fm Gm len n F ro A0) {a b : Nat} (ha : a < 2 ^ 32) (hb : b < 2 ^ 32) (hp : ((a ≤ 511 ∧ b < wm_cn (A0 0) (fun x => x == a) 0 n ∧ r = nI 0 ∧ ∃ x, g' 0 = (nI x).toInt64 ∧ x < n ∧ A0 0 x = a ∧ wm_cn (A0 0) (fun v => v == a) 0 x = b) ∨ (a ≤ 511 ∧ ¬ b < wm_cn (A0 0) (fun x => x == a) 0 n ∧ r = nI 2) ∨ (¬ a ≤ 511 ∧ r = nI 1)) ∧ fk f f' ∧ G' = G) :
    M_Mi l y_M_place b_M_place 5 (some .int) rm_m2 D cI qm fm Gm [.int (nI a), .int (nI b)] (kJp k r f' G' g') := by
  obtain ⟨hp, hk, rfl⟩ := hp
  have hcn := wm_cn_le (A0 0) (fun x => x == a) (Nat.zero_le n)
  have hn4 := hI.2.1.2.1
  rcases hp with ⟨h, h2, rfl, x, hg, hx, hx1, hx2⟩ | ⟨h, h2, rfl⟩ | ⟨h, rfl⟩
  · refine M_weak (c_Mplace l D cI qm fm Gm (k := nI b) hn4 hI.2.2.1.1 (show a < 512 by omega) hI.tr) (fun r2 fm' Gm' hq => ?_)
    obtain ⟨hq, rfl⟩ := hq
    rcases hq with ⟨y, rfl, hy, hy1, hy2, h0, h1⟩ | ⟨h9, -⟩
    · have h8 : b = wm_cn (A0 0) (fun v => v == a) 0 y := kv_eq hb (by have := wm_cn_le (A0 0) (fun x => x == a) (Nat.zero_le y); omega) hy2
      have : x = y := wm_pl_one hx1 hy1 (hx2.trans h8)
      subst this
      exact ⟨h0, fun _ => hg, hI.keep (fun j hj => hk j (by omega)) h1 (fun _ _ => rfl)⟩
    · exact absurd rfl (h9 b h2)
  · refine M_weak (c_Mplace l D cI qm fm Gm (k := nI b) hn4 hI.2.2.1.1 (show a < 512 by omega) hI.tr) (fun r2 fm' Gm' hq => ?_)
    obtain ⟨hq, rfl⟩ := hq
    rcases hq with ⟨y, rfl, hy, hy1, hy2, h0, h1⟩ | ⟨-, h0, h1⟩
    · have h8 : b = wm_cn (A0 0) (fun v => v == a) 0 y := kv_eq hb (by have := wm_cn_le (A0 0) (fun x => x == a) (Nat.zero_le y); omega) hy2
      exact absurd (h8 ▸ wm_pl_lt hy hy1) h2
    · exact ⟨h0, fun h => absurd h (by decide), hI.keep (fun j hj => hk j (by omega)) h1 (fun _ _ => rfl)⟩
  · refine M_weak (c_Mplace_b l D cI qm fm Gm (v := nI a) (k := nI b) (fun h9 => h (kv_le ha (by decide) h9.1 h9.2))) (fun r2 fm' Gm' hq => ?_)
    obtain ⟨⟨h0, h1⟩, rfl⟩ := hq
    exact ⟨h0, fun h => absurd h (by decide), hI.keep (fun j hj => hk j (by omega)) h1 (fun _ _ => rfl)⟩
theorem j_different (l : Launch) (D : va_G) (cI : ClassId) (qm : Nat → Nat) (hI : kJ k f G fm Gm len n F ro A0) {a b : Nat} (ha : a < 2 ^ 32) (hb : b < 2 ^ 32) (hp : (((a ≤ b ∧ b ≤ n) ∧ r = nI 0 ∧ g' 0 = (nI (wm_Sn (wm_c A0 a b) 512)).toInt64 ∧ f' 2 = nI (wm_Sn (wm_c A0 a b) 512) ∧ wm_Fd (wm_c A0 a b) (G' 7) (G' 8) 512 ∧ (∀ j, j ≠ 2 → f' j = f j) ∧ ∀ j, j ≠ 7 → j ≠ 8 → G' j = G j) ∨ (¬ (a ≤ b ∧ b ≤ n) ∧ r = nI 1 ∧ f' = f ∧ G' = G))) :
    M_Mi l y_M_different b_M_different 4 (some .int) rm_m2 D cI qm fm Gm [.int (nI a), .int (nI b)] (kJp k r f' G' g') := by
  rcases hp with ⟨h, rfl, hg, e1, e2, e3, e4⟩ | ⟨h, rfl, rfl, rfl⟩
  · obtain ⟨⟨a1, a2, a3, a4⟩, ⟨b1, b2, b3, b4⟩, ⟨c1, c2⟩, d1, d2, d3, d4⟩ := hI
    refine M_weak (c_Mdifferent l D cI qm fm Gm (tr := A0 0) b2 c1 (fun j hj => ⟨c2 j hj, b4.2 j hj⟩) h.1 h.2) (fun r2 fm' Gm' hq => ?_)
    obtain ⟨rfl, ⟨h0, h1, h2⟩, h3, h4⟩ := hq
    refine ⟨h0, fun _ => hg, len, n, wm_Sn (wm_c A0 a b) 512, ro, A0, ⟨by omega, (e3 0 (by omega)).trans a2, (h2 1 (by omega) (by omega)).trans a3, ?_⟩, ⟨(e3 1 (by omega)).trans b1, b2, b3.congr (e4 4 (by omega) (by omega)) (e4 5 (by omega) (by omega)) (e4 6 (by omega) (by omega)), b4⟩, ⟨(h2 2 (by omega) (by omega)).trans c1, ?_⟩, wm_Sn_le _ _, e1, h1, kF_of e2 h3 (fun u => ?_)⟩
    · rw [e4 1 (by omega) (by omega), h4 1 (by omega) (by omega) (by omega)]; exact a4
    · rw [h4 2 (by omega) (by omega) (by omega)]; exact c2
    · have h5 := wm_cn_le (A0 0) (fun x => x == u) h.1
      show wm_cn (A0 0) (fun x => x == u) a b ≤ 4000
      omega
  · refine M_weak (c_Mdifferent_b l D cI qm fm Gm (x := nI a) (y := nI b) (fun h9 => h (kv_p hI.2.1.2.1 ha hb (hI.2.2.1.1 ▸ h9)))) (fun r2 fm' Gm' hq => ?_)
    obtain ⟨⟨h0, h1⟩, rfl⟩ := hq
    exact ⟨h0, fun h => absurd h (by decide), hI.keep (fun _ _ => rfl) h1 (fun _ _ => rfl)⟩
theorem j_most (l : Launch) (D : va_G) (cI : ClassId) (qm : Nat → Nat) (hI : kJ k f G fm Gm len n F ro A0) {a b : Nat} (ha : a < 2 ^ 32) (hb : b < 2 ^ 32) (hp : (((a ≤ b ∧ b ≤ n) ∧ r = nI 0 ∧ ∃ x, g' 0 = x.toInt64 ∧ ∃ bt, wm_Mx (wm_c A0 a b) 512 x bt) ∨ (¬ (a ≤ b ∧ b ≤ n) ∧ r = nI 1)) ∧ (∀ j, j ≠ 3 → j ≠ 4 → f' j = f j) ∧ G' = G) :
    M_Mi l y_M_most b_M_most 5 (some .int) rm_m2 D cI qm fm Gm [.int (nI a), .int (nI b)] (kJp k r f' G' g') := by
  obtain ⟨hp, hk, rfl⟩ := hp
  rcases hp with ⟨h, rfl, x, hg, hx⟩ | ⟨h, rfl⟩
  · refine M_weak (c_Mmost l D cI qm fm Gm hI.2.1.2.1 hI.2.2.1.1 hI.tr h.1 h.2) (fun r2 fm' Gm' hq => ?_)
    obtain ⟨hb2, ⟨h0, h1⟩, h3⟩ := hq
    exact ⟨h0, fun _ => by rw [hg, Mx_eq hx hb2], hI.keep (fun j hj => hk j (by omega) (by omega)) h1 h3⟩
  · refine M_weak (c_Mmost_b l D cI qm fm Gm (x := nI a) (y := nI b) (fun h9 => h (kv_p hI.2.1.2.1 ha hb (hI.2.2.1.1 ▸ h9)))) (fun r2 fm' Gm' hq => ?_)
    obtain ⟨⟨h0, h1⟩, rfl⟩ := hq
    exact ⟨h0, fun h => absurd h (by decide), hI.keep (fun j hj => hk j (by omega) (by omega)) h1 (fun _ _ => rfl)⟩
end KJ
end
section
theorem d_L_law_0 : decode code 0 = .ok (.new 8, 3) := by decide +kernel
theorem d_L_law_3 : decode code 3 = .ok (.dup, 1) := by decide +kernel
theorem d_L_law_4 : decode code 4 = .ok (.invokespecial 51, 3) := by decide +kernel
theorem d_L_law_7 : decode code 7 = .ok (.astore_n 1, 1) := by decide +kernel
theorem d_L_law_8 : decode code 8 = .ok (.new 52, 3) := by decide +kernel
theorem d_L_law_11 : decode code 11 = .ok (.dup, 1) := by decide +kernel
theorem d_L_law_12 : decode code 12 = .ok (.invokespecial 54, 3) := by decide +kernel
theorem d_L_law_15 : decode code 15 = .ok (.astore_n 2, 1) := by decide +kernel
theorem d_L_law_16 : decode code 16 = .ok (.iconst 1, 1) := by decide +kernel
theorem d_L_law_17 : decode code 17 = .ok (.newarray .long, 2) := by decide +kernel
theorem d_L_law_19 : decode code 19 = .ok (.astore_n 3, 1) := by decide +kernel
theorem d_L_law_20 : decode code 20 = .ok (.iconst 0, 1) := by decide +kernel
theorem d_L_law_21 : decode code 21 = .ok (.istore 4, 2) := by decide +kernel
theorem d_L_law_23 : decode code 23 = .ok (.iload 4, 2) := by decide +kernel
theorem d_L_law_25 : decode code 25 = .ok (.aload_n 0, 1) := by decide +kernel
theorem d_L_law_26 : decode code 26 = .ok (.arraylength, 1) := by decide +kernel
theorem d_L_law_27 : decode code 27 = .ok (.iconst 4, 1) := by decide +kernel
theorem d_L_law_28 : decode code 28 = .ok (.isub, 1) := by decide +kernel
theorem d_L_law_29 : decode code 29 = .ok (.if_icmp .gt 891, 3) := by decide +kernel
theorem d_L_law_32 : decode code 32 = .ok (.aload_n 0, 1) := by decide +kernel
theorem d_L_law_33 : decode code 33 = .ok (.iload 4, 2) := by decide +kernel
theorem d_L_law_35 : decode code 35 = .ok (.iaload, 1) := by decide +kernel
theorem d_L_law_36 : decode code 36 = .ok (.bipush 15, 2) := by decide +kernel
theorem d_L_law_38 : decode code 38 = .ok (.iand, 1) := by decide +kernel
theorem d_L_law_39 : decode code 39 = .ok (.tableswitch 875 0 12 #[65, 145, 201, 214, 270, 350, 418, 498, 578, 646, 702, 782, 850], 65) := by decide +kernel
theorem d_L_law_104 : decode code 104 = .ok (.aload_n 1, 1) := by decide +kernel
theorem d_L_law_105 : decode code 105 = .ok (.aload_n 0, 1) := by decide +kernel
theorem d_L_law_106 : decode code 106 = .ok (.iload 4, 2) := by decide +kernel
theorem d_L_law_108 : decode code 108 = .ok (.iconst 1, 1) := by decide +kernel
theorem d_L_law_109 : decode code 109 = .ok (.iadd, 1) := by decide +kernel
theorem d_L_law_110 : decode code 110 = .ok (.iaload, 1) := by decide +kernel
theorem d_L_law_111 : decode code 111 = .ok (.aload_n 0, 1) := by decide +kernel
theorem d_L_law_112 : decode code 112 = .ok (.iload 4, 2) := by decide +kernel
theorem d_L_law_114 : decode code 114 = .ok (.iconst 2, 1) := by decide +kernel
theorem d_L_law_115 : decode code 115 = .ok (.iadd, 1) := by decide +kernel
theorem d_L_law_116 : decode code 116 = .ok (.iaload, 1) := by decide +kernel
theorem d_L_law_117 : decode code 117 = .ok (.aload_n 0, 1) := by decide +kernel
theorem d_L_law_118 : decode code 118 = .ok (.iload 4, 2) := by decide +kernel
theorem d_L_law_120 : decode code 120 = .ok (.iconst 3, 1) := by decide +kernel
theorem d_L_law_121 : decode code 121 = .ok (.iadd, 1) := by decide +kernel
theorem d_L_law_122 : decode code 122 = .ok (.iaload, 1) := by decide +kernel
theorem d_L_law_123 : decode code 123 = .ok (.aload_n 3, 1) := by decide +kernel
theorem d_L_law_124 : decode code 124 = .ok (.invokestatic 55, 3) := by decide +kernel
theorem d_L_law_127 : decode code 127 = .ok (.istore 5, 2) := by decide +kernel
theorem d_L_law_129 : decode code 129 = .ok (.aload_n 2, 1) := by decide +kernel
theorem d_L_law_130 : decode code 130 = .ok (.aload_n 0, 1) := by decide +kernel
theorem d_L_law_131 : decode code 131 = .ok (.iload 4, 2) := by decide +kernel
theorem d_L_law_133 : decode code 133 = .ok (.iconst 1, 1) := by decide +kernel
theorem d_L_law_134 : decode code 134 = .ok (.iadd, 1) := by decide +kernel
theorem d_L_law_135 : decode code 135 = .ok (.iaload, 1) := by decide +kernel
theorem d_L_law_136 : decode code 136 = .ok (.aload_n 0, 1) := by decide +kernel
theorem d_L_law_137 : decode code 137 = .ok (.iload 4, 2) := by decide +kernel
theorem d_L_law_139 : decode code 139 = .ok (.iconst 2, 1) := by decide +kernel
theorem d_L_law_140 : decode code 140 = .ok (.iadd, 1) := by decide +kernel
theorem d_L_law_141 : decode code 141 = .ok (.iaload, 1) := by decide +kernel
theorem d_L_law_142 : decode code 142 = .ok (.aload_n 0, 1) := by decide +kernel
theorem d_L_law_143 : decode code 143 = .ok (.iload 4, 2) := by decide +kernel
theorem d_L_law_145 : decode code 145 = .ok (.iconst 3, 1) := by decide +kernel
theorem d_L_law_146 : decode code 146 = .ok (.iadd, 1) := by decide +kernel
theorem d_L_law_147 : decode code 147 = .ok (.iaload, 1) := by decide +kernel
end
section
theorem d_L_law_148 : decode code 148 = .ok (.invokevirtual 60, 3) := by decide +kernel
theorem d_L_law_151 : decode code 151 = .ok (.istore 6, 2) := by decide +kernel
theorem d_L_law_153 : decode code 153 = .ok (.aload_n 2, 1) := by decide +kernel
theorem d_L_law_154 : decode code 154 = .ok (.invokevirtual 61, 3) := by decide +kernel
theorem d_L_law_157 : decode code 157 = .ok (.iload 5, 2) := by decide +kernel
theorem d_L_law_159 : decode code 159 = .ok (.if_icmp .eq 5, 3) := by decide +kernel
theorem d_L_law_162 : decode code 162 = .ok (.iconst 0, 1) := by decide +kernel
theorem d_L_law_163 : decode code 163 = .ok (.ireturn, 1) := by decide +kernel
theorem d_L_law_164 : decode code 164 = .ok (.iload 5, 2) := by decide +kernel
theorem d_L_law_166 : decode code 166 = .ok (.ifCond .ne 15, 3) := by decide +kernel
theorem d_L_law_169 : decode code 169 = .ok (.aload_n 3, 1) := by decide +kernel
theorem d_L_law_170 : decode code 170 = .ok (.iconst 0, 1) := by decide +kernel
theorem d_L_law_171 : decode code 171 = .ok (.laload, 1) := by decide +kernel
theorem d_L_law_172 : decode code 172 = .ok (.iload 6, 2) := by decide +kernel
theorem d_L_law_174 : decode code 174 = .ok (.i2l, 1) := by decide +kernel
theorem d_L_law_175 : decode code 175 = .ok (.lcmp, 1) := by decide +kernel
theorem d_L_law_176 : decode code 176 = .ok (.ifCond .eq 5, 3) := by decide +kernel
theorem d_L_law_179 : decode code 179 = .ok (.iconst 0, 1) := by decide +kernel
theorem d_L_law_180 : decode code 180 = .ok (.ireturn, 1) := by decide +kernel
theorem d_L_law_181 : decode code 181 = .ok (.goto 733, 3) := by decide +kernel
theorem d_L_law_184 : decode code 184 = .ok (.aload_n 1, 1) := by decide +kernel
theorem d_L_law_185 : decode code 185 = .ok (.aload_n 0, 1) := by decide +kernel
theorem d_L_law_186 : decode code 186 = .ok (.iload 4, 2) := by decide +kernel
theorem d_L_law_188 : decode code 188 = .ok (.iconst 1, 1) := by decide +kernel
theorem d_L_law_189 : decode code 189 = .ok (.iadd, 1) := by decide +kernel
theorem d_L_law_190 : decode code 190 = .ok (.iaload, 1) := by decide +kernel
theorem d_L_law_191 : decode code 191 = .ok (.aload_n 3, 1) := by decide +kernel
theorem d_L_law_192 : decode code 192 = .ok (.invokestatic 65, 3) := by decide +kernel
theorem d_L_law_195 : decode code 195 = .ok (.istore 5, 2) := by decide +kernel
theorem d_L_law_197 : decode code 197 = .ok (.aload_n 2, 1) := by decide +kernel
theorem d_L_law_198 : decode code 198 = .ok (.aload_n 0, 1) := by decide +kernel
theorem d_L_law_199 : decode code 199 = .ok (.iload 4, 2) := by decide +kernel
theorem d_L_law_201 : decode code 201 = .ok (.iconst 1, 1) := by decide +kernel
theorem d_L_law_202 : decode code 202 = .ok (.iadd, 1) := by decide +kernel
theorem d_L_law_203 : decode code 203 = .ok (.iaload, 1) := by decide +kernel
theorem d_L_law_204 : decode code 204 = .ok (.invokevirtual 68, 3) := by decide +kernel
theorem d_L_law_207 : decode code 207 = .ok (.istore 6, 2) := by decide +kernel
theorem d_L_law_209 : decode code 209 = .ok (.aload_n 2, 1) := by decide +kernel
theorem d_L_law_210 : decode code 210 = .ok (.invokevirtual 61, 3) := by decide +kernel
theorem d_L_law_213 : decode code 213 = .ok (.iload 5, 2) := by decide +kernel
theorem d_L_law_215 : decode code 215 = .ok (.if_icmp .eq 5, 3) := by decide +kernel
theorem d_L_law_218 : decode code 218 = .ok (.iconst 0, 1) := by decide +kernel
theorem d_L_law_219 : decode code 219 = .ok (.ireturn, 1) := by decide +kernel
theorem d_L_law_220 : decode code 220 = .ok (.iload 5, 2) := by decide +kernel
theorem d_L_law_222 : decode code 222 = .ok (.ifCond .ne 15, 3) := by decide +kernel
theorem d_L_law_225 : decode code 225 = .ok (.aload_n 3, 1) := by decide +kernel
theorem d_L_law_226 : decode code 226 = .ok (.iconst 0, 1) := by decide +kernel
theorem d_L_law_227 : decode code 227 = .ok (.laload, 1) := by decide +kernel
theorem d_L_law_228 : decode code 228 = .ok (.iload 6, 2) := by decide +kernel
theorem d_L_law_230 : decode code 230 = .ok (.i2l, 1) := by decide +kernel
theorem d_L_law_231 : decode code 231 = .ok (.lcmp, 1) := by decide +kernel
theorem d_L_law_232 : decode code 232 = .ok (.ifCond .eq 5, 3) := by decide +kernel
theorem d_L_law_235 : decode code 235 = .ok (.iconst 0, 1) := by decide +kernel
theorem d_L_law_236 : decode code 236 = .ok (.ireturn, 1) := by decide +kernel
theorem d_L_law_237 : decode code 237 = .ok (.goto 677, 3) := by decide +kernel
theorem d_L_law_240 : decode code 240 = .ok (.aload_n 1, 1) := by decide +kernel
theorem d_L_law_241 : decode code 241 = .ok (.invokevirtual 69, 3) := by decide +kernel
theorem d_L_law_244 : decode code 244 = .ok (.aload_n 2, 1) := by decide +kernel
theorem d_L_law_245 : decode code 245 = .ok (.invokevirtual 72, 3) := by decide +kernel
theorem d_L_law_248 : decode code 248 = .ok (.if_icmp .eq 666, 3) := by decide +kernel
end
section
theorem d_L_law_251 : decode code 251 = .ok (.iconst 0, 1) := by decide +kernel
theorem d_L_law_252 : decode code 252 = .ok (.ireturn, 1) := by decide +kernel
theorem d_L_law_253 : decode code 253 = .ok (.aload_n 1, 1) := by decide +kernel
theorem d_L_law_254 : decode code 254 = .ok (.aload_n 0, 1) := by decide +kernel
theorem d_L_law_255 : decode code 255 = .ok (.iload 4, 2) := by decide +kernel
theorem d_L_law_257 : decode code 257 = .ok (.iconst 1, 1) := by decide +kernel
theorem d_L_law_258 : decode code 258 = .ok (.iadd, 1) := by decide +kernel
theorem d_L_law_259 : decode code 259 = .ok (.iaload, 1) := by decide +kernel
theorem d_L_law_260 : decode code 260 = .ok (.aload_n 3, 1) := by decide +kernel
theorem d_L_law_261 : decode code 261 = .ok (.invokestatic 73, 3) := by decide +kernel
theorem d_L_law_264 : decode code 264 = .ok (.istore 5, 2) := by decide +kernel
theorem d_L_law_266 : decode code 266 = .ok (.aload_n 2, 1) := by decide +kernel
theorem d_L_law_267 : decode code 267 = .ok (.aload_n 0, 1) := by decide +kernel
theorem d_L_law_268 : decode code 268 = .ok (.iload 4, 2) := by decide +kernel
theorem d_L_law_270 : decode code 270 = .ok (.iconst 1, 1) := by decide +kernel
theorem d_L_law_271 : decode code 271 = .ok (.iadd, 1) := by decide +kernel
theorem d_L_law_272 : decode code 272 = .ok (.iaload, 1) := by decide +kernel
theorem d_L_law_273 : decode code 273 = .ok (.invokevirtual 75, 3) := by decide +kernel
theorem d_L_law_276 : decode code 276 = .ok (.istore 6, 2) := by decide +kernel
theorem d_L_law_278 : decode code 278 = .ok (.aload_n 2, 1) := by decide +kernel
theorem d_L_law_279 : decode code 279 = .ok (.invokevirtual 61, 3) := by decide +kernel
theorem d_L_law_282 : decode code 282 = .ok (.iload 5, 2) := by decide +kernel
theorem d_L_law_284 : decode code 284 = .ok (.if_icmp .eq 5, 3) := by decide +kernel
theorem d_L_law_287 : decode code 287 = .ok (.iconst 0, 1) := by decide +kernel
theorem d_L_law_288 : decode code 288 = .ok (.ireturn, 1) := by decide +kernel
theorem d_L_law_289 : decode code 289 = .ok (.iload 5, 2) := by decide +kernel
theorem d_L_law_291 : decode code 291 = .ok (.ifCond .ne 15, 3) := by decide +kernel
theorem d_L_law_294 : decode code 294 = .ok (.aload_n 3, 1) := by decide +kernel
theorem d_L_law_295 : decode code 295 = .ok (.iconst 0, 1) := by decide +kernel
theorem d_L_law_296 : decode code 296 = .ok (.laload, 1) := by decide +kernel
theorem d_L_law_297 : decode code 297 = .ok (.iload 6, 2) := by decide +kernel
theorem d_L_law_299 : decode code 299 = .ok (.i2l, 1) := by decide +kernel
theorem d_L_law_300 : decode code 300 = .ok (.lcmp, 1) := by decide +kernel
theorem d_L_law_301 : decode code 301 = .ok (.ifCond .eq 5, 3) := by decide +kernel
theorem d_L_law_304 : decode code 304 = .ok (.iconst 0, 1) := by decide +kernel
theorem d_L_law_305 : decode code 305 = .ok (.ireturn, 1) := by decide +kernel
theorem d_L_law_306 : decode code 306 = .ok (.goto 608, 3) := by decide +kernel
theorem d_L_law_309 : decode code 309 = .ok (.aload_n 1, 1) := by decide +kernel
theorem d_L_law_310 : decode code 310 = .ok (.aload_n 0, 1) := by decide +kernel
theorem d_L_law_311 : decode code 311 = .ok (.iload 4, 2) := by decide +kernel
theorem d_L_law_313 : decode code 313 = .ok (.iconst 1, 1) := by decide +kernel
theorem d_L_law_314 : decode code 314 = .ok (.iadd, 1) := by decide +kernel
theorem d_L_law_315 : decode code 315 = .ok (.iaload, 1) := by decide +kernel
theorem d_L_law_316 : decode code 316 = .ok (.aload_n 0, 1) := by decide +kernel
theorem d_L_law_317 : decode code 317 = .ok (.iload 4, 2) := by decide +kernel
theorem d_L_law_319 : decode code 319 = .ok (.iconst 2, 1) := by decide +kernel
theorem d_L_law_320 : decode code 320 = .ok (.iadd, 1) := by decide +kernel
theorem d_L_law_321 : decode code 321 = .ok (.iaload, 1) := by decide +kernel
theorem d_L_law_322 : decode code 322 = .ok (.aload_n 0, 1) := by decide +kernel
theorem d_L_law_323 : decode code 323 = .ok (.iload 4, 2) := by decide +kernel
theorem d_L_law_325 : decode code 325 = .ok (.iconst 3, 1) := by decide +kernel
theorem d_L_law_326 : decode code 326 = .ok (.iadd, 1) := by decide +kernel
theorem d_L_law_327 : decode code 327 = .ok (.iaload, 1) := by decide +kernel
theorem d_L_law_328 : decode code 328 = .ok (.aload_n 3, 1) := by decide +kernel
theorem d_L_law_329 : decode code 329 = .ok (.invokestatic 76, 3) := by decide +kernel
theorem d_L_law_332 : decode code 332 = .ok (.istore 5, 2) := by decide +kernel
theorem d_L_law_334 : decode code 334 = .ok (.aload_n 2, 1) := by decide +kernel
theorem d_L_law_335 : decode code 335 = .ok (.aload_n 0, 1) := by decide +kernel
theorem d_L_law_336 : decode code 336 = .ok (.iload 4, 2) := by decide +kernel
theorem d_L_law_338 : decode code 338 = .ok (.iconst 1, 1) := by decide +kernel
end
section
theorem d_L_law_339 : decode code 339 = .ok (.iadd, 1) := by decide +kernel
theorem d_L_law_340 : decode code 340 = .ok (.iaload, 1) := by decide +kernel
theorem d_L_law_341 : decode code 341 = .ok (.aload_n 0, 1) := by decide +kernel
theorem d_L_law_342 : decode code 342 = .ok (.iload 4, 2) := by decide +kernel
theorem d_L_law_344 : decode code 344 = .ok (.iconst 2, 1) := by decide +kernel
theorem d_L_law_345 : decode code 345 = .ok (.iadd, 1) := by decide +kernel
theorem d_L_law_346 : decode code 346 = .ok (.iaload, 1) := by decide +kernel
theorem d_L_law_347 : decode code 347 = .ok (.aload_n 0, 1) := by decide +kernel
theorem d_L_law_348 : decode code 348 = .ok (.iload 4, 2) := by decide +kernel
theorem d_L_law_350 : decode code 350 = .ok (.iconst 3, 1) := by decide +kernel
theorem d_L_law_351 : decode code 351 = .ok (.iadd, 1) := by decide +kernel
theorem d_L_law_352 : decode code 352 = .ok (.iaload, 1) := by decide +kernel
theorem d_L_law_353 : decode code 353 = .ok (.invokevirtual 78, 3) := by decide +kernel
theorem d_L_law_356 : decode code 356 = .ok (.istore 6, 2) := by decide +kernel
theorem d_L_law_358 : decode code 358 = .ok (.aload_n 2, 1) := by decide +kernel
theorem d_L_law_359 : decode code 359 = .ok (.invokevirtual 61, 3) := by decide +kernel
theorem d_L_law_362 : decode code 362 = .ok (.iload 5, 2) := by decide +kernel
theorem d_L_law_364 : decode code 364 = .ok (.if_icmp .eq 5, 3) := by decide +kernel
theorem d_L_law_367 : decode code 367 = .ok (.iconst 0, 1) := by decide +kernel
theorem d_L_law_368 : decode code 368 = .ok (.ireturn, 1) := by decide +kernel
theorem d_L_law_369 : decode code 369 = .ok (.iload 5, 2) := by decide +kernel
theorem d_L_law_371 : decode code 371 = .ok (.ifCond .ne 15, 3) := by decide +kernel
theorem d_L_law_374 : decode code 374 = .ok (.aload_n 3, 1) := by decide +kernel
theorem d_L_law_375 : decode code 375 = .ok (.iconst 0, 1) := by decide +kernel
theorem d_L_law_376 : decode code 376 = .ok (.laload, 1) := by decide +kernel
theorem d_L_law_377 : decode code 377 = .ok (.iload 6, 2) := by decide +kernel
theorem d_L_law_379 : decode code 379 = .ok (.i2l, 1) := by decide +kernel
theorem d_L_law_380 : decode code 380 = .ok (.lcmp, 1) := by decide +kernel
theorem d_L_law_381 : decode code 381 = .ok (.ifCond .eq 5, 3) := by decide +kernel
theorem d_L_law_384 : decode code 384 = .ok (.iconst 0, 1) := by decide +kernel
theorem d_L_law_385 : decode code 385 = .ok (.ireturn, 1) := by decide +kernel
theorem d_L_law_386 : decode code 386 = .ok (.goto 528, 3) := by decide +kernel
theorem d_L_law_389 : decode code 389 = .ok (.aload_n 1, 1) := by decide +kernel
theorem d_L_law_390 : decode code 390 = .ok (.aload_n 0, 1) := by decide +kernel
theorem d_L_law_391 : decode code 391 = .ok (.iload 4, 2) := by decide +kernel
theorem d_L_law_393 : decode code 393 = .ok (.iconst 1, 1) := by decide +kernel
theorem d_L_law_394 : decode code 394 = .ok (.iadd, 1) := by decide +kernel
theorem d_L_law_395 : decode code 395 = .ok (.iaload, 1) := by decide +kernel
theorem d_L_law_396 : decode code 396 = .ok (.aload_n 0, 1) := by decide +kernel
theorem d_L_law_397 : decode code 397 = .ok (.iload 4, 2) := by decide +kernel
theorem d_L_law_399 : decode code 399 = .ok (.iconst 2, 1) := by decide +kernel
theorem d_L_law_400 : decode code 400 = .ok (.iadd, 1) := by decide +kernel
theorem d_L_law_401 : decode code 401 = .ok (.iaload, 1) := by decide +kernel
theorem d_L_law_402 : decode code 402 = .ok (.aload_n 3, 1) := by decide +kernel
theorem d_L_law_403 : decode code 403 = .ok (.invokestatic 79, 3) := by decide +kernel
theorem d_L_law_406 : decode code 406 = .ok (.istore 5, 2) := by decide +kernel
theorem d_L_law_408 : decode code 408 = .ok (.aload_n 2, 1) := by decide +kernel
theorem d_L_law_409 : decode code 409 = .ok (.aload_n 0, 1) := by decide +kernel
theorem d_L_law_410 : decode code 410 = .ok (.iload 4, 2) := by decide +kernel
theorem d_L_law_412 : decode code 412 = .ok (.iconst 1, 1) := by decide +kernel
theorem d_L_law_413 : decode code 413 = .ok (.iadd, 1) := by decide +kernel
theorem d_L_law_414 : decode code 414 = .ok (.iaload, 1) := by decide +kernel
theorem d_L_law_415 : decode code 415 = .ok (.aload_n 0, 1) := by decide +kernel
theorem d_L_law_416 : decode code 416 = .ok (.iload 4, 2) := by decide +kernel
theorem d_L_law_418 : decode code 418 = .ok (.iconst 2, 1) := by decide +kernel
theorem d_L_law_419 : decode code 419 = .ok (.iadd, 1) := by decide +kernel
theorem d_L_law_420 : decode code 420 = .ok (.iaload, 1) := by decide +kernel
theorem d_L_law_421 : decode code 421 = .ok (.invokevirtual 82, 3) := by decide +kernel
theorem d_L_law_424 : decode code 424 = .ok (.istore 6, 2) := by decide +kernel
theorem d_L_law_426 : decode code 426 = .ok (.aload_n 2, 1) := by decide +kernel
end
section
theorem d_L_law_427 : decode code 427 = .ok (.invokevirtual 61, 3) := by decide +kernel
theorem d_L_law_430 : decode code 430 = .ok (.iload 5, 2) := by decide +kernel
theorem d_L_law_432 : decode code 432 = .ok (.if_icmp .eq 5, 3) := by decide +kernel
theorem d_L_law_435 : decode code 435 = .ok (.iconst 0, 1) := by decide +kernel
theorem d_L_law_436 : decode code 436 = .ok (.ireturn, 1) := by decide +kernel
theorem d_L_law_437 : decode code 437 = .ok (.iload 5, 2) := by decide +kernel
theorem d_L_law_439 : decode code 439 = .ok (.ifCond .ne 15, 3) := by decide +kernel
theorem d_L_law_442 : decode code 442 = .ok (.aload_n 3, 1) := by decide +kernel
theorem d_L_law_443 : decode code 443 = .ok (.iconst 0, 1) := by decide +kernel
theorem d_L_law_444 : decode code 444 = .ok (.laload, 1) := by decide +kernel
theorem d_L_law_445 : decode code 445 = .ok (.iload 6, 2) := by decide +kernel
theorem d_L_law_447 : decode code 447 = .ok (.i2l, 1) := by decide +kernel
theorem d_L_law_448 : decode code 448 = .ok (.lcmp, 1) := by decide +kernel
theorem d_L_law_449 : decode code 449 = .ok (.ifCond .eq 5, 3) := by decide +kernel
theorem d_L_law_452 : decode code 452 = .ok (.iconst 0, 1) := by decide +kernel
theorem d_L_law_453 : decode code 453 = .ok (.ireturn, 1) := by decide +kernel
theorem d_L_law_454 : decode code 454 = .ok (.goto 460, 3) := by decide +kernel
theorem d_L_law_457 : decode code 457 = .ok (.aload_n 1, 1) := by decide +kernel
theorem d_L_law_458 : decode code 458 = .ok (.aload_n 0, 1) := by decide +kernel
theorem d_L_law_459 : decode code 459 = .ok (.iload 4, 2) := by decide +kernel
theorem d_L_law_461 : decode code 461 = .ok (.iconst 1, 1) := by decide +kernel
theorem d_L_law_462 : decode code 462 = .ok (.iadd, 1) := by decide +kernel
theorem d_L_law_463 : decode code 463 = .ok (.iaload, 1) := by decide +kernel
theorem d_L_law_464 : decode code 464 = .ok (.aload_n 0, 1) := by decide +kernel
theorem d_L_law_465 : decode code 465 = .ok (.iload 4, 2) := by decide +kernel
theorem d_L_law_467 : decode code 467 = .ok (.iconst 2, 1) := by decide +kernel
theorem d_L_law_468 : decode code 468 = .ok (.iadd, 1) := by decide +kernel
theorem d_L_law_469 : decode code 469 = .ok (.iaload, 1) := by decide +kernel
theorem d_L_law_470 : decode code 470 = .ok (.aload_n 0, 1) := by decide +kernel
theorem d_L_law_471 : decode code 471 = .ok (.iload 4, 2) := by decide +kernel
theorem d_L_law_473 : decode code 473 = .ok (.iconst 3, 1) := by decide +kernel
theorem d_L_law_474 : decode code 474 = .ok (.iadd, 1) := by decide +kernel
theorem d_L_law_475 : decode code 475 = .ok (.iaload, 1) := by decide +kernel
theorem d_L_law_476 : decode code 476 = .ok (.aload_n 3, 1) := by decide +kernel
theorem d_L_law_477 : decode code 477 = .ok (.invokestatic 83, 3) := by decide +kernel
theorem d_L_law_480 : decode code 480 = .ok (.istore 5, 2) := by decide +kernel
theorem d_L_law_482 : decode code 482 = .ok (.aload_n 2, 1) := by decide +kernel
theorem d_L_law_483 : decode code 483 = .ok (.aload_n 0, 1) := by decide +kernel
theorem d_L_law_484 : decode code 484 = .ok (.iload 4, 2) := by decide +kernel
theorem d_L_law_486 : decode code 486 = .ok (.iconst 1, 1) := by decide +kernel
theorem d_L_law_487 : decode code 487 = .ok (.iadd, 1) := by decide +kernel
theorem d_L_law_488 : decode code 488 = .ok (.iaload, 1) := by decide +kernel
theorem d_L_law_489 : decode code 489 = .ok (.aload_n 0, 1) := by decide +kernel
theorem d_L_law_490 : decode code 490 = .ok (.iload 4, 2) := by decide +kernel
theorem d_L_law_492 : decode code 492 = .ok (.iconst 2, 1) := by decide +kernel
theorem d_L_law_493 : decode code 493 = .ok (.iadd, 1) := by decide +kernel
theorem d_L_law_494 : decode code 494 = .ok (.iaload, 1) := by decide +kernel
theorem d_L_law_495 : decode code 495 = .ok (.aload_n 0, 1) := by decide +kernel
theorem d_L_law_496 : decode code 496 = .ok (.iload 4, 2) := by decide +kernel
theorem d_L_law_498 : decode code 498 = .ok (.iconst 3, 1) := by decide +kernel
theorem d_L_law_499 : decode code 499 = .ok (.iadd, 1) := by decide +kernel
theorem d_L_law_500 : decode code 500 = .ok (.iaload, 1) := by decide +kernel
theorem d_L_law_501 : decode code 501 = .ok (.invokevirtual 85, 3) := by decide +kernel
theorem d_L_law_504 : decode code 504 = .ok (.istore 6, 2) := by decide +kernel
theorem d_L_law_506 : decode code 506 = .ok (.aload_n 2, 1) := by decide +kernel
theorem d_L_law_507 : decode code 507 = .ok (.invokevirtual 61, 3) := by decide +kernel
theorem d_L_law_510 : decode code 510 = .ok (.iload 5, 2) := by decide +kernel
theorem d_L_law_512 : decode code 512 = .ok (.if_icmp .eq 5, 3) := by decide +kernel
theorem d_L_law_515 : decode code 515 = .ok (.iconst 0, 1) := by decide +kernel
theorem d_L_law_516 : decode code 516 = .ok (.ireturn, 1) := by decide +kernel
end
section
theorem d_L_law_517 : decode code 517 = .ok (.iload 5, 2) := by decide +kernel
theorem d_L_law_519 : decode code 519 = .ok (.ifCond .ne 15, 3) := by decide +kernel
theorem d_L_law_522 : decode code 522 = .ok (.aload_n 3, 1) := by decide +kernel
theorem d_L_law_523 : decode code 523 = .ok (.iconst 0, 1) := by decide +kernel
theorem d_L_law_524 : decode code 524 = .ok (.laload, 1) := by decide +kernel
theorem d_L_law_525 : decode code 525 = .ok (.iload 6, 2) := by decide +kernel
theorem d_L_law_527 : decode code 527 = .ok (.i2l, 1) := by decide +kernel
theorem d_L_law_528 : decode code 528 = .ok (.lcmp, 1) := by decide +kernel
theorem d_L_law_529 : decode code 529 = .ok (.ifCond .eq 5, 3) := by decide +kernel
theorem d_L_law_532 : decode code 532 = .ok (.iconst 0, 1) := by decide +kernel
theorem d_L_law_533 : decode code 533 = .ok (.ireturn, 1) := by decide +kernel
theorem d_L_law_534 : decode code 534 = .ok (.goto 380, 3) := by decide +kernel
theorem d_L_law_537 : decode code 537 = .ok (.aload_n 1, 1) := by decide +kernel
theorem d_L_law_538 : decode code 538 = .ok (.aload_n 0, 1) := by decide +kernel
theorem d_L_law_539 : decode code 539 = .ok (.iload 4, 2) := by decide +kernel
theorem d_L_law_541 : decode code 541 = .ok (.iconst 1, 1) := by decide +kernel
theorem d_L_law_542 : decode code 542 = .ok (.iadd, 1) := by decide +kernel
theorem d_L_law_543 : decode code 543 = .ok (.iaload, 1) := by decide +kernel
theorem d_L_law_544 : decode code 544 = .ok (.aload_n 0, 1) := by decide +kernel
theorem d_L_law_545 : decode code 545 = .ok (.iload 4, 2) := by decide +kernel
theorem d_L_law_547 : decode code 547 = .ok (.iconst 2, 1) := by decide +kernel
theorem d_L_law_548 : decode code 548 = .ok (.iadd, 1) := by decide +kernel
theorem d_L_law_549 : decode code 549 = .ok (.iaload, 1) := by decide +kernel
theorem d_L_law_550 : decode code 550 = .ok (.aload_n 0, 1) := by decide +kernel
theorem d_L_law_551 : decode code 551 = .ok (.iload 4, 2) := by decide +kernel
theorem d_L_law_553 : decode code 553 = .ok (.iconst 3, 1) := by decide +kernel
theorem d_L_law_554 : decode code 554 = .ok (.iadd, 1) := by decide +kernel
theorem d_L_law_555 : decode code 555 = .ok (.iaload, 1) := by decide +kernel
theorem d_L_law_556 : decode code 556 = .ok (.aload_n 3, 1) := by decide +kernel
theorem d_L_law_557 : decode code 557 = .ok (.invokestatic 86, 3) := by decide +kernel
theorem d_L_law_560 : decode code 560 = .ok (.istore 5, 2) := by decide +kernel
theorem d_L_law_562 : decode code 562 = .ok (.aload_n 2, 1) := by decide +kernel
theorem d_L_law_563 : decode code 563 = .ok (.aload_n 0, 1) := by decide +kernel
theorem d_L_law_564 : decode code 564 = .ok (.iload 4, 2) := by decide +kernel
theorem d_L_law_566 : decode code 566 = .ok (.iconst 1, 1) := by decide +kernel
theorem d_L_law_567 : decode code 567 = .ok (.iadd, 1) := by decide +kernel
theorem d_L_law_568 : decode code 568 = .ok (.iaload, 1) := by decide +kernel
theorem d_L_law_569 : decode code 569 = .ok (.aload_n 0, 1) := by decide +kernel
theorem d_L_law_570 : decode code 570 = .ok (.iload 4, 2) := by decide +kernel
theorem d_L_law_572 : decode code 572 = .ok (.iconst 2, 1) := by decide +kernel
theorem d_L_law_573 : decode code 573 = .ok (.iadd, 1) := by decide +kernel
theorem d_L_law_574 : decode code 574 = .ok (.iaload, 1) := by decide +kernel
theorem d_L_law_575 : decode code 575 = .ok (.aload_n 0, 1) := by decide +kernel
theorem d_L_law_576 : decode code 576 = .ok (.iload 4, 2) := by decide +kernel
theorem d_L_law_578 : decode code 578 = .ok (.iconst 3, 1) := by decide +kernel
theorem d_L_law_579 : decode code 579 = .ok (.iadd, 1) := by decide +kernel
theorem d_L_law_580 : decode code 580 = .ok (.iaload, 1) := by decide +kernel
theorem d_L_law_581 : decode code 581 = .ok (.invokevirtual 88, 3) := by decide +kernel
theorem d_L_law_584 : decode code 584 = .ok (.istore 6, 2) := by decide +kernel
theorem d_L_law_586 : decode code 586 = .ok (.aload_n 2, 1) := by decide +kernel
theorem d_L_law_587 : decode code 587 = .ok (.invokevirtual 61, 3) := by decide +kernel
theorem d_L_law_590 : decode code 590 = .ok (.iload 5, 2) := by decide +kernel
theorem d_L_law_592 : decode code 592 = .ok (.if_icmp .eq 5, 3) := by decide +kernel
theorem d_L_law_595 : decode code 595 = .ok (.iconst 0, 1) := by decide +kernel
theorem d_L_law_596 : decode code 596 = .ok (.ireturn, 1) := by decide +kernel
theorem d_L_law_597 : decode code 597 = .ok (.iload 5, 2) := by decide +kernel
theorem d_L_law_599 : decode code 599 = .ok (.ifCond .ne 15, 3) := by decide +kernel
theorem d_L_law_602 : decode code 602 = .ok (.aload_n 3, 1) := by decide +kernel
theorem d_L_law_603 : decode code 603 = .ok (.iconst 0, 1) := by decide +kernel
theorem d_L_law_604 : decode code 604 = .ok (.laload, 1) := by decide +kernel
end
section
theorem d_L_law_605 : decode code 605 = .ok (.iload 6, 2) := by decide +kernel
theorem d_L_law_607 : decode code 607 = .ok (.i2l, 1) := by decide +kernel
theorem d_L_law_608 : decode code 608 = .ok (.lcmp, 1) := by decide +kernel
theorem d_L_law_609 : decode code 609 = .ok (.ifCond .eq 5, 3) := by decide +kernel
theorem d_L_law_612 : decode code 612 = .ok (.iconst 0, 1) := by decide +kernel
theorem d_L_law_613 : decode code 613 = .ok (.ireturn, 1) := by decide +kernel
theorem d_L_law_614 : decode code 614 = .ok (.goto 300, 3) := by decide +kernel
theorem d_L_law_617 : decode code 617 = .ok (.aload_n 1, 1) := by decide +kernel
theorem d_L_law_618 : decode code 618 = .ok (.aload_n 0, 1) := by decide +kernel
theorem d_L_law_619 : decode code 619 = .ok (.iload 4, 2) := by decide +kernel
theorem d_L_law_621 : decode code 621 = .ok (.iconst 1, 1) := by decide +kernel
theorem d_L_law_622 : decode code 622 = .ok (.iadd, 1) := by decide +kernel
theorem d_L_law_623 : decode code 623 = .ok (.iaload, 1) := by decide +kernel
theorem d_L_law_624 : decode code 624 = .ok (.aload_n 0, 1) := by decide +kernel
theorem d_L_law_625 : decode code 625 = .ok (.iload 4, 2) := by decide +kernel
theorem d_L_law_627 : decode code 627 = .ok (.iconst 2, 1) := by decide +kernel
theorem d_L_law_628 : decode code 628 = .ok (.iadd, 1) := by decide +kernel
theorem d_L_law_629 : decode code 629 = .ok (.iaload, 1) := by decide +kernel
theorem d_L_law_630 : decode code 630 = .ok (.aload_n 3, 1) := by decide +kernel
theorem d_L_law_631 : decode code 631 = .ok (.invokestatic 89, 3) := by decide +kernel
theorem d_L_law_634 : decode code 634 = .ok (.istore 5, 2) := by decide +kernel
theorem d_L_law_636 : decode code 636 = .ok (.aload_n 2, 1) := by decide +kernel
theorem d_L_law_637 : decode code 637 = .ok (.aload_n 0, 1) := by decide +kernel
theorem d_L_law_638 : decode code 638 = .ok (.iload 4, 2) := by decide +kernel
theorem d_L_law_640 : decode code 640 = .ok (.iconst 1, 1) := by decide +kernel
theorem d_L_law_641 : decode code 641 = .ok (.iadd, 1) := by decide +kernel
theorem d_L_law_642 : decode code 642 = .ok (.iaload, 1) := by decide +kernel
theorem d_L_law_643 : decode code 643 = .ok (.aload_n 0, 1) := by decide +kernel
theorem d_L_law_644 : decode code 644 = .ok (.iload 4, 2) := by decide +kernel
theorem d_L_law_646 : decode code 646 = .ok (.iconst 2, 1) := by decide +kernel
theorem d_L_law_647 : decode code 647 = .ok (.iadd, 1) := by decide +kernel
theorem d_L_law_648 : decode code 648 = .ok (.iaload, 1) := by decide +kernel
theorem d_L_law_649 : decode code 649 = .ok (.invokevirtual 91, 3) := by decide +kernel
theorem d_L_law_652 : decode code 652 = .ok (.istore 6, 2) := by decide +kernel
theorem d_L_law_654 : decode code 654 = .ok (.aload_n 2, 1) := by decide +kernel
theorem d_L_law_655 : decode code 655 = .ok (.invokevirtual 61, 3) := by decide +kernel
theorem d_L_law_658 : decode code 658 = .ok (.iload 5, 2) := by decide +kernel
theorem d_L_law_660 : decode code 660 = .ok (.if_icmp .eq 5, 3) := by decide +kernel
theorem d_L_law_663 : decode code 663 = .ok (.iconst 0, 1) := by decide +kernel
theorem d_L_law_664 : decode code 664 = .ok (.ireturn, 1) := by decide +kernel
theorem d_L_law_665 : decode code 665 = .ok (.iload 5, 2) := by decide +kernel
theorem d_L_law_667 : decode code 667 = .ok (.ifCond .ne 15, 3) := by decide +kernel
theorem d_L_law_670 : decode code 670 = .ok (.aload_n 3, 1) := by decide +kernel
theorem d_L_law_671 : decode code 671 = .ok (.iconst 0, 1) := by decide +kernel
theorem d_L_law_672 : decode code 672 = .ok (.laload, 1) := by decide +kernel
theorem d_L_law_673 : decode code 673 = .ok (.iload 6, 2) := by decide +kernel
theorem d_L_law_675 : decode code 675 = .ok (.i2l, 1) := by decide +kernel
theorem d_L_law_676 : decode code 676 = .ok (.lcmp, 1) := by decide +kernel
theorem d_L_law_677 : decode code 677 = .ok (.ifCond .eq 5, 3) := by decide +kernel
theorem d_L_law_680 : decode code 680 = .ok (.iconst 0, 1) := by decide +kernel
theorem d_L_law_681 : decode code 681 = .ok (.ireturn, 1) := by decide +kernel
theorem d_L_law_682 : decode code 682 = .ok (.goto 232, 3) := by decide +kernel
theorem d_L_law_685 : decode code 685 = .ok (.aload_n 1, 1) := by decide +kernel
theorem d_L_law_686 : decode code 686 = .ok (.aload_n 0, 1) := by decide +kernel
theorem d_L_law_687 : decode code 687 = .ok (.iload 4, 2) := by decide +kernel
theorem d_L_law_689 : decode code 689 = .ok (.iconst 1, 1) := by decide +kernel
theorem d_L_law_690 : decode code 690 = .ok (.iadd, 1) := by decide +kernel
theorem d_L_law_691 : decode code 691 = .ok (.iaload, 1) := by decide +kernel
theorem d_L_law_692 : decode code 692 = .ok (.aload_n 3, 1) := by decide +kernel
theorem d_L_law_693 : decode code 693 = .ok (.invokestatic 92, 3) := by decide +kernel
end
section
theorem d_L_law_696 : decode code 696 = .ok (.istore 5, 2) := by decide +kernel
theorem d_L_law_698 : decode code 698 = .ok (.aload_n 2, 1) := by decide +kernel
theorem d_L_law_699 : decode code 699 = .ok (.aload_n 0, 1) := by decide +kernel
theorem d_L_law_700 : decode code 700 = .ok (.iload 4, 2) := by decide +kernel
theorem d_L_law_702 : decode code 702 = .ok (.iconst 1, 1) := by decide +kernel
theorem d_L_law_703 : decode code 703 = .ok (.iadd, 1) := by decide +kernel
theorem d_L_law_704 : decode code 704 = .ok (.iaload, 1) := by decide +kernel
theorem d_L_law_705 : decode code 705 = .ok (.invokevirtual 94, 3) := by decide +kernel
theorem d_L_law_708 : decode code 708 = .ok (.istore 6, 2) := by decide +kernel
theorem d_L_law_710 : decode code 710 = .ok (.aload_n 2, 1) := by decide +kernel
theorem d_L_law_711 : decode code 711 = .ok (.invokevirtual 61, 3) := by decide +kernel
theorem d_L_law_714 : decode code 714 = .ok (.iload 5, 2) := by decide +kernel
theorem d_L_law_716 : decode code 716 = .ok (.if_icmp .eq 5, 3) := by decide +kernel
theorem d_L_law_719 : decode code 719 = .ok (.iconst 0, 1) := by decide +kernel
theorem d_L_law_720 : decode code 720 = .ok (.ireturn, 1) := by decide +kernel
theorem d_L_law_721 : decode code 721 = .ok (.iload 5, 2) := by decide +kernel
theorem d_L_law_723 : decode code 723 = .ok (.ifCond .ne 15, 3) := by decide +kernel
theorem d_L_law_726 : decode code 726 = .ok (.aload_n 3, 1) := by decide +kernel
theorem d_L_law_727 : decode code 727 = .ok (.iconst 0, 1) := by decide +kernel
theorem d_L_law_728 : decode code 728 = .ok (.laload, 1) := by decide +kernel
theorem d_L_law_729 : decode code 729 = .ok (.iload 6, 2) := by decide +kernel
theorem d_L_law_731 : decode code 731 = .ok (.i2l, 1) := by decide +kernel
theorem d_L_law_732 : decode code 732 = .ok (.lcmp, 1) := by decide +kernel
theorem d_L_law_733 : decode code 733 = .ok (.ifCond .eq 5, 3) := by decide +kernel
theorem d_L_law_736 : decode code 736 = .ok (.iconst 0, 1) := by decide +kernel
theorem d_L_law_737 : decode code 737 = .ok (.ireturn, 1) := by decide +kernel
theorem d_L_law_738 : decode code 738 = .ok (.goto 176, 3) := by decide +kernel
theorem d_L_law_741 : decode code 741 = .ok (.aload_n 1, 1) := by decide +kernel
theorem d_L_law_742 : decode code 742 = .ok (.aload_n 0, 1) := by decide +kernel
theorem d_L_law_743 : decode code 743 = .ok (.iload 4, 2) := by decide +kernel
theorem d_L_law_745 : decode code 745 = .ok (.iconst 1, 1) := by decide +kernel
theorem d_L_law_746 : decode code 746 = .ok (.iadd, 1) := by decide +kernel
theorem d_L_law_747 : decode code 747 = .ok (.iaload, 1) := by decide +kernel
theorem d_L_law_748 : decode code 748 = .ok (.aload_n 0, 1) := by decide +kernel
theorem d_L_law_749 : decode code 749 = .ok (.iload 4, 2) := by decide +kernel
theorem d_L_law_751 : decode code 751 = .ok (.iconst 2, 1) := by decide +kernel
theorem d_L_law_752 : decode code 752 = .ok (.iadd, 1) := by decide +kernel
theorem d_L_law_753 : decode code 753 = .ok (.iaload, 1) := by decide +kernel
theorem d_L_law_754 : decode code 754 = .ok (.aload_n 0, 1) := by decide +kernel
theorem d_L_law_755 : decode code 755 = .ok (.iload 4, 2) := by decide +kernel
theorem d_L_law_757 : decode code 757 = .ok (.iconst 3, 1) := by decide +kernel
theorem d_L_law_758 : decode code 758 = .ok (.iadd, 1) := by decide +kernel
theorem d_L_law_759 : decode code 759 = .ok (.iaload, 1) := by decide +kernel
theorem d_L_law_760 : decode code 760 = .ok (.aload_n 3, 1) := by decide +kernel
theorem d_L_law_761 : decode code 761 = .ok (.invokestatic 95, 3) := by decide +kernel
theorem d_L_law_764 : decode code 764 = .ok (.istore 5, 2) := by decide +kernel
theorem d_L_law_766 : decode code 766 = .ok (.aload_n 2, 1) := by decide +kernel
theorem d_L_law_767 : decode code 767 = .ok (.aload_n 0, 1) := by decide +kernel
theorem d_L_law_768 : decode code 768 = .ok (.iload 4, 2) := by decide +kernel
theorem d_L_law_770 : decode code 770 = .ok (.iconst 1, 1) := by decide +kernel
theorem d_L_law_771 : decode code 771 = .ok (.iadd, 1) := by decide +kernel
theorem d_L_law_772 : decode code 772 = .ok (.iaload, 1) := by decide +kernel
theorem d_L_law_773 : decode code 773 = .ok (.aload_n 0, 1) := by decide +kernel
theorem d_L_law_774 : decode code 774 = .ok (.iload 4, 2) := by decide +kernel
theorem d_L_law_776 : decode code 776 = .ok (.iconst 2, 1) := by decide +kernel
theorem d_L_law_777 : decode code 777 = .ok (.iadd, 1) := by decide +kernel
theorem d_L_law_778 : decode code 778 = .ok (.iaload, 1) := by decide +kernel
theorem d_L_law_779 : decode code 779 = .ok (.aload_n 0, 1) := by decide +kernel
theorem d_L_law_780 : decode code 780 = .ok (.iload 4, 2) := by decide +kernel
theorem d_L_law_782 : decode code 782 = .ok (.iconst 3, 1) := by decide +kernel
end
section
theorem d_L_law_783 : decode code 783 = .ok (.iadd, 1) := by decide +kernel
theorem d_L_law_784 : decode code 784 = .ok (.iaload, 1) := by decide +kernel
theorem d_L_law_785 : decode code 785 = .ok (.invokevirtual 97, 3) := by decide +kernel
theorem d_L_law_788 : decode code 788 = .ok (.istore 6, 2) := by decide +kernel
theorem d_L_law_790 : decode code 790 = .ok (.aload_n 2, 1) := by decide +kernel
theorem d_L_law_791 : decode code 791 = .ok (.invokevirtual 61, 3) := by decide +kernel
theorem d_L_law_794 : decode code 794 = .ok (.iload 5, 2) := by decide +kernel
theorem d_L_law_796 : decode code 796 = .ok (.if_icmp .eq 5, 3) := by decide +kernel
theorem d_L_law_799 : decode code 799 = .ok (.iconst 0, 1) := by decide +kernel
theorem d_L_law_800 : decode code 800 = .ok (.ireturn, 1) := by decide +kernel
theorem d_L_law_801 : decode code 801 = .ok (.iload 5, 2) := by decide +kernel
theorem d_L_law_803 : decode code 803 = .ok (.ifCond .ne 15, 3) := by decide +kernel
theorem d_L_law_806 : decode code 806 = .ok (.aload_n 3, 1) := by decide +kernel
theorem d_L_law_807 : decode code 807 = .ok (.iconst 0, 1) := by decide +kernel
theorem d_L_law_808 : decode code 808 = .ok (.laload, 1) := by decide +kernel
theorem d_L_law_809 : decode code 809 = .ok (.iload 6, 2) := by decide +kernel
theorem d_L_law_811 : decode code 811 = .ok (.i2l, 1) := by decide +kernel
theorem d_L_law_812 : decode code 812 = .ok (.lcmp, 1) := by decide +kernel
theorem d_L_law_813 : decode code 813 = .ok (.ifCond .eq 5, 3) := by decide +kernel
theorem d_L_law_816 : decode code 816 = .ok (.iconst 0, 1) := by decide +kernel
theorem d_L_law_817 : decode code 817 = .ok (.ireturn, 1) := by decide +kernel
theorem d_L_law_818 : decode code 818 = .ok (.goto 96, 3) := by decide +kernel
theorem d_L_law_821 : decode code 821 = .ok (.aload_n 1, 1) := by decide +kernel
theorem d_L_law_822 : decode code 822 = .ok (.aload_n 0, 1) := by decide +kernel
theorem d_L_law_823 : decode code 823 = .ok (.iload 4, 2) := by decide +kernel
theorem d_L_law_825 : decode code 825 = .ok (.iconst 1, 1) := by decide +kernel
theorem d_L_law_826 : decode code 826 = .ok (.iadd, 1) := by decide +kernel
theorem d_L_law_827 : decode code 827 = .ok (.iaload, 1) := by decide +kernel
theorem d_L_law_828 : decode code 828 = .ok (.aload_n 0, 1) := by decide +kernel
theorem d_L_law_829 : decode code 829 = .ok (.iload 4, 2) := by decide +kernel
theorem d_L_law_831 : decode code 831 = .ok (.iconst 2, 1) := by decide +kernel
theorem d_L_law_832 : decode code 832 = .ok (.iadd, 1) := by decide +kernel
theorem d_L_law_833 : decode code 833 = .ok (.iaload, 1) := by decide +kernel
theorem d_L_law_834 : decode code 834 = .ok (.aload_n 3, 1) := by decide +kernel
theorem d_L_law_835 : decode code 835 = .ok (.invokestatic 98, 3) := by decide +kernel
theorem d_L_law_838 : decode code 838 = .ok (.istore 5, 2) := by decide +kernel
theorem d_L_law_840 : decode code 840 = .ok (.aload_n 2, 1) := by decide +kernel
theorem d_L_law_841 : decode code 841 = .ok (.aload_n 0, 1) := by decide +kernel
theorem d_L_law_842 : decode code 842 = .ok (.iload 4, 2) := by decide +kernel
theorem d_L_law_844 : decode code 844 = .ok (.iconst 1, 1) := by decide +kernel
theorem d_L_law_845 : decode code 845 = .ok (.iadd, 1) := by decide +kernel
theorem d_L_law_846 : decode code 846 = .ok (.iaload, 1) := by decide +kernel
theorem d_L_law_847 : decode code 847 = .ok (.aload_n 0, 1) := by decide +kernel
theorem d_L_law_848 : decode code 848 = .ok (.iload 4, 2) := by decide +kernel
theorem d_L_law_850 : decode code 850 = .ok (.iconst 2, 1) := by decide +kernel
theorem d_L_law_851 : decode code 851 = .ok (.iadd, 1) := by decide +kernel
theorem d_L_law_852 : decode code 852 = .ok (.iaload, 1) := by decide +kernel
theorem d_L_law_853 : decode code 853 = .ok (.invokevirtual 100, 3) := by decide +kernel
theorem d_L_law_856 : decode code 856 = .ok (.istore 6, 2) := by decide +kernel
theorem d_L_law_858 : decode code 858 = .ok (.aload_n 2, 1) := by decide +kernel
theorem d_L_law_859 : decode code 859 = .ok (.invokevirtual 61, 3) := by decide +kernel
theorem d_L_law_862 : decode code 862 = .ok (.iload 5, 2) := by decide +kernel
theorem d_L_law_864 : decode code 864 = .ok (.if_icmp .eq 5, 3) := by decide +kernel
theorem d_L_law_867 : decode code 867 = .ok (.iconst 0, 1) := by decide +kernel
theorem d_L_law_868 : decode code 868 = .ok (.ireturn, 1) := by decide +kernel
theorem d_L_law_869 : decode code 869 = .ok (.iload 5, 2) := by decide +kernel
theorem d_L_law_871 : decode code 871 = .ok (.ifCond .ne 15, 3) := by decide +kernel
theorem d_L_law_874 : decode code 874 = .ok (.aload_n 3, 1) := by decide +kernel
theorem d_L_law_875 : decode code 875 = .ok (.iconst 0, 1) := by decide +kernel
theorem d_L_law_876 : decode code 876 = .ok (.laload, 1) := by decide +kernel
end
section
theorem d_L_law_877 : decode code 877 = .ok (.iload 6, 2) := by decide +kernel
theorem d_L_law_879 : decode code 879 = .ok (.i2l, 1) := by decide +kernel
theorem d_L_law_880 : decode code 880 = .ok (.lcmp, 1) := by decide +kernel
theorem d_L_law_881 : decode code 881 = .ok (.ifCond .eq 5, 3) := by decide +kernel
theorem d_L_law_884 : decode code 884 = .ok (.iconst 0, 1) := by decide +kernel
theorem d_L_law_885 : decode code 885 = .ok (.ireturn, 1) := by decide +kernel
theorem d_L_law_886 : decode code 886 = .ok (.goto 28, 3) := by decide +kernel
theorem d_L_law_889 : decode code 889 = .ok (.aload_n 1, 1) := by decide +kernel
theorem d_L_law_890 : decode code 890 = .ok (.aload_n 0, 1) := by decide +kernel
theorem d_L_law_891 : decode code 891 = .ok (.iload 4, 2) := by decide +kernel
theorem d_L_law_893 : decode code 893 = .ok (.iconst 1, 1) := by decide +kernel
theorem d_L_law_894 : decode code 894 = .ok (.iadd, 1) := by decide +kernel
theorem d_L_law_895 : decode code 895 = .ok (.iaload, 1) := by decide +kernel
theorem d_L_law_896 : decode code 896 = .ok (.invokevirtual 101, 3) := by decide +kernel
theorem d_L_law_899 : decode code 899 = .ok (.aload_n 2, 1) := by decide +kernel
theorem d_L_law_900 : decode code 900 = .ok (.aload_n 0, 1) := by decide +kernel
theorem d_L_law_901 : decode code 901 = .ok (.iload 4, 2) := by decide +kernel
theorem d_L_law_903 : decode code 903 = .ok (.iconst 1, 1) := by decide +kernel
theorem d_L_law_904 : decode code 904 = .ok (.iadd, 1) := by decide +kernel
theorem d_L_law_905 : decode code 905 = .ok (.iaload, 1) := by decide +kernel
theorem d_L_law_906 : decode code 906 = .ok (.invokevirtual 104, 3) := by decide +kernel
theorem d_L_law_909 : decode code 909 = .ok (.if_icmp .eq 5, 3) := by decide +kernel
theorem d_L_law_912 : decode code 912 = .ok (.iconst 0, 1) := by decide +kernel
theorem d_L_law_913 : decode code 913 = .ok (.ireturn, 1) := by decide +kernel
theorem d_L_law_914 : decode code 914 = .ok (.iinc 4 4, 3) := by decide +kernel
theorem d_L_law_917 : decode code 917 = .ok (.goto (-894), 3) := by decide +kernel
theorem d_L_law_920 : decode code 920 = .ok (.iconst 1, 1) := by decide +kernel
theorem d_L_law_921 : decode code 921 = .ok (.ireturn, 1) := by decide +kernel
end
section
/-! the law itself: the tree, the model, the array of one long -/
def wA (cI cM cJ : ClassId) (q qm : Nat → Nat) (qo : Nat) (f : Nat → Int32) (G : Nat → Nat → Int32) (fm : Nat → Int32) (Gm : Nat → Nat → Int32) (g : Nat → Int64) : va_W := wT cI q f G ++ (wM cM qm fm Gm ++ wO cJ qo g)
def kx_A (D : va_G) (cI cM cJ : ClassId) (A : Nat → Prop) (q qm : Nat → Nat) (qo : Nat) (f : Nat → Int32) (G : Nat → Nat → Int32) (fm : Nat → Int32) (Gm : Nat → Nat → Int32) (g : Nat → Int64) (s : State) (H : Heap) (locs : List Loc) : Prop :=
  va_P D cls_ (wA cI cM cJ q qm qo f G fm Gm g) H ∧ va_D A (wA cI cM cJ q qm qo f G fm Gm g) ∧ va_S A s.heap H locs ∧ va_K D cls_ [(cI, .int), (cM, .int), (cJ, .long)] s
abbrev kx_W (p : Program) (s : State) (m : MethodId) (args : Array Value) (c : Code) (meth : Method) (A : Nat → Prop) (b L : Nat) (xs : Nat → Int32) : Prop :=
  kx_C p s m args c code R_L ∧ c.maxLocals = 7 ∧ kt_Y s s.heap ∧ (∀ x : Nat, s.heap.size ≤ x → A x) ∧ (∀ x : Nat, A x → s.heap.size ≤ x) ∧ va_X b L xs s s.heap ∧ b < s.heap.size ∧ L ≤ 2048
section KA
variable {p : Program} {l : Launch} {e : Env} {R : Room} {s : State} {m : MethodId} {args : Array Value} {below : List Frame} {meth : Method} {c : Code} {H : Heap} {locs : List Loc} {cells slots : Nat} {Q : State → Prop}
variable {ls : Array Slot} {rest : List Value} {D : va_G} {cI cM cJ : ClassId} {A : Nat → Prop} {q qm : Nat → Nat} {qo : Nat} {f : Nat → Int32} {G : Nat → Nat → Int32} {fm : Nat → Int32} {Gm : Nat → Nat → Int32} {g : Nat → Int64} {b L : Nat} {xs : Nat → Int32}
theorem A_Y (E : kx_W p s m args c meth A b L xs) (w : kx_A D cI cM cJ A q qm qo f G fm Gm g s H locs) : kt_Y s H :=
  ⟨E.2.2.1.1.kept (fun x hx cell hc => by
    have h1 := E.2.2.2.2.1 x hx
    rw [Array.getElem?_eq_none h1] at hc
    cases hc) w.2.2.1.2.1, E.2.2.1.2⟩
/-- a call of one of the law's small methods -/
theorem A_cs (pc : Nat) (E : kx_W p s m args c meth A b L xs) (w : kx_A D cI cM cJ A q qm qo f G fm Gm g s H locs) {y : MethodName} {b0 : ByteArray} {n idx na : Nat} {hh : List (Nat × Nat × Nat × Nat)} {As : List Value} {post : Int32 → (Nat → Int32) → (Nat → Nat → Int32) → (Nat → Int64) → Prop} {st0 : List Value}
    (hM : L_Mi l y b0 n hh rm_L D cI cJ q qo f G g As post) (hy : y.cls = R_L) (hcw : Cond.codeWith y b0 n (some .int) hh ∈ lw_g) (hlk : Cond.methodLink R_L idx y ∈ lw_g) (hst : Cond.static y ∈ lw_g) (hd : (parseMethodDescriptor y.desc).map (fun d => d.parameters.length) = some na)
    (hR : rm_L.frames + 1 ≤ R.frames ∧ 8 + (n + 11) + rm_L.locals ≤ R.locals) (hf : cells + 1 ≤ R.cells ∧ slots + 6 ≤ R.slots) (hls : ls.size = 7) (hn : As.length = na) (hstk : st0 = As.reverse ++ rest) (hW : (rest.map fun v => v.category).sum ≤ 8) (hdg : decode code pc = .ok (.invokestatic idx, 3))
    (kk : ∀ (r : Int32) (f' : Nat → Int32) (G' : Nat → Nat → Int32) (g' : Nat → Int64) (H : Heap) (locs : List Loc), post r f' G' g' → kx_A D cI cM cJ A q qm qo f' G' fm Gm g' s H locs → W p l e R s m args below meth c H locs (cells + 1) (slots + 6) Q (F0 m (pc + 3) ls (.int r :: rest))) : W p l e R s m args below meth c H locs cells slots Q (F0 m pc ls st0) := by
  have hFc : ∀ x, va_A (wL cI cJ q qo f G g) H.size x → A x := va_free (wc := wL cI cJ q qo f G g) w.2.1 w.2.2.1 E.2.2.2.1 [0, 1, 2, 3, 4, 5, 6, 7, 8, 15] rfl
  have hX := A_Y E w
  have hPc : va_P D cls_ (wL cI cJ q qo f G g) H := w.1.sub (ws' := wL cI cJ q qo f G g) [0, 1, 2, 3, 4, 5, 6, 7, 8, 15] rfl
  have hDc : va_D A (wL cI cJ q qo f G g) := w.2.1.sub (ws' := wL cI cJ q qo f G g) [0, 1, 2, 3, 4, 5, 6, 7, 8, 15] (by decide) rfl
  have hKc : va_K D cls_ [(cI, .int), (cJ, .long)] s := w.2.2.2.sub (tys' := [(cI, .int), (cJ, .long)]) [0, 2] rfl
  refine va_calli (kt_runSW (As := As) (rest := rest) (own := R_L) ⟨E.1.1, E.1.2.1, E.2.1, E.1.2.2.1, E.1.2.2.2⟩ (hM H.size) rfl (gd_C hcw) rfl rfl hR hlk hst (by rw [hy]; exact tw_0) ⟨by rw [hy]; decide, by rw [hy]; decide, hd⟩
    ⟨L_blind _ D cI cJ q qo f G g H.size, fun U hU hW => ⟨rfl, by rw [hU], by rw [hU]; exact hPc, va_K.moved hW.alike hKc, hDc.weaken (fun _ _ _ _ => trivial), by rw [hU]; exact hX.moved hW.alike⟩⟩
    rfl hn hls hstk (lv_room hW) hdg hf) w.2.2.1 (fun x _ h => hFc x h) hFc (fun r u t H1 locs1 ht hvm hpost hB hz hk hS => ?_)
  obtain ⟨hP, hD⟩ := va_join (wr := wM cM qm fm Gm) (w1 := wL cI cJ q qo u.1.1 u.1.2 u.2) w.1 w.2.1 [0, 1, 2, 3, 4, 5, 6, 7, 8, 15] [9, 10, 11, 12, 13, 14] rfl rfl (by decide) (by decide) hk hFc (by rw [← ht]; exact hB.1) hB.2.2
  exact kk r u.1.1 u.1.2 u.2 H1 locs1 hpost ⟨hP.sub (ws' := wA cI cM cJ q qm qo u.1.1 u.1.2 fm Gm u.2) [6, 7, 8, 9, 10, 11, 12, 13, 14, 0, 1, 2, 3, 4, 5, 15] rfl, hD.sub (ws' := wA cI cM cJ q qm qo u.1.1 u.1.2 fm Gm u.2) [6, 7, 8, 9, 10, 11, 12, 13, 14, 0, 1, 2, 3, 4, 5, 15] (by decide) rfl, hS, w.2.2.2⟩
/-- a call on the model -/
theorem A_cm (pc : Nat) (E : kx_W p s m args c meth A b L xs) (w : kx_A D cI cM cJ A q qm qo f G fm Gm g s H locs) {y : MethodName} {b0 : ByteArray} {n idx na : Nat} {ret : Option FieldType} {rm : Room} {As : List Value} {post : Int32 → (Nat → Int32) → (Nat → Nat → Int32) → Prop} {st0 : List Value}
    (hM : M_Mi l y b0 n ret rm D cM qm fm Gm As post) (cw : CallW R s args R_L R_M idx y b0 n ret (.code y b0 n ret :: lw_g) rm 0 0 na) (hf : cells ≤ R.cells ∧ slots ≤ R.slots) (hls : ls.size = 7) (hn : As.length = na) (hst : st0 = As.reverse ++ .ref (qm 0) :: rest) (hW : (rest.map fun v => v.category).sum ≤ 8) (hdg : decode code pc = .ok (.invokevirtual idx, 3))
    (kk : ∀ (r : Int32) (f' : Nat → Int32) (G' : Nat → Nat → Int32) (H : Heap) (locs : List Loc), post r f' G' → kx_A D cI cM cJ A q qm qo f G f' G' g s H locs → W p l e R s m args below meth c H locs cells slots Q (F0 m (pc + 3) ls (.int r :: rest))) : W p l e R s m args below meth c H locs cells slots Q (F0 m pc ls st0) := by
  have hFc : ∀ x, va_A (wM cM qm fm Gm) H.size x → A x := va_free (wc := wM cM qm fm Gm) w.2.1 w.2.2.1 E.2.2.2.1 [9, 10, 11, 12, 13, 14] rfl
  have hPc : va_P D cls_ (wM cM qm fm Gm) H := w.1.sub (ws' := wM cM qm fm Gm) [9, 10, 11, 12, 13, 14] rfl
  have hDc : va_D A (wM cM qm fm Gm) := w.2.1.sub (ws' := wM cM qm fm Gm) [9, 10, 11, 12, 13, 14] (by decide) rfl
  have hKc : va_K D cls_ [(cM, .int)] s := w.2.2.2.sub (tys' := [(cM, .int)]) [1] rfl
  refine va_calli (va_runV (As := As) (rest := rest) ⟨E.1.1, E.1.2.1, E.2.1, E.1.2.2.1, E.1.2.2.2⟩ (hM H.size) cw
    ⟨M_blind _ D cM qm fm Gm H.size, va_recv (ci := 1) hKc hPc rfl (show (wM cM qm fm Gm)[0]? = some _ from rfl), fun U hU hW => ⟨rfl, by rw [hU], by rw [hU]; exact hPc, va_K.moved hW.alike hKc, hDc.weaken (fun _ _ _ _ => trivial)⟩⟩
    rfl hn hls hst (lv_room hW) hdg hf) w.2.2.1 (fun x _ h => hFc x h) hFc (fun r u t H1 locs1 ht hvm hpost hB hz hk hS => ?_)
  obtain ⟨hP, hD⟩ := va_join (wr := wL cI cJ q qo f G g) (w1 := wM cM qm u.1 u.2) w.1 w.2.1 [9, 10, 11, 12, 13, 14] [0, 1, 2, 3, 4, 5, 6, 7, 8, 15] rfl rfl (by decide) (by decide) hk hFc (by rw [← ht]; exact hB.1) hB.2.2
  exact kk r u.1 u.2 H1 locs1 hpost ⟨hP.sub (ws' := wA cI cM cJ q qm qo f G u.1 u.2 g) [0, 1, 2, 3, 4, 5, 6, 7, 8, 10, 11, 12, 13, 14, 15, 9] rfl, hD.sub (ws' := wA cI cM cJ q qm qo f G u.1 u.2 g) [0, 1, 2, 3, 4, 5, 6, 7, 8, 10, 11, 12, 13, 14, 15, 9] (by decide) rfl, hS, w.2.2.2⟩
/-- a call on the tree -/
theorem A_ct (pc : Nat) (E : kx_W p s m args c meth A b L xs) (w : kx_A D cI cM cJ A q qm qo f G fm Gm g s H locs) {y : MethodName} {b0 : ByteArray} {n idx na : Nat} {ret : Option FieldType} {rm : Room} {As : List Value} {post : Int32 → (Nat → Int32) → (Nat → Nat → Int32) → Prop} {st0 : List Value}
    (hM : T_Mi l y b0 n ret rm D cI q f G As post) (cw : CallW R s args R_L R_T idx y b0 n ret (.code y b0 n ret :: lw_g) rm 0 0 na) (hf : cells ≤ R.cells ∧ slots ≤ R.slots) (hls : ls.size = 7) (hn : As.length = na) (hst : st0 = As.reverse ++ .ref (q 0) :: rest) (hW : (rest.map fun v => v.category).sum ≤ 8) (hdg : decode code pc = .ok (.invokevirtual idx, 3))
    (kk : ∀ (r : Int32) (f' : Nat → Int32) (G' : Nat → Nat → Int32) (H : Heap) (locs : List Loc), post r f' G' → kx_A D cI cM cJ A q qm qo f' G' fm Gm g s H locs → W p l e R s m args below meth c H locs cells slots Q (F0 m (pc + 3) ls (.int r :: rest))) : W p l e R s m args below meth c H locs cells slots Q (F0 m pc ls st0) := by
  have hFc : ∀ x, va_A (wT cI q f G) H.size x → A x := va_free (wc := wT cI q f G) w.2.1 w.2.2.1 E.2.2.2.1 [0, 1, 2, 3, 4, 5, 6, 7, 8] rfl
  have hPc : va_P D cls_ (wT cI q f G) H := w.1.sub (ws' := wT cI q f G) [0, 1, 2, 3, 4, 5, 6, 7, 8] rfl
  have hDc : va_D A (wT cI q f G) := w.2.1.sub (ws' := wT cI q f G) [0, 1, 2, 3, 4, 5, 6, 7, 8] (by decide) rfl
  have hKc : va_K D cls_ [(cI, .int)] s := w.2.2.2.sub (tys' := [(cI, .int)]) [0] rfl
  refine va_calli (va_runV (As := As) (rest := rest) ⟨E.1.1, E.1.2.1, E.2.1, E.1.2.2.1, E.1.2.2.2⟩ (hM H.size) cw
    ⟨T_blind _ D cI q f G H.size, va_recv (ci := 0) hKc hPc rfl (show (wT cI q f G)[0]? = some _ from rfl), fun U hU hW => ⟨rfl, by rw [hU], by rw [hU]; exact hPc, va_K.moved hW.alike hKc, hDc.weaken (fun _ _ _ _ => trivial)⟩⟩
    rfl hn hls hst (lv_room hW) hdg hf) w.2.2.1 (fun x _ h => hFc x h) hFc (fun r u t H1 locs1 ht hvm hpost hB hz hk hS => ?_)
  obtain ⟨hP, hD⟩ := va_join (wr := wM cM qm fm Gm ++ wO cJ qo g) (w1 := wT cI q u.1 u.2) w.1 w.2.1 [0, 1, 2, 3, 4, 5, 6, 7, 8] [9, 10, 11, 12, 13, 14, 15] rfl rfl (by decide) (by decide) hk hFc (by rw [← ht]; exact hB.1) hB.2.2
  exact kk r u.1 u.2 H1 locs1 hpost ⟨hP.sub (ws' := wA cI cM cJ q qm qo u.1 u.2 fm Gm g) [7, 8, 9, 10, 11, 12, 13, 14, 15, 0, 1, 2, 3, 4, 5, 6] rfl, hD.sub (ws' := wA cI cM cJ q qm qo u.1 u.2 fm Gm g) [7, 8, 9, 10, 11, 12, 13, 14, 15, 0, 1, 2, 3, 4, 5, 6] (by decide) rfl, hS, w.2.2.2⟩
theorem A_ld (pc : Nat) (E : kx_W p s m args c meth A b L xs) (w : kx_A D cI cM cJ A q qm qo f G fm Gm g s H locs) {j : Nat} (hdg : decode code pc = .ok (.iaload, 1)) (hj : j < L) (kk : W p l e R s m args below meth c H locs cells slots Q (F0 m (pc + 1) ls (.int (nI (uv (xs j))) :: rest))) : W p l e R s m args below meth c H locs cells slots Q (F0 m pc ls (.int (nI j) :: .ref b :: rest)) := by
  have hL := E.2.2.2.2.2.2.2
  refine va_sld E.1.1 E.1.2.1 E.2.2.2.2.2.1 E.2.2.2.2.2.2.1 (fun h => absurd (E.2.2.2.2.1 b h) (Nat.not_le.mpr E.2.2.2.2.2.2.1)) w.2.2.1 (vp_in_nI hj (by omega)) hdg ?_
  rw [nI_clamp (by omega), ← nI_uv (xs j)]; exact kk
theorem A_len (pc : Nat) (E : kx_W p s m args c meth A b L xs) (w : kx_A D cI cM cJ A q qm qo f G fm Gm g s H locs) (hdg : decode code pc = .ok (.arraylength, 1)) (kk : W p l e R s m args below meth c H locs cells slots Q (F0 m (pc + 1) ls (.int (nI L) :: rest))) : W p l e R s m args below meth c H locs cells slots Q (F0 m pc ls (.ref b :: rest)) :=
  va_slen E.1.1 E.1.2.1 E.2.2.2.2.2.1 E.2.2.2.2.2.2.1 (fun h => absurd (E.2.2.2.2.1 b h) (Nat.not_le.mpr E.2.2.2.2.2.2.1)) w.2.2.1 hdg kk
theorem A_lald (pc : Nat) (E : kx_W p s m args c meth A b L xs) (w : kx_A D cI cM cJ A q qm qo f G fm Gm g s H locs) (hdg : decode code pc = .ok (.laload, 1)) (kk : W p l e R s m args below meth c H locs cells slots Q (F0 m (pc + 1) ls (.long (g 0) :: rest))) : W p l e R s m args below meth c H locs cells slots Q (F0 m pc ls (.int (nI 0) :: .ref qo :: rest)) :=
  va_lald (cA := cJ) (n := 1) (f := g) E.1.1 E.1.2.1 w.2.2.2 w.1 15 2 rfl rfl (vp_in_nI (by decide) (by decide)) hdg kk
end KA
theorem j_build (l : Launch) (D : va_G) (cI : ClassId) (qm : Nat → Nat) {k : Nat} {f f' : Nat → Int32} {G G' : Nat → Nat → Int32} {fm : Nat → Int32} {Gm : Nat → Nat → Int32} {len n F : Nat} {ro : Nat → Nat} {A0 : Nat → Nat → Nat} {x : Int32} (hI : kJ k f G fm Gm len n F ro A0) (hl : len ≤ 4000) (hp : x = nI len ∧ f' = upd f 1 (nI len) ∧ (∃ A0, Bd G' len A0 ∧ wm_Lv A0 len ∧ ∀ j, j < len → A0 0 j = ro j) ∧ G' 1 = G 1 ∧ G' 7 = G 7 ∧ G' 8 = G 8) :
    M_Mi l y_M_build b_M_build 2 (some .int) rm_0 D cI qm fm Gm [] (fun r2 fm' Gm' => r2 = x ∧ kI (k + 1) f' G' fm' Gm') := by
  obtain ⟨rfl, rfl, ⟨A1, h1, h2, h3⟩, h4, h5, h6⟩ := hp
  obtain ⟨⟨a1, a2, a3, a4⟩, ⟨b1, b2, b3, b4⟩, ⟨c1, c2⟩, d1, d2, d3, d4⟩ := hI
  refine M_weak (c_Mbuild l D cI qm fm Gm hl a3) (fun r2 fm' Gm' hq => ?_)
  obtain ⟨rfl, ⟨g0, g1, g2⟩, g3, g4⟩ := hq
  refine ⟨rfl, len, len, F, ro, A1, ⟨by omega, a2, (g2 1 (by omega) (by omega)).trans a3, ?_⟩, ⟨rfl, hl, h1, h2⟩, ⟨g1, fun j hj => ?_⟩, d1, d2, (g2 3 (by omega) (by omega)).trans d3, ?_⟩
  · rw [h4, g3 1 (by omega)]; exact a4
  · rw [g4 j hj, h3 j hj]; exact (a4 j hj).2.2
  · rw [h5, h6, g3 4 (by omega), g3 5 (by omega)]; exact d4
theorem j_count (l : Launch) (D : va_G) (cI : ClassId) (qm : Nat → Nat) {k : Nat} {f : Nat → Int32} {G : Nat → Nat → Int32} {fm : Nat → Int32} {Gm : Nat → Nat → Int32} {len n F : Nat} {ro : Nat → Nat} {A0 : Nat → Nat → Nat} (x : Int32) (hI : kJ k f G fm Gm len n F ro A0) :
    M_Mi l y_M_count b_M_count 2 (some .int) rm_0 D cI qm fm Gm [.int x] (fun r2 fm' Gm' => r2 = (if x = 0 then f 0 else if x = 1 then f 1 else -1) ∧ kI (k + 1) f G fm' Gm') := by
  refine M_weak (c_Mcount l D cI qm fm Gm x) (fun r2 fm' Gm' hq => ?_)
  obtain ⟨rfl, ⟨h0, h1⟩, rfl⟩ := hq
  refine ⟨?_, hI.keep (fun _ _ => rfl) h1 (fun _ _ => rfl)⟩
  rw [hI.1.2.1, hI.1.2.2.1, hI.2.1.1, hI.2.2.1.1]
theorem kI.next {k : Nat} {f : Nat → Int32} {G : Nat → Nat → Int32} {fm : Nat → Int32} {Gm : Nat → Nat → Int32} (h : kI k f G fm Gm) : kI (k + 1) f G fm Gm := by
  obtain ⟨len, n, F, ro, A0, h⟩ := h
  exact h.keep (fun _ _ => rfl) (fun _ _ => rfl) (fun _ _ => rfl)
theorem kI_0 : kI 0 (fun _ => 0) (fun _ _ => 0) (fun _ => 0) (fun _ _ => 0) := by
  refine ⟨0, 0, 0, fun _ => 0, fun _ _ => 0, ⟨by omega, rfl, rfl, fun j hj => absurd hj (Nat.not_lt_zero j)⟩, ⟨rfl, by omega, ?_, ?_⟩, ⟨rfl, fun j hj => absurd hj (Nat.not_lt_zero j)⟩, by omega, rfl, rfl, fun j hj => absurd hj (Nat.not_lt_zero j)⟩
  · intro l hl
    refine ⟨?_, fun w hw => ?_, fun w hw => ⟨0, by omega, rfl, fun b hb => by simp⟩⟩
    · show (0 : Int32) = nI (0 - _)
      rw [Nat.zero_sub]; rfl
    · rw [Nat.min_eq_right (Nat.zero_le _)]
      have : wm_rk (fun _ _ => 0) l 0 = 0 := Nat.le_zero.mp (wm_rk_le _ _ _)
      rw [this]; rfl
  · exact ⟨fun l hl i hi => absurd hi (Nat.not_lt_zero i), fun j hj => absurd hj (Nat.not_lt_zero j)⟩
end
section
/-! the law's cases -/
def kK (p : Program) (l : Launch) (e : Env) (s : State) (m : MethodId) (args : Array Value) (below : List Frame) (meth : Method) (c : Code) (Q : State → Prop) (D : va_G) (cI cM cJ : ClassId) (A : Nat → Prop) (q qm : Nat → Nat) (qo b k cells slots : Nat) : Prop :=
  ∀ (f : Nat → Int32) (G : Nat → Nat → Int32) (fm : Nat → Int32) (Gm : Nat → Nat → Int32) (g : Nat → Int64) (H : Heap) (locs : List Loc) (ls : Array Slot) (o5 o6 : Option Value), kI (k + 1) f G fm Gm → kx_A D cI cM cJ A q qm qo f G fm Gm g s H locs →
    kl ls [some (.ref b), some (.ref (q 0)), some (.ref (qm 0)), some (.ref qo), some (.int (nI (4 * k))), o5, o6] → W p l e room_1 s m args below meth c H locs (cells + 1) (slots + 6) Q (F0 m 914 ls [])
section LAWC
variable {p : Program} {l : Launch} {e : Env} {s : State} {m : MethodId} {args : Array Value} {below : List Frame} {meth : Method} {c : Code} {H : Heap} {locs : List Loc} {cells slots : Nat} {Q : State → Prop}
variable {ls : Array Slot} {D : va_G} {cI cM cJ : ClassId} {A : Nat → Prop} {q qm : Nat → Nat} {qo : Nat} {f : Nat → Int32} {G : Nat → Nat → Int32} {fm : Nat → Int32} {Gm : Nat → Nat → Int32} {g : Nat → Int64} {b L k : Nat} {xs : Nat → Int32} {o5 o6 : Option Value}
theorem law_add (hfl : l.flags = flags0) (E : kx_W p s m args c meth A b L xs) (hI : kI k f G fm Gm) (w : kx_A D cI cM cJ A q qm qo f G fm Gm g s H locs) (hl : kl ls [some (.ref b), some (.ref (q 0)), some (.ref (qm 0)), some (.ref qo), some (.int (nI (4 * k))), o5, o6]) (h4 : 4 * k + 4 ≤ L) (hk : k ≤ 512) (hf : cells + 1 ≤ room_1.cells ∧ slots + 6 ≤ room_1.slots) (K : kK p l e s m args below meth c Q D cI cM cJ A q qm qo b k cells slots) : W p l e room_1 s m args below meth c H locs cells slots Q (F0 m 104 ls []) := by
  obtain ⟨len, n, F, ro, A0, hI⟩ := hI
  have hlen := hI.1.1
  refine kl_aload_n 104 E.1 d_L_law_104 hl rfl ?_
  refine kl_aload_n 105 E.1 d_L_law_105 hl rfl ?_
  refine kl_iload 106 E.1 d_L_law_106 hl rfl ?_
  refine lv_iconst (pc := 108) (v := nI 1) E.1.1 E.1.2.1 d_L_law_108 (by decide) ?_
  refine n_iadd 109 E.1 d_L_law_109 ?_
  refine A_ld 110 E w d_L_law_110 (by omega) ?_
  refine kl_aload_n 111 E.1 d_L_law_111 hl rfl ?_
  refine kl_iload 112 E.1 d_L_law_112 hl rfl ?_
  refine lv_iconst (pc := 114) (v := nI 2) E.1.1 E.1.2.1 d_L_law_114 (by decide) ?_
  refine n_iadd 115 E.1 d_L_law_115 ?_
  refine A_ld 116 E w d_L_law_116 (by omega) ?_
  refine kl_aload_n 117 E.1 d_L_law_117 hl rfl ?_
  refine kl_iload 118 E.1 d_L_law_118 hl rfl ?_
  refine lv_iconst (pc := 120) (v := nI 3) E.1.1 E.1.2.1 d_L_law_120 (by decide) ?_
  refine n_iadd 121 E.1 d_L_law_121 ?_
  refine A_ld 122 E w d_L_law_122 (by omega) ?_
  refine kl_aload_n 123 E.1 d_L_law_123 hl rfl ?_
  refine A_cs (na := 5) 124 E w (c_L_add l hfl D cI cJ q qo f G g (show len + 3 ≤ 4000 by omega) hI.1.2.1) rfl tw_85 tw_83 tw_84 (by decide +kernel) ⟨by decide, by decide⟩ hf (kl_sz hl) rfl rfl (Nat.le_of_ble_eq_true rfl) d_L_law_124 (fun r f' G' g' H locs hp w => ?_)
  refine kl_istore 127 E.1 d_L_law_127 hl (Nat.le_of_ble_eq_true rfl) (fun ls hl => ?_)
  refine kl_aload_n 129 E.1 d_L_law_129 hl rfl ?_
  refine kl_aload_n 130 E.1 d_L_law_130 hl rfl ?_
  refine kl_iload 131 E.1 d_L_law_131 hl rfl ?_
  refine lv_iconst (pc := 133) (v := nI 1) E.1.1 E.1.2.1 d_L_law_133 (by decide) ?_
  refine n_iadd 134 E.1 d_L_law_134 ?_
  refine A_ld 135 E w d_L_law_135 (by omega) ?_
  refine kl_aload_n 136 E.1 d_L_law_136 hl rfl ?_
  refine kl_iload 137 E.1 d_L_law_137 hl rfl ?_
  refine lv_iconst (pc := 139) (v := nI 2) E.1.1 E.1.2.1 d_L_law_139 (by decide) ?_
  refine n_iadd 140 E.1 d_L_law_140 ?_
  refine A_ld 141 E w d_L_law_141 (by omega) ?_
  refine kl_aload_n 142 E.1 d_L_law_142 hl rfl ?_
  refine kl_iload 143 E.1 d_L_law_143 hl rfl ?_
  refine lv_iconst (pc := 145) (v := nI 3) E.1.1 E.1.2.1 d_L_law_145 (by decide) ?_
  refine n_iadd 146 E.1 d_L_law_146 ?_
  refine A_ld 147 E w d_L_law_147 (by omega) ?_
  refine A_cm 148 E w (j_add l D cM qm hI (show len + 3 ≤ 4000 by omega) hp) (cv_L_M_add E.1.2.2.2 rfl rfl ⟨by decide, by decide⟩) hf (kl_sz hl) rfl rfl (Nat.le_of_ble_eq_true rfl) d_L_law_148 (fun r2 fm' Gm' H locs hq w => ?_)
  refine kl_istore 151 E.1 d_L_law_151 hl (Nat.le_of_ble_eq_true rfl) (fun ls hl => ?_)
  refine kl_aload_n 153 E.1 d_L_law_153 hl rfl ?_
  refine A_cm 154 E w (c_Mthrown l D cM qm fm' Gm') (cv_L_M_thrown E.1.2.2.2 rfl rfl ⟨by decide, by decide⟩) hf (kl_sz hl) rfl rfl (Nat.le_of_ble_eq_true rfl) d_L_law_154 (fun r3 f3 G3 H locs h3 w => ?_)
  obtain ⟨e3, e4, e5⟩ := h3
  rw [e4, e5] at w
  obtain ⟨hq1, hq2, hq3⟩ := hq
  refine kl_iload 157 E.1 d_L_law_157 hl rfl ?_
  refine lv_icmp_eq (pc := 159) (tgt := 164) E.1.1 E.1.2.1 d_L_law_159 rfl (fun _ => ?_) (fun h => absurd (e3.trans hq1) h)
  refine kl_iload 164 E.1 d_L_law_164 hl rfl ?_
  refine lv_if_ne (pc := 166) (tgt := 181) E.1.1 E.1.2.1 d_L_law_166 rfl (fun _ => ?_) (fun h0 => ?_)
  · refine lv_goto (pc := 181) (tgt := 914) E.1.1 E.1.2.1 d_L_law_181 rfl ?_
    exact K _ _ _ _ _ _ _ _ _ _ hq3 w hl
  · refine kl_aload_n 169 E.1 d_L_law_169 hl rfl ?_
    refine lv_iconst (pc := 170) (v := nI 0) E.1.1 E.1.2.1 d_L_law_170 (by decide) ?_
    refine A_lald 171 E w d_L_law_171 ?_
    refine kl_iload 172 E.1 d_L_law_172 hl rfl ?_
    refine lv_i2l (pc := 174) E.1.1 E.1.2.1 d_L_law_174 rfl ?_
    refine W.lcmp (pc := 175) E.1.1 E.1.2.1 d_L_law_175 ?_
    refine lv_if_eq (pc := 176) (tgt := 181) E.1.1 E.1.2.1 d_L_law_176 rfl (fun _ => ?_) (fun h => absurd ((lg_cmp_eq _ _).mpr (hq2 h0)) h)
    refine lv_goto (pc := 181) (tgt := 914) E.1.1 E.1.2.1 d_L_law_181 rfl ?_
    exact K _ _ _ _ _ _ _ _ _ _ hq3 w hl
theorem law_cut (hfl : l.flags = flags0) (E : kx_W p s m args c meth A b L xs) (hI : kI k f G fm Gm) (w : kx_A D cI cM cJ A q qm qo f G fm Gm g s H locs) (hl : kl ls [some (.ref b), some (.ref (q 0)), some (.ref (qm 0)), some (.ref qo), some (.int (nI (4 * k))), o5, o6]) (h4 : 4 * k + 4 ≤ L) (hk : k ≤ 512) (hf : cells + 1 ≤ room_1.cells ∧ slots + 6 ≤ room_1.slots) (K : kK p l e s m args below meth c Q D cI cM cJ A q qm qo b k cells slots) : W p l e room_1 s m args below meth c H locs cells slots Q (F0 m 184 ls []) := by
  obtain ⟨len, n, F, ro, A0, hI⟩ := hI
  have hlen := hI.1.1
  refine kl_aload_n 184 E.1 d_L_law_184 hl rfl ?_
  refine kl_aload_n 185 E.1 d_L_law_185 hl rfl ?_
  refine kl_iload 186 E.1 d_L_law_186 hl rfl ?_
  refine lv_iconst (pc := 188) (v := nI 1) E.1.1 E.1.2.1 d_L_law_188 (by decide) ?_
  refine n_iadd 189 E.1 d_L_law_189 ?_
  refine A_ld 190 E w d_L_law_190 (by omega) ?_
  refine kl_aload_n 191 E.1 d_L_law_191 hl rfl ?_
  refine A_cs (na := 3) 192 E w (c_L_cut l hfl D cI cJ q qo f G g (show len ≤ 4000 by omega) hI.1.2.1 (uv_lt _)) rfl tw_156 tw_154 tw_155 (by decide +kernel) ⟨by decide, by decide⟩ hf (kl_sz hl) rfl rfl (Nat.le_of_ble_eq_true rfl) d_L_law_192 (fun r f' G' g' H locs hp w => ?_)
  refine kl_istore 195 E.1 d_L_law_195 hl (Nat.le_of_ble_eq_true rfl) (fun ls hl => ?_)
  refine kl_aload_n 197 E.1 d_L_law_197 hl rfl ?_
  refine kl_aload_n 198 E.1 d_L_law_198 hl rfl ?_
  refine kl_iload 199 E.1 d_L_law_199 hl rfl ?_
  refine lv_iconst (pc := 201) (v := nI 1) E.1.1 E.1.2.1 d_L_law_201 (by decide) ?_
  refine n_iadd 202 E.1 d_L_law_202 ?_
  refine A_ld 203 E w d_L_law_203 (by omega) ?_
  refine A_cm 204 E w (j_cut l D cM qm hI (uv_lt _) (show len ≤ 4000 by omega) hp) (cv_L_M_cut E.1.2.2.2 rfl rfl ⟨by decide, by decide⟩) hf (kl_sz hl) rfl rfl (Nat.le_of_ble_eq_true rfl) d_L_law_204 (fun r2 fm' Gm' H locs hq w => ?_)
  refine kl_istore 207 E.1 d_L_law_207 hl (Nat.le_of_ble_eq_true rfl) (fun ls hl => ?_)
  refine kl_aload_n 209 E.1 d_L_law_209 hl rfl ?_
  refine A_cm 210 E w (c_Mthrown l D cM qm fm' Gm') (cv_L_M_thrown E.1.2.2.2 rfl rfl ⟨by decide, by decide⟩) hf (kl_sz hl) rfl rfl (Nat.le_of_ble_eq_true rfl) d_L_law_210 (fun r3 f3 G3 H locs h3 w => ?_)
  obtain ⟨e3, e4, e5⟩ := h3
  rw [e4, e5] at w
  obtain ⟨hq1, hq2, hq3⟩ := hq
  refine kl_iload 213 E.1 d_L_law_213 hl rfl ?_
  refine lv_icmp_eq (pc := 215) (tgt := 220) E.1.1 E.1.2.1 d_L_law_215 rfl (fun _ => ?_) (fun h => absurd (e3.trans hq1) h)
  refine kl_iload 220 E.1 d_L_law_220 hl rfl ?_
  refine lv_if_ne (pc := 222) (tgt := 237) E.1.1 E.1.2.1 d_L_law_222 rfl (fun _ => ?_) (fun h0 => ?_)
  · refine lv_goto (pc := 237) (tgt := 914) E.1.1 E.1.2.1 d_L_law_237 rfl ?_
    exact K _ _ _ _ _ _ _ _ _ _ hq3 w hl
  · refine kl_aload_n 225 E.1 d_L_law_225 hl rfl ?_
    refine lv_iconst (pc := 226) (v := nI 0) E.1.1 E.1.2.1 d_L_law_226 (by decide) ?_
    refine A_lald 227 E w d_L_law_227 ?_
    refine kl_iload 228 E.1 d_L_law_228 hl rfl ?_
    refine lv_i2l (pc := 230) E.1.1 E.1.2.1 d_L_law_230 rfl ?_
    refine W.lcmp (pc := 231) E.1.1 E.1.2.1 d_L_law_231 ?_
    refine lv_if_eq (pc := 232) (tgt := 237) E.1.1 E.1.2.1 d_L_law_232 rfl (fun _ => ?_) (fun h => absurd ((lg_cmp_eq _ _).mpr (hq2 h0)) h)
    refine lv_goto (pc := 237) (tgt := 914) E.1.1 E.1.2.1 d_L_law_237 rfl ?_
    exact K _ _ _ _ _ _ _ _ _ _ hq3 w hl
theorem law_build (hfl : l.flags = flags0) (E : kx_W p s m args c meth A b L xs) (hI : kI k f G fm Gm) (w : kx_A D cI cM cJ A q qm qo f G fm Gm g s H locs) (hl : kl ls [some (.ref b), some (.ref (q 0)), some (.ref (qm 0)), some (.ref qo), some (.int (nI (4 * k))), o5, o6]) (h4 : 4 * k + 4 ≤ L) (hk : k ≤ 512) (hf : cells + 1 ≤ room_1.cells ∧ slots + 6 ≤ room_1.slots) (K : kK p l e s m args below meth c Q D cI cM cJ A q qm qo b k cells slots) : W p l e room_1 s m args below meth c H locs cells slots Q (F0 m 240 ls []) := by
  obtain ⟨len, n, F, ro, A0, hI⟩ := hI
  have hlen := hI.1.1
  refine kl_aload_n 240 E.1 d_L_law_240 hl rfl ?_
  refine A_ct 241 E w (c_build l D cI q f G (show len ≤ 4000 by omega) hI.1.2.1 ro (fun j hj => ⟨(hI.1.2.2.2 j hj).2.1, (hI.1.2.2.2 j hj).1⟩)) (cv_L_T_build E.1.2.2.2 rfl rfl ⟨by decide, by decide⟩) ⟨by omega, by omega⟩ (kl_sz hl) rfl rfl (Nat.le_of_ble_eq_true rfl) d_L_law_241 (fun r f' G' H locs hp w => ?_)
  refine kl_aload_n 244 E.1 d_L_law_244 hl rfl ?_
  refine A_cm 245 E w (j_build l D cM qm hI (show len ≤ 4000 by omega) hp) (cv_L_M_build E.1.2.2.2 rfl rfl ⟨by decide, by decide⟩) ⟨by omega, by omega⟩ (kl_sz hl) rfl rfl (Nat.le_of_ble_eq_true rfl) d_L_law_245 (fun r2 fm' Gm' H locs hq w => ?_)
  refine lv_icmp_eq (pc := 248) (tgt := 914) E.1.1 E.1.2.1 d_L_law_248 rfl (fun _ => ?_) (fun h => absurd hq.1.symm h)
  exact W.widen (Nat.le_add_right _ _) (Nat.le_add_right _ _) (K _ _ _ _ _ _ _ _ _ _ hq.2 w hl)
theorem law_at (hfl : l.flags = flags0) (E : kx_W p s m args c meth A b L xs) (hI : kI k f G fm Gm) (w : kx_A D cI cM cJ A q qm qo f G fm Gm g s H locs) (hl : kl ls [some (.ref b), some (.ref (q 0)), some (.ref (qm 0)), some (.ref qo), some (.int (nI (4 * k))), o5, o6]) (h4 : 4 * k + 4 ≤ L) (hk : k ≤ 512) (hf : cells + 1 ≤ room_1.cells ∧ slots + 6 ≤ room_1.slots) (K : kK p l e s m args below meth c Q D cI cM cJ A q qm qo b k cells slots) : W p l e room_1 s m args below meth c H locs cells slots Q (F0 m 253 ls []) := by
  obtain ⟨len, n, F, ro, A0, hI⟩ := hI
  have hlen := hI.1.1
  refine kl_aload_n 253 E.1 d_L_law_253 hl rfl ?_
  refine kl_aload_n 254 E.1 d_L_law_254 hl rfl ?_
  refine kl_iload 255 E.1 d_L_law_255 hl rfl ?_
  refine lv_iconst (pc := 257) (v := nI 1) E.1.1 E.1.2.1 d_L_law_257 (by decide) ?_
  refine n_iadd 258 E.1 d_L_law_258 ?_
  refine A_ld 259 E w d_L_law_259 (by omega) ?_
  refine kl_aload_n 260 E.1 d_L_law_260 hl rfl ?_
  refine A_cs (na := 3) 261 E w (c_L_at l hfl D cI cJ q qo f G g hI.2.1 (uv_lt _)) rfl tw_179 tw_177 tw_178 (by decide +kernel) ⟨by decide, by decide⟩ hf (kl_sz hl) rfl rfl (Nat.le_of_ble_eq_true rfl) d_L_law_261 (fun r f' G' g' H locs hp w => ?_)
  refine kl_istore 264 E.1 d_L_law_264 hl (Nat.le_of_ble_eq_true rfl) (fun ls hl => ?_)
  refine kl_aload_n 266 E.1 d_L_law_266 hl rfl ?_
  refine kl_aload_n 267 E.1 d_L_law_267 hl rfl ?_
  refine kl_iload 268 E.1 d_L_law_268 hl rfl ?_
  refine lv_iconst (pc := 270) (v := nI 1) E.1.1 E.1.2.1 d_L_law_270 (by decide) ?_
  refine n_iadd 271 E.1 d_L_law_271 ?_
  refine A_ld 272 E w d_L_law_272 (by omega) ?_
  refine A_cm 273 E w (j_at l D cM qm hI (uv_lt _) hp) (cv_L_M_at E.1.2.2.2 rfl rfl ⟨by decide, by decide⟩) hf (kl_sz hl) rfl rfl (Nat.le_of_ble_eq_true rfl) d_L_law_273 (fun r2 fm' Gm' H locs hq w => ?_)
  refine kl_istore 276 E.1 d_L_law_276 hl (Nat.le_of_ble_eq_true rfl) (fun ls hl => ?_)
  refine kl_aload_n 278 E.1 d_L_law_278 hl rfl ?_
  refine A_cm 279 E w (c_Mthrown l D cM qm fm' Gm') (cv_L_M_thrown E.1.2.2.2 rfl rfl ⟨by decide, by decide⟩) hf (kl_sz hl) rfl rfl (Nat.le_of_ble_eq_true rfl) d_L_law_279 (fun r3 f3 G3 H locs h3 w => ?_)
  obtain ⟨e3, e4, e5⟩ := h3
  rw [e4, e5] at w
  obtain ⟨hq1, hq2, hq3⟩ := hq
  refine kl_iload 282 E.1 d_L_law_282 hl rfl ?_
  refine lv_icmp_eq (pc := 284) (tgt := 289) E.1.1 E.1.2.1 d_L_law_284 rfl (fun _ => ?_) (fun h => absurd (e3.trans hq1) h)
  refine kl_iload 289 E.1 d_L_law_289 hl rfl ?_
  refine lv_if_ne (pc := 291) (tgt := 306) E.1.1 E.1.2.1 d_L_law_291 rfl (fun _ => ?_) (fun h0 => ?_)
  · refine lv_goto (pc := 306) (tgt := 914) E.1.1 E.1.2.1 d_L_law_306 rfl ?_
    exact K _ _ _ _ _ _ _ _ _ _ hq3 w hl
  · refine kl_aload_n 294 E.1 d_L_law_294 hl rfl ?_
    refine lv_iconst (pc := 295) (v := nI 0) E.1.1 E.1.2.1 d_L_law_295 (by decide) ?_
    refine A_lald 296 E w d_L_law_296 ?_
    refine kl_iload 297 E.1 d_L_law_297 hl rfl ?_
    refine lv_i2l (pc := 299) E.1.1 E.1.2.1 d_L_law_299 rfl ?_
    refine W.lcmp (pc := 300) E.1.1 E.1.2.1 d_L_law_300 ?_
    refine lv_if_eq (pc := 301) (tgt := 306) E.1.1 E.1.2.1 d_L_law_301 rfl (fun _ => ?_) (fun h => absurd ((lg_cmp_eq _ _).mpr (hq2 h0)) h)
    refine lv_goto (pc := 306) (tgt := 914) E.1.1 E.1.2.1 d_L_law_306 rfl ?_
    exact K _ _ _ _ _ _ _ _ _ _ hq3 w hl
theorem law_often (hfl : l.flags = flags0) (E : kx_W p s m args c meth A b L xs) (hI : kI k f G fm Gm) (w : kx_A D cI cM cJ A q qm qo f G fm Gm g s H locs) (hl : kl ls [some (.ref b), some (.ref (q 0)), some (.ref (qm 0)), some (.ref qo), some (.int (nI (4 * k))), o5, o6]) (h4 : 4 * k + 4 ≤ L) (hk : k ≤ 512) (hf : cells + 1 ≤ room_1.cells ∧ slots + 6 ≤ room_1.slots) (K : kK p l e s m args below meth c Q D cI cM cJ A q qm qo b k cells slots) : W p l e room_1 s m args below meth c H locs cells slots Q (F0 m 309 ls []) := by
  obtain ⟨len, n, F, ro, A0, hI⟩ := hI
  have hlen := hI.1.1
  refine kl_aload_n 309 E.1 d_L_law_309 hl rfl ?_
  refine kl_aload_n 310 E.1 d_L_law_310 hl rfl ?_
  refine kl_iload 311 E.1 d_L_law_311 hl rfl ?_
  refine lv_iconst (pc := 313) (v := nI 1) E.1.1 E.1.2.1 d_L_law_313 (by decide) ?_
  refine n_iadd 314 E.1 d_L_law_314 ?_
  refine A_ld 315 E w d_L_law_315 (by omega) ?_
  refine kl_aload_n 316 E.1 d_L_law_316 hl rfl ?_
  refine kl_iload 317 E.1 d_L_law_317 hl rfl ?_
  refine lv_iconst (pc := 319) (v := nI 2) E.1.1 E.1.2.1 d_L_law_319 (by decide) ?_
  refine n_iadd 320 E.1 d_L_law_320 ?_
  refine A_ld 321 E w d_L_law_321 (by omega) ?_
  refine kl_aload_n 322 E.1 d_L_law_322 hl rfl ?_
  refine kl_iload 323 E.1 d_L_law_323 hl rfl ?_
  refine lv_iconst (pc := 325) (v := nI 3) E.1.1 E.1.2.1 d_L_law_325 (by decide) ?_
  refine n_iadd 326 E.1 d_L_law_326 ?_
  refine A_ld 327 E w d_L_law_327 (by omega) ?_
  refine kl_aload_n 328 E.1 d_L_law_328 hl rfl ?_
  refine A_cs (na := 5) 329 E w (c_L_often l hfl D cI cJ q qo f G g hI.2.1 (uv_lt _) (uv_lt _) (uv_lt _)) rfl tw_210 tw_208 tw_209 (by decide +kernel) ⟨by decide, by decide⟩ hf (kl_sz hl) rfl rfl (Nat.le_of_ble_eq_true rfl) d_L_law_329 (fun r f' G' g' H locs hp w => ?_)
  refine kl_istore 332 E.1 d_L_law_332 hl (Nat.le_of_ble_eq_true rfl) (fun ls hl => ?_)
  refine kl_aload_n 334 E.1 d_L_law_334 hl rfl ?_
  refine kl_aload_n 335 E.1 d_L_law_335 hl rfl ?_
  refine kl_iload 336 E.1 d_L_law_336 hl rfl ?_
  refine lv_iconst (pc := 338) (v := nI 1) E.1.1 E.1.2.1 d_L_law_338 (by decide) ?_
  refine n_iadd 339 E.1 d_L_law_339 ?_
  refine A_ld 340 E w d_L_law_340 (by omega) ?_
  refine kl_aload_n 341 E.1 d_L_law_341 hl rfl ?_
  refine kl_iload 342 E.1 d_L_law_342 hl rfl ?_
  refine lv_iconst (pc := 344) (v := nI 2) E.1.1 E.1.2.1 d_L_law_344 (by decide) ?_
  refine n_iadd 345 E.1 d_L_law_345 ?_
  refine A_ld 346 E w d_L_law_346 (by omega) ?_
  refine kl_aload_n 347 E.1 d_L_law_347 hl rfl ?_
  refine kl_iload 348 E.1 d_L_law_348 hl rfl ?_
  refine lv_iconst (pc := 350) (v := nI 3) E.1.1 E.1.2.1 d_L_law_350 (by decide) ?_
  refine n_iadd 351 E.1 d_L_law_351 ?_
  refine A_ld 352 E w d_L_law_352 (by omega) ?_
  refine A_cm 353 E w (j_often l D cM qm hI (uv_lt _) (uv_lt _) (uv_lt _) hp) (cv_L_M_often E.1.2.2.2 rfl rfl ⟨by decide, by decide⟩) hf (kl_sz hl) rfl rfl (Nat.le_of_ble_eq_true rfl) d_L_law_353 (fun r2 fm' Gm' H locs hq w => ?_)
  refine kl_istore 356 E.1 d_L_law_356 hl (Nat.le_of_ble_eq_true rfl) (fun ls hl => ?_)
  refine kl_aload_n 358 E.1 d_L_law_358 hl rfl ?_
  refine A_cm 359 E w (c_Mthrown l D cM qm fm' Gm') (cv_L_M_thrown E.1.2.2.2 rfl rfl ⟨by decide, by decide⟩) hf (kl_sz hl) rfl rfl (Nat.le_of_ble_eq_true rfl) d_L_law_359 (fun r3 f3 G3 H locs h3 w => ?_)
  obtain ⟨e3, e4, e5⟩ := h3
  rw [e4, e5] at w
  obtain ⟨hq1, hq2, hq3⟩ := hq
  refine kl_iload 362 E.1 d_L_law_362 hl rfl ?_
  refine lv_icmp_eq (pc := 364) (tgt := 369) E.1.1 E.1.2.1 d_L_law_364 rfl (fun _ => ?_) (fun h => absurd (e3.trans hq1) h)
  refine kl_iload 369 E.1 d_L_law_369 hl rfl ?_
  refine lv_if_ne (pc := 371) (tgt := 386) E.1.1 E.1.2.1 d_L_law_371 rfl (fun _ => ?_) (fun h0 => ?_)
  · refine lv_goto (pc := 386) (tgt := 914) E.1.1 E.1.2.1 d_L_law_386 rfl ?_
    exact K _ _ _ _ _ _ _ _ _ _ hq3 w hl
  · refine kl_aload_n 374 E.1 d_L_law_374 hl rfl ?_
    refine lv_iconst (pc := 375) (v := nI 0) E.1.1 E.1.2.1 d_L_law_375 (by decide) ?_
    refine A_lald 376 E w d_L_law_376 ?_
    refine kl_iload 377 E.1 d_L_law_377 hl rfl ?_
    refine lv_i2l (pc := 379) E.1.1 E.1.2.1 d_L_law_379 rfl ?_
    refine W.lcmp (pc := 380) E.1.1 E.1.2.1 d_L_law_380 ?_
    refine lv_if_eq (pc := 381) (tgt := 386) E.1.1 E.1.2.1 d_L_law_381 rfl (fun _ => ?_) (fun h => absurd ((lg_cmp_eq _ _).mpr (hq2 h0)) h)
    refine lv_goto (pc := 386) (tgt := 914) E.1.1 E.1.2.1 d_L_law_386 rfl ?_
    exact K _ _ _ _ _ _ _ _ _ _ hq3 w hl
theorem law_place (hfl : l.flags = flags0) (E : kx_W p s m args c meth A b L xs) (hI : kI k f G fm Gm) (w : kx_A D cI cM cJ A q qm qo f G fm Gm g s H locs) (hl : kl ls [some (.ref b), some (.ref (q 0)), some (.ref (qm 0)), some (.ref qo), some (.int (nI (4 * k))), o5, o6]) (h4 : 4 * k + 4 ≤ L) (hk : k ≤ 512) (hf : cells + 1 ≤ room_1.cells ∧ slots + 6 ≤ room_1.slots) (K : kK p l e s m args below meth c Q D cI cM cJ A q qm qo b k cells slots) : W p l e room_1 s m args below meth c H locs cells slots Q (F0 m 389 ls []) := by
  obtain ⟨len, n, F, ro, A0, hI⟩ := hI
  have hlen := hI.1.1
  refine kl_aload_n 389 E.1 d_L_law_389 hl rfl ?_
  refine kl_aload_n 390 E.1 d_L_law_390 hl rfl ?_
  refine kl_iload 391 E.1 d_L_law_391 hl rfl ?_
  refine lv_iconst (pc := 393) (v := nI 1) E.1.1 E.1.2.1 d_L_law_393 (by decide) ?_
  refine n_iadd 394 E.1 d_L_law_394 ?_
  refine A_ld 395 E w d_L_law_395 (by omega) ?_
  refine kl_aload_n 396 E.1 d_L_law_396 hl rfl ?_
  refine kl_iload 397 E.1 d_L_law_397 hl rfl ?_
  refine lv_iconst (pc := 399) (v := nI 2) E.1.1 E.1.2.1 d_L_law_399 (by decide) ?_
  refine n_iadd 400 E.1 d_L_law_400 ?_
  refine A_ld 401 E w d_L_law_401 (by omega) ?_
  refine kl_aload_n 402 E.1 d_L_law_402 hl rfl ?_
  refine A_cs (na := 4) 403 E w (c_L_place l hfl D cI cJ q qo f G g hI.2.1 (uv_lt _) (uv_lt _)) rfl tw_228 tw_226 tw_227 (by decide +kernel) ⟨by decide, by decide⟩ hf (kl_sz hl) rfl rfl (Nat.le_of_ble_eq_true rfl) d_L_law_403 (fun r f' G' g' H locs hp w => ?_)
  refine kl_istore 406 E.1 d_L_law_406 hl (Nat.le_of_ble_eq_true rfl) (fun ls hl => ?_)
  refine kl_aload_n 408 E.1 d_L_law_408 hl rfl ?_
  refine kl_aload_n 409 E.1 d_L_law_409 hl rfl ?_
  refine kl_iload 410 E.1 d_L_law_410 hl rfl ?_
  refine lv_iconst (pc := 412) (v := nI 1) E.1.1 E.1.2.1 d_L_law_412 (by decide) ?_
  refine n_iadd 413 E.1 d_L_law_413 ?_
  refine A_ld 414 E w d_L_law_414 (by omega) ?_
  refine kl_aload_n 415 E.1 d_L_law_415 hl rfl ?_
  refine kl_iload 416 E.1 d_L_law_416 hl rfl ?_
  refine lv_iconst (pc := 418) (v := nI 2) E.1.1 E.1.2.1 d_L_law_418 (by decide) ?_
  refine n_iadd 419 E.1 d_L_law_419 ?_
  refine A_ld 420 E w d_L_law_420 (by omega) ?_
  refine A_cm 421 E w (j_place l D cM qm hI (uv_lt _) (uv_lt _) hp) (cv_L_M_place E.1.2.2.2 rfl rfl ⟨by decide, by decide⟩) hf (kl_sz hl) rfl rfl (Nat.le_of_ble_eq_true rfl) d_L_law_421 (fun r2 fm' Gm' H locs hq w => ?_)
  refine kl_istore 424 E.1 d_L_law_424 hl (Nat.le_of_ble_eq_true rfl) (fun ls hl => ?_)
  refine kl_aload_n 426 E.1 d_L_law_426 hl rfl ?_
  refine A_cm 427 E w (c_Mthrown l D cM qm fm' Gm') (cv_L_M_thrown E.1.2.2.2 rfl rfl ⟨by decide, by decide⟩) hf (kl_sz hl) rfl rfl (Nat.le_of_ble_eq_true rfl) d_L_law_427 (fun r3 f3 G3 H locs h3 w => ?_)
  obtain ⟨e3, e4, e5⟩ := h3
  rw [e4, e5] at w
  obtain ⟨hq1, hq2, hq3⟩ := hq
  refine kl_iload 430 E.1 d_L_law_430 hl rfl ?_
  refine lv_icmp_eq (pc := 432) (tgt := 437) E.1.1 E.1.2.1 d_L_law_432 rfl (fun _ => ?_) (fun h => absurd (e3.trans hq1) h)
  refine kl_iload 437 E.1 d_L_law_437 hl rfl ?_
  refine lv_if_ne (pc := 439) (tgt := 454) E.1.1 E.1.2.1 d_L_law_439 rfl (fun _ => ?_) (fun h0 => ?_)
  · refine lv_goto (pc := 454) (tgt := 914) E.1.1 E.1.2.1 d_L_law_454 rfl ?_
    exact K _ _ _ _ _ _ _ _ _ _ hq3 w hl
  · refine kl_aload_n 442 E.1 d_L_law_442 hl rfl ?_
    refine lv_iconst (pc := 443) (v := nI 0) E.1.1 E.1.2.1 d_L_law_443 (by decide) ?_
    refine A_lald 444 E w d_L_law_444 ?_
    refine kl_iload 445 E.1 d_L_law_445 hl rfl ?_
    refine lv_i2l (pc := 447) E.1.1 E.1.2.1 d_L_law_447 rfl ?_
    refine W.lcmp (pc := 448) E.1.1 E.1.2.1 d_L_law_448 ?_
    refine lv_if_eq (pc := 449) (tgt := 454) E.1.1 E.1.2.1 d_L_law_449 rfl (fun _ => ?_) (fun h => absurd ((lg_cmp_eq _ _).mpr (hq2 h0)) h)
    refine lv_goto (pc := 454) (tgt := 914) E.1.1 E.1.2.1 d_L_law_454 rfl ?_
    exact K _ _ _ _ _ _ _ _ _ _ hq3 w hl
theorem law_least (hfl : l.flags = flags0) (E : kx_W p s m args c meth A b L xs) (hI : kI k f G fm Gm) (w : kx_A D cI cM cJ A q qm qo f G fm Gm g s H locs) (hl : kl ls [some (.ref b), some (.ref (q 0)), some (.ref (qm 0)), some (.ref qo), some (.int (nI (4 * k))), o5, o6]) (h4 : 4 * k + 4 ≤ L) (hk : k ≤ 512) (hf : cells + 1 ≤ room_1.cells ∧ slots + 6 ≤ room_1.slots) (K : kK p l e s m args below meth c Q D cI cM cJ A q qm qo b k cells slots) : W p l e room_1 s m args below meth c H locs cells slots Q (F0 m 457 ls []) := by
  obtain ⟨len, n, F, ro, A0, hI⟩ := hI
  have hlen := hI.1.1
  refine kl_aload_n 457 E.1 d_L_law_457 hl rfl ?_
  refine kl_aload_n 458 E.1 d_L_law_458 hl rfl ?_
  refine kl_iload 459 E.1 d_L_law_459 hl rfl ?_
  refine lv_iconst (pc := 461) (v := nI 1) E.1.1 E.1.2.1 d_L_law_461 (by decide) ?_
  refine n_iadd 462 E.1 d_L_law_462 ?_
  refine A_ld 463 E w d_L_law_463 (by omega) ?_
  refine kl_aload_n 464 E.1 d_L_law_464 hl rfl ?_
  refine kl_iload 465 E.1 d_L_law_465 hl rfl ?_
  refine lv_iconst (pc := 467) (v := nI 2) E.1.1 E.1.2.1 d_L_law_467 (by decide) ?_
  refine n_iadd 468 E.1 d_L_law_468 ?_
  refine A_ld 469 E w d_L_law_469 (by omega) ?_
  refine kl_aload_n 470 E.1 d_L_law_470 hl rfl ?_
  refine kl_iload 471 E.1 d_L_law_471 hl rfl ?_
  refine lv_iconst (pc := 473) (v := nI 3) E.1.1 E.1.2.1 d_L_law_473 (by decide) ?_
  refine n_iadd 474 E.1 d_L_law_474 ?_
  refine A_ld 475 E w d_L_law_475 (by omega) ?_
  refine kl_aload_n 476 E.1 d_L_law_476 hl rfl ?_
  refine A_cs (na := 5) 477 E w (c_L_least l hfl D cI cJ q qo f G g hI.2.1 (uv_lt _) (uv_lt _) (uv_lt _)) rfl tw_240 tw_238 tw_239 (by decide +kernel) ⟨by decide, by decide⟩ hf (kl_sz hl) rfl rfl (Nat.le_of_ble_eq_true rfl) d_L_law_477 (fun r f' G' g' H locs hp w => ?_)
  refine kl_istore 480 E.1 d_L_law_480 hl (Nat.le_of_ble_eq_true rfl) (fun ls hl => ?_)
  refine kl_aload_n 482 E.1 d_L_law_482 hl rfl ?_
  refine kl_aload_n 483 E.1 d_L_law_483 hl rfl ?_
  refine kl_iload 484 E.1 d_L_law_484 hl rfl ?_
  refine lv_iconst (pc := 486) (v := nI 1) E.1.1 E.1.2.1 d_L_law_486 (by decide) ?_
  refine n_iadd 487 E.1 d_L_law_487 ?_
  refine A_ld 488 E w d_L_law_488 (by omega) ?_
  refine kl_aload_n 489 E.1 d_L_law_489 hl rfl ?_
  refine kl_iload 490 E.1 d_L_law_490 hl rfl ?_
  refine lv_iconst (pc := 492) (v := nI 2) E.1.1 E.1.2.1 d_L_law_492 (by decide) ?_
  refine n_iadd 493 E.1 d_L_law_493 ?_
  refine A_ld 494 E w d_L_law_494 (by omega) ?_
  refine kl_aload_n 495 E.1 d_L_law_495 hl rfl ?_
  refine kl_iload 496 E.1 d_L_law_496 hl rfl ?_
  refine lv_iconst (pc := 498) (v := nI 3) E.1.1 E.1.2.1 d_L_law_498 (by decide) ?_
  refine n_iadd 499 E.1 d_L_law_499 ?_
  refine A_ld 500 E w d_L_law_500 (by omega) ?_
  refine A_cm 501 E w (j_least l D cM qm hI (uv_lt _) (uv_lt _) (uv_lt _) hp) (cv_L_M_least E.1.2.2.2 rfl rfl ⟨by decide, by decide⟩) hf (kl_sz hl) rfl rfl (Nat.le_of_ble_eq_true rfl) d_L_law_501 (fun r2 fm' Gm' H locs hq w => ?_)
  refine kl_istore 504 E.1 d_L_law_504 hl (Nat.le_of_ble_eq_true rfl) (fun ls hl => ?_)
  refine kl_aload_n 506 E.1 d_L_law_506 hl rfl ?_
  refine A_cm 507 E w (c_Mthrown l D cM qm fm' Gm') (cv_L_M_thrown E.1.2.2.2 rfl rfl ⟨by decide, by decide⟩) hf (kl_sz hl) rfl rfl (Nat.le_of_ble_eq_true rfl) d_L_law_507 (fun r3 f3 G3 H locs h3 w => ?_)
  obtain ⟨e3, e4, e5⟩ := h3
  rw [e4, e5] at w
  obtain ⟨hq1, hq2, hq3⟩ := hq
  refine kl_iload 510 E.1 d_L_law_510 hl rfl ?_
  refine lv_icmp_eq (pc := 512) (tgt := 517) E.1.1 E.1.2.1 d_L_law_512 rfl (fun _ => ?_) (fun h => absurd (e3.trans hq1) h)
  refine kl_iload 517 E.1 d_L_law_517 hl rfl ?_
  refine lv_if_ne (pc := 519) (tgt := 534) E.1.1 E.1.2.1 d_L_law_519 rfl (fun _ => ?_) (fun h0 => ?_)
  · refine lv_goto (pc := 534) (tgt := 914) E.1.1 E.1.2.1 d_L_law_534 rfl ?_
    exact K _ _ _ _ _ _ _ _ _ _ hq3 w hl
  · refine kl_aload_n 522 E.1 d_L_law_522 hl rfl ?_
    refine lv_iconst (pc := 523) (v := nI 0) E.1.1 E.1.2.1 d_L_law_523 (by decide) ?_
    refine A_lald 524 E w d_L_law_524 ?_
    refine kl_iload 525 E.1 d_L_law_525 hl rfl ?_
    refine lv_i2l (pc := 527) E.1.1 E.1.2.1 d_L_law_527 rfl ?_
    refine W.lcmp (pc := 528) E.1.1 E.1.2.1 d_L_law_528 ?_
    refine lv_if_eq (pc := 529) (tgt := 534) E.1.1 E.1.2.1 d_L_law_529 rfl (fun _ => ?_) (fun h => absurd ((lg_cmp_eq _ _).mpr (hq2 h0)) h)
    refine lv_goto (pc := 534) (tgt := 914) E.1.1 E.1.2.1 d_L_law_534 rfl ?_
    exact K _ _ _ _ _ _ _ _ _ _ hq3 w hl
theorem law_below (hfl : l.flags = flags0) (E : kx_W p s m args c meth A b L xs) (hI : kI k f G fm Gm) (w : kx_A D cI cM cJ A q qm qo f G fm Gm g s H locs) (hl : kl ls [some (.ref b), some (.ref (q 0)), some (.ref (qm 0)), some (.ref qo), some (.int (nI (4 * k))), o5, o6]) (h4 : 4 * k + 4 ≤ L) (hk : k ≤ 512) (hf : cells + 1 ≤ room_1.cells ∧ slots + 6 ≤ room_1.slots) (K : kK p l e s m args below meth c Q D cI cM cJ A q qm qo b k cells slots) : W p l e room_1 s m args below meth c H locs cells slots Q (F0 m 537 ls []) := by
  obtain ⟨len, n, F, ro, A0, hI⟩ := hI
  have hlen := hI.1.1
  refine kl_aload_n 537 E.1 d_L_law_537 hl rfl ?_
  refine kl_aload_n 538 E.1 d_L_law_538 hl rfl ?_
  refine kl_iload 539 E.1 d_L_law_539 hl rfl ?_
  refine lv_iconst (pc := 541) (v := nI 1) E.1.1 E.1.2.1 d_L_law_541 (by decide) ?_
  refine n_iadd 542 E.1 d_L_law_542 ?_
  refine A_ld 543 E w d_L_law_543 (by omega) ?_
  refine kl_aload_n 544 E.1 d_L_law_544 hl rfl ?_
  refine kl_iload 545 E.1 d_L_law_545 hl rfl ?_
  refine lv_iconst (pc := 547) (v := nI 2) E.1.1 E.1.2.1 d_L_law_547 (by decide) ?_
  refine n_iadd 548 E.1 d_L_law_548 ?_
  refine A_ld 549 E w d_L_law_549 (by omega) ?_
  refine kl_aload_n 550 E.1 d_L_law_550 hl rfl ?_
  refine kl_iload 551 E.1 d_L_law_551 hl rfl ?_
  refine lv_iconst (pc := 553) (v := nI 3) E.1.1 E.1.2.1 d_L_law_553 (by decide) ?_
  refine n_iadd 554 E.1 d_L_law_554 ?_
  refine A_ld 555 E w d_L_law_555 (by omega) ?_
  refine kl_aload_n 556 E.1 d_L_law_556 hl rfl ?_
  refine A_cs (na := 5) 557 E w (c_L_below l hfl D cI cJ q qo f G g hI.2.1 (uv_lt _) (uv_lt _) (uv_lt _)) rfl tw_251 tw_249 tw_250 (by decide +kernel) ⟨by decide, by decide⟩ hf (kl_sz hl) rfl rfl (Nat.le_of_ble_eq_true rfl) d_L_law_557 (fun r f' G' g' H locs hp w => ?_)
  refine kl_istore 560 E.1 d_L_law_560 hl (Nat.le_of_ble_eq_true rfl) (fun ls hl => ?_)
  refine kl_aload_n 562 E.1 d_L_law_562 hl rfl ?_
  refine kl_aload_n 563 E.1 d_L_law_563 hl rfl ?_
  refine kl_iload 564 E.1 d_L_law_564 hl rfl ?_
  refine lv_iconst (pc := 566) (v := nI 1) E.1.1 E.1.2.1 d_L_law_566 (by decide) ?_
  refine n_iadd 567 E.1 d_L_law_567 ?_
  refine A_ld 568 E w d_L_law_568 (by omega) ?_
  refine kl_aload_n 569 E.1 d_L_law_569 hl rfl ?_
  refine kl_iload 570 E.1 d_L_law_570 hl rfl ?_
  refine lv_iconst (pc := 572) (v := nI 2) E.1.1 E.1.2.1 d_L_law_572 (by decide) ?_
  refine n_iadd 573 E.1 d_L_law_573 ?_
  refine A_ld 574 E w d_L_law_574 (by omega) ?_
  refine kl_aload_n 575 E.1 d_L_law_575 hl rfl ?_
  refine kl_iload 576 E.1 d_L_law_576 hl rfl ?_
  refine lv_iconst (pc := 578) (v := nI 3) E.1.1 E.1.2.1 d_L_law_578 (by decide) ?_
  refine n_iadd 579 E.1 d_L_law_579 ?_
  refine A_ld 580 E w d_L_law_580 (by omega) ?_
  refine A_cm 581 E w (j_below l D cM qm hI (uv_lt _) (uv_lt _) (uv_lt _) hp) (cv_L_M_below E.1.2.2.2 rfl rfl ⟨by decide, by decide⟩) hf (kl_sz hl) rfl rfl (Nat.le_of_ble_eq_true rfl) d_L_law_581 (fun r2 fm' Gm' H locs hq w => ?_)
  refine kl_istore 584 E.1 d_L_law_584 hl (Nat.le_of_ble_eq_true rfl) (fun ls hl => ?_)
  refine kl_aload_n 586 E.1 d_L_law_586 hl rfl ?_
  refine A_cm 587 E w (c_Mthrown l D cM qm fm' Gm') (cv_L_M_thrown E.1.2.2.2 rfl rfl ⟨by decide, by decide⟩) hf (kl_sz hl) rfl rfl (Nat.le_of_ble_eq_true rfl) d_L_law_587 (fun r3 f3 G3 H locs h3 w => ?_)
  obtain ⟨e3, e4, e5⟩ := h3
  rw [e4, e5] at w
  obtain ⟨hq1, hq2, hq3⟩ := hq
  refine kl_iload 590 E.1 d_L_law_590 hl rfl ?_
  refine lv_icmp_eq (pc := 592) (tgt := 597) E.1.1 E.1.2.1 d_L_law_592 rfl (fun _ => ?_) (fun h => absurd (e3.trans hq1) h)
  refine kl_iload 597 E.1 d_L_law_597 hl rfl ?_
  refine lv_if_ne (pc := 599) (tgt := 614) E.1.1 E.1.2.1 d_L_law_599 rfl (fun _ => ?_) (fun h0 => ?_)
  · refine lv_goto (pc := 614) (tgt := 914) E.1.1 E.1.2.1 d_L_law_614 rfl ?_
    exact K _ _ _ _ _ _ _ _ _ _ hq3 w hl
  · refine kl_aload_n 602 E.1 d_L_law_602 hl rfl ?_
    refine lv_iconst (pc := 603) (v := nI 0) E.1.1 E.1.2.1 d_L_law_603 (by decide) ?_
    refine A_lald 604 E w d_L_law_604 ?_
    refine kl_iload 605 E.1 d_L_law_605 hl rfl ?_
    refine lv_i2l (pc := 607) E.1.1 E.1.2.1 d_L_law_607 rfl ?_
    refine W.lcmp (pc := 608) E.1.1 E.1.2.1 d_L_law_608 ?_
    refine lv_if_eq (pc := 609) (tgt := 614) E.1.1 E.1.2.1 d_L_law_609 rfl (fun _ => ?_) (fun h => absurd ((lg_cmp_eq _ _).mpr (hq2 h0)) h)
    refine lv_goto (pc := 614) (tgt := 914) E.1.1 E.1.2.1 d_L_law_614 rfl ?_
    exact K _ _ _ _ _ _ _ _ _ _ hq3 w hl
theorem law_different (hfl : l.flags = flags0) (E : kx_W p s m args c meth A b L xs) (hI : kI k f G fm Gm) (w : kx_A D cI cM cJ A q qm qo f G fm Gm g s H locs) (hl : kl ls [some (.ref b), some (.ref (q 0)), some (.ref (qm 0)), some (.ref qo), some (.int (nI (4 * k))), o5, o6]) (h4 : 4 * k + 4 ≤ L) (hk : k ≤ 512) (hf : cells + 1 ≤ room_1.cells ∧ slots + 6 ≤ room_1.slots) (K : kK p l e s m args below meth c Q D cI cM cJ A q qm qo b k cells slots) : W p l e room_1 s m args below meth c H locs cells slots Q (F0 m 617 ls []) := by
  obtain ⟨len, n, F, ro, A0, hI⟩ := hI
  have hlen := hI.1.1
  refine kl_aload_n 617 E.1 d_L_law_617 hl rfl ?_
  refine kl_aload_n 618 E.1 d_L_law_618 hl rfl ?_
  refine kl_iload 619 E.1 d_L_law_619 hl rfl ?_
  refine lv_iconst (pc := 621) (v := nI 1) E.1.1 E.1.2.1 d_L_law_621 (by decide) ?_
  refine n_iadd 622 E.1 d_L_law_622 ?_
  refine A_ld 623 E w d_L_law_623 (by omega) ?_
  refine kl_aload_n 624 E.1 d_L_law_624 hl rfl ?_
  refine kl_iload 625 E.1 d_L_law_625 hl rfl ?_
  refine lv_iconst (pc := 627) (v := nI 2) E.1.1 E.1.2.1 d_L_law_627 (by decide) ?_
  refine n_iadd 628 E.1 d_L_law_628 ?_
  refine A_ld 629 E w d_L_law_629 (by omega) ?_
  refine kl_aload_n 630 E.1 d_L_law_630 hl rfl ?_
  refine A_cs (na := 4) 631 E w (c_L_different l hfl D cI cJ q qo f G g hI.2.1 (uv_lt _) (uv_lt _)) rfl tw_258 tw_256 tw_257 (by decide +kernel) ⟨by decide, by decide⟩ hf (kl_sz hl) rfl rfl (Nat.le_of_ble_eq_true rfl) d_L_law_631 (fun r f' G' g' H locs hp w => ?_)
  refine kl_istore 634 E.1 d_L_law_634 hl (Nat.le_of_ble_eq_true rfl) (fun ls hl => ?_)
  refine kl_aload_n 636 E.1 d_L_law_636 hl rfl ?_
  refine kl_aload_n 637 E.1 d_L_law_637 hl rfl ?_
  refine kl_iload 638 E.1 d_L_law_638 hl rfl ?_
  refine lv_iconst (pc := 640) (v := nI 1) E.1.1 E.1.2.1 d_L_law_640 (by decide) ?_
  refine n_iadd 641 E.1 d_L_law_641 ?_
  refine A_ld 642 E w d_L_law_642 (by omega) ?_
  refine kl_aload_n 643 E.1 d_L_law_643 hl rfl ?_
  refine kl_iload 644 E.1 d_L_law_644 hl rfl ?_
  refine lv_iconst (pc := 646) (v := nI 2) E.1.1 E.1.2.1 d_L_law_646 (by decide) ?_
  refine n_iadd 647 E.1 d_L_law_647 ?_
  refine A_ld 648 E w d_L_law_648 (by omega) ?_
  refine A_cm 649 E w (j_different l D cM qm hI (uv_lt _) (uv_lt _) hp) (cv_L_M_different E.1.2.2.2 rfl rfl ⟨by decide, by decide⟩) hf (kl_sz hl) rfl rfl (Nat.le_of_ble_eq_true rfl) d_L_law_649 (fun r2 fm' Gm' H locs hq w => ?_)
  refine kl_istore 652 E.1 d_L_law_652 hl (Nat.le_of_ble_eq_true rfl) (fun ls hl => ?_)
  refine kl_aload_n 654 E.1 d_L_law_654 hl rfl ?_
  refine A_cm 655 E w (c_Mthrown l D cM qm fm' Gm') (cv_L_M_thrown E.1.2.2.2 rfl rfl ⟨by decide, by decide⟩) hf (kl_sz hl) rfl rfl (Nat.le_of_ble_eq_true rfl) d_L_law_655 (fun r3 f3 G3 H locs h3 w => ?_)
  obtain ⟨e3, e4, e5⟩ := h3
  rw [e4, e5] at w
  obtain ⟨hq1, hq2, hq3⟩ := hq
  refine kl_iload 658 E.1 d_L_law_658 hl rfl ?_
  refine lv_icmp_eq (pc := 660) (tgt := 665) E.1.1 E.1.2.1 d_L_law_660 rfl (fun _ => ?_) (fun h => absurd (e3.trans hq1) h)
  refine kl_iload 665 E.1 d_L_law_665 hl rfl ?_
  refine lv_if_ne (pc := 667) (tgt := 682) E.1.1 E.1.2.1 d_L_law_667 rfl (fun _ => ?_) (fun h0 => ?_)
  · refine lv_goto (pc := 682) (tgt := 914) E.1.1 E.1.2.1 d_L_law_682 rfl ?_
    exact K _ _ _ _ _ _ _ _ _ _ hq3 w hl
  · refine kl_aload_n 670 E.1 d_L_law_670 hl rfl ?_
    refine lv_iconst (pc := 671) (v := nI 0) E.1.1 E.1.2.1 d_L_law_671 (by decide) ?_
    refine A_lald 672 E w d_L_law_672 ?_
    refine kl_iload 673 E.1 d_L_law_673 hl rfl ?_
    refine lv_i2l (pc := 675) E.1.1 E.1.2.1 d_L_law_675 rfl ?_
    refine W.lcmp (pc := 676) E.1.1 E.1.2.1 d_L_law_676 ?_
    refine lv_if_eq (pc := 677) (tgt := 682) E.1.1 E.1.2.1 d_L_law_677 rfl (fun _ => ?_) (fun h => absurd ((lg_cmp_eq _ _).mpr (hq2 h0)) h)
    refine lv_goto (pc := 682) (tgt := 914) E.1.1 E.1.2.1 d_L_law_682 rfl ?_
    exact K _ _ _ _ _ _ _ _ _ _ hq3 w hl
theorem law_number (hfl : l.flags = flags0) (E : kx_W p s m args c meth A b L xs) (hI : kI k f G fm Gm) (w : kx_A D cI cM cJ A q qm qo f G fm Gm g s H locs) (hl : kl ls [some (.ref b), some (.ref (q 0)), some (.ref (qm 0)), some (.ref qo), some (.int (nI (4 * k))), o5, o6]) (h4 : 4 * k + 4 ≤ L) (hk : k ≤ 512) (hf : cells + 1 ≤ room_1.cells ∧ slots + 6 ≤ room_1.slots) (K : kK p l e s m args below meth c Q D cI cM cJ A q qm qo b k cells slots) : W p l e room_1 s m args below meth c H locs cells slots Q (F0 m 685 ls []) := by
  obtain ⟨len, n, F, ro, A0, hI⟩ := hI
  have hlen := hI.1.1
  refine kl_aload_n 685 E.1 d_L_law_685 hl rfl ?_
  refine kl_aload_n 686 E.1 d_L_law_686 hl rfl ?_
  refine kl_iload 687 E.1 d_L_law_687 hl rfl ?_
  refine lv_iconst (pc := 689) (v := nI 1) E.1.1 E.1.2.1 d_L_law_689 (by decide) ?_
  refine n_iadd 690 E.1 d_L_law_690 ?_
  refine A_ld 691 E w d_L_law_691 (by omega) ?_
  refine kl_aload_n 692 E.1 d_L_law_692 hl rfl ?_
  refine A_cs (na := 3) 693 E w (c_L_number l hfl D cI cJ q qo f G g hI.2.2.2.1 hI.2.2.2.2.1 hI.hN (uv_lt _)) rfl tw_269 tw_267 tw_268 (by decide +kernel) ⟨by decide, by decide⟩ hf (kl_sz hl) rfl rfl (Nat.le_of_ble_eq_true rfl) d_L_law_693 (fun r f' G' g' H locs hp w => ?_)
  refine kl_istore 696 E.1 d_L_law_696 hl (Nat.le_of_ble_eq_true rfl) (fun ls hl => ?_)
  refine kl_aload_n 698 E.1 d_L_law_698 hl rfl ?_
  refine kl_aload_n 699 E.1 d_L_law_699 hl rfl ?_
  refine kl_iload 700 E.1 d_L_law_700 hl rfl ?_
  refine lv_iconst (pc := 702) (v := nI 1) E.1.1 E.1.2.1 d_L_law_702 (by decide) ?_
  refine n_iadd 703 E.1 d_L_law_703 ?_
  refine A_ld 704 E w d_L_law_704 (by omega) ?_
  refine A_cm 705 E w (j_number l D cM qm hI (uv_lt _) hp) (cv_L_M_number E.1.2.2.2 rfl rfl ⟨by decide, by decide⟩) hf (kl_sz hl) rfl rfl (Nat.le_of_ble_eq_true rfl) d_L_law_705 (fun r2 fm' Gm' H locs hq w => ?_)
  refine kl_istore 708 E.1 d_L_law_708 hl (Nat.le_of_ble_eq_true rfl) (fun ls hl => ?_)
  refine kl_aload_n 710 E.1 d_L_law_710 hl rfl ?_
  refine A_cm 711 E w (c_Mthrown l D cM qm fm' Gm') (cv_L_M_thrown E.1.2.2.2 rfl rfl ⟨by decide, by decide⟩) hf (kl_sz hl) rfl rfl (Nat.le_of_ble_eq_true rfl) d_L_law_711 (fun r3 f3 G3 H locs h3 w => ?_)
  obtain ⟨e3, e4, e5⟩ := h3
  rw [e4, e5] at w
  obtain ⟨hq1, hq2, hq3⟩ := hq
  refine kl_iload 714 E.1 d_L_law_714 hl rfl ?_
  refine lv_icmp_eq (pc := 716) (tgt := 721) E.1.1 E.1.2.1 d_L_law_716 rfl (fun _ => ?_) (fun h => absurd (e3.trans hq1) h)
  refine kl_iload 721 E.1 d_L_law_721 hl rfl ?_
  refine lv_if_ne (pc := 723) (tgt := 738) E.1.1 E.1.2.1 d_L_law_723 rfl (fun _ => ?_) (fun h0 => ?_)
  · refine lv_goto (pc := 738) (tgt := 914) E.1.1 E.1.2.1 d_L_law_738 rfl ?_
    exact K _ _ _ _ _ _ _ _ _ _ hq3 w hl
  · refine kl_aload_n 726 E.1 d_L_law_726 hl rfl ?_
    refine lv_iconst (pc := 727) (v := nI 0) E.1.1 E.1.2.1 d_L_law_727 (by decide) ?_
    refine A_lald 728 E w d_L_law_728 ?_
    refine kl_iload 729 E.1 d_L_law_729 hl rfl ?_
    refine lv_i2l (pc := 731) E.1.1 E.1.2.1 d_L_law_731 rfl ?_
    refine W.lcmp (pc := 732) E.1.1 E.1.2.1 d_L_law_732 ?_
    refine lv_if_eq (pc := 733) (tgt := 738) E.1.1 E.1.2.1 d_L_law_733 rfl (fun _ => ?_) (fun h => absurd ((lg_cmp_eq _ _).mpr (hq2 h0)) h)
    refine lv_goto (pc := 738) (tgt := 914) E.1.1 E.1.2.1 d_L_law_738 rfl ?_
    exact K _ _ _ _ _ _ _ _ _ _ hq3 w hl
theorem law_before (hfl : l.flags = flags0) (E : kx_W p s m args c meth A b L xs) (hI : kI k f G fm Gm) (w : kx_A D cI cM cJ A q qm qo f G fm Gm g s H locs) (hl : kl ls [some (.ref b), some (.ref (q 0)), some (.ref (qm 0)), some (.ref qo), some (.int (nI (4 * k))), o5, o6]) (h4 : 4 * k + 4 ≤ L) (hk : k ≤ 512) (hf : cells + 1 ≤ room_1.cells ∧ slots + 6 ≤ room_1.slots) (K : kK p l e s m args below meth c Q D cI cM cJ A q qm qo b k cells slots) : W p l e room_1 s m args below meth c H locs cells slots Q (F0 m 741 ls []) := by
  obtain ⟨len, n, F, ro, A0, hI⟩ := hI
  have hlen := hI.1.1
  refine kl_aload_n 741 E.1 d_L_law_741 hl rfl ?_
  refine kl_aload_n 742 E.1 d_L_law_742 hl rfl ?_
  refine kl_iload 743 E.1 d_L_law_743 hl rfl ?_
  refine lv_iconst (pc := 745) (v := nI 1) E.1.1 E.1.2.1 d_L_law_745 (by decide) ?_
  refine n_iadd 746 E.1 d_L_law_746 ?_
  refine A_ld 747 E w d_L_law_747 (by omega) ?_
  refine kl_aload_n 748 E.1 d_L_law_748 hl rfl ?_
  refine kl_iload 749 E.1 d_L_law_749 hl rfl ?_
  refine lv_iconst (pc := 751) (v := nI 2) E.1.1 E.1.2.1 d_L_law_751 (by decide) ?_
  refine n_iadd 752 E.1 d_L_law_752 ?_
  refine A_ld 753 E w d_L_law_753 (by omega) ?_
  refine kl_aload_n 754 E.1 d_L_law_754 hl rfl ?_
  refine kl_iload 755 E.1 d_L_law_755 hl rfl ?_
  refine lv_iconst (pc := 757) (v := nI 3) E.1.1 E.1.2.1 d_L_law_757 (by decide) ?_
  refine n_iadd 758 E.1 d_L_law_758 ?_
  refine A_ld 759 E w d_L_law_759 (by omega) ?_
  refine kl_aload_n 760 E.1 d_L_law_760 hl rfl ?_
  refine A_cs (na := 5) 761 E w (c_L_before l hfl D cI cJ q qo f G g hI.2.1 (uv_lt _) (uv_lt _) (uv_lt _)) rfl tw_276 tw_274 tw_275 (by decide +kernel) ⟨by decide, by decide⟩ hf (kl_sz hl) rfl rfl (Nat.le_of_ble_eq_true rfl) d_L_law_761 (fun r f' G' g' H locs hp w => ?_)
  refine kl_istore 764 E.1 d_L_law_764 hl (Nat.le_of_ble_eq_true rfl) (fun ls hl => ?_)
  refine kl_aload_n 766 E.1 d_L_law_766 hl rfl ?_
  refine kl_aload_n 767 E.1 d_L_law_767 hl rfl ?_
  refine kl_iload 768 E.1 d_L_law_768 hl rfl ?_
  refine lv_iconst (pc := 770) (v := nI 1) E.1.1 E.1.2.1 d_L_law_770 (by decide) ?_
  refine n_iadd 771 E.1 d_L_law_771 ?_
  refine A_ld 772 E w d_L_law_772 (by omega) ?_
  refine kl_aload_n 773 E.1 d_L_law_773 hl rfl ?_
  refine kl_iload 774 E.1 d_L_law_774 hl rfl ?_
  refine lv_iconst (pc := 776) (v := nI 2) E.1.1 E.1.2.1 d_L_law_776 (by decide) ?_
  refine n_iadd 777 E.1 d_L_law_777 ?_
  refine A_ld 778 E w d_L_law_778 (by omega) ?_
  refine kl_aload_n 779 E.1 d_L_law_779 hl rfl ?_
  refine kl_iload 780 E.1 d_L_law_780 hl rfl ?_
  refine lv_iconst (pc := 782) (v := nI 3) E.1.1 E.1.2.1 d_L_law_782 (by decide) ?_
  refine n_iadd 783 E.1 d_L_law_783 ?_
  refine A_ld 784 E w d_L_law_784 (by omega) ?_
  refine A_cm 785 E w (j_before l D cM qm hI (uv_lt _) (uv_lt _) (uv_lt _) hp) (cv_L_M_before E.1.2.2.2 rfl rfl ⟨by decide, by decide⟩) hf (kl_sz hl) rfl rfl (Nat.le_of_ble_eq_true rfl) d_L_law_785 (fun r2 fm' Gm' H locs hq w => ?_)
  refine kl_istore 788 E.1 d_L_law_788 hl (Nat.le_of_ble_eq_true rfl) (fun ls hl => ?_)
  refine kl_aload_n 790 E.1 d_L_law_790 hl rfl ?_
  refine A_cm 791 E w (c_Mthrown l D cM qm fm' Gm') (cv_L_M_thrown E.1.2.2.2 rfl rfl ⟨by decide, by decide⟩) hf (kl_sz hl) rfl rfl (Nat.le_of_ble_eq_true rfl) d_L_law_791 (fun r3 f3 G3 H locs h3 w => ?_)
  obtain ⟨e3, e4, e5⟩ := h3
  rw [e4, e5] at w
  obtain ⟨hq1, hq2, hq3⟩ := hq
  refine kl_iload 794 E.1 d_L_law_794 hl rfl ?_
  refine lv_icmp_eq (pc := 796) (tgt := 801) E.1.1 E.1.2.1 d_L_law_796 rfl (fun _ => ?_) (fun h => absurd (e3.trans hq1) h)
  refine kl_iload 801 E.1 d_L_law_801 hl rfl ?_
  refine lv_if_ne (pc := 803) (tgt := 818) E.1.1 E.1.2.1 d_L_law_803 rfl (fun _ => ?_) (fun h0 => ?_)
  · refine lv_goto (pc := 818) (tgt := 914) E.1.1 E.1.2.1 d_L_law_818 rfl ?_
    exact K _ _ _ _ _ _ _ _ _ _ hq3 w hl
  · refine kl_aload_n 806 E.1 d_L_law_806 hl rfl ?_
    refine lv_iconst (pc := 807) (v := nI 0) E.1.1 E.1.2.1 d_L_law_807 (by decide) ?_
    refine A_lald 808 E w d_L_law_808 ?_
    refine kl_iload 809 E.1 d_L_law_809 hl rfl ?_
    refine lv_i2l (pc := 811) E.1.1 E.1.2.1 d_L_law_811 rfl ?_
    refine W.lcmp (pc := 812) E.1.1 E.1.2.1 d_L_law_812 ?_
    refine lv_if_eq (pc := 813) (tgt := 818) E.1.1 E.1.2.1 d_L_law_813 rfl (fun _ => ?_) (fun h => absurd ((lg_cmp_eq _ _).mpr (hq2 h0)) h)
    refine lv_goto (pc := 818) (tgt := 914) E.1.1 E.1.2.1 d_L_law_818 rfl ?_
    exact K _ _ _ _ _ _ _ _ _ _ hq3 w hl
theorem law_most (hfl : l.flags = flags0) (E : kx_W p s m args c meth A b L xs) (hI : kI k f G fm Gm) (w : kx_A D cI cM cJ A q qm qo f G fm Gm g s H locs) (hl : kl ls [some (.ref b), some (.ref (q 0)), some (.ref (qm 0)), some (.ref qo), some (.int (nI (4 * k))), o5, o6]) (h4 : 4 * k + 4 ≤ L) (hk : k ≤ 512) (hf : cells + 1 ≤ room_1.cells ∧ slots + 6 ≤ room_1.slots) (K : kK p l e s m args below meth c Q D cI cM cJ A q qm qo b k cells slots) : W p l e room_1 s m args below meth c H locs cells slots Q (F0 m 821 ls []) := by
  obtain ⟨len, n, F, ro, A0, hI⟩ := hI
  have hlen := hI.1.1
  refine kl_aload_n 821 E.1 d_L_law_821 hl rfl ?_
  refine kl_aload_n 822 E.1 d_L_law_822 hl rfl ?_
  refine kl_iload 823 E.1 d_L_law_823 hl rfl ?_
  refine lv_iconst (pc := 825) (v := nI 1) E.1.1 E.1.2.1 d_L_law_825 (by decide) ?_
  refine n_iadd 826 E.1 d_L_law_826 ?_
  refine A_ld 827 E w d_L_law_827 (by omega) ?_
  refine kl_aload_n 828 E.1 d_L_law_828 hl rfl ?_
  refine kl_iload 829 E.1 d_L_law_829 hl rfl ?_
  refine lv_iconst (pc := 831) (v := nI 2) E.1.1 E.1.2.1 d_L_law_831 (by decide) ?_
  refine n_iadd 832 E.1 d_L_law_832 ?_
  refine A_ld 833 E w d_L_law_833 (by omega) ?_
  refine kl_aload_n 834 E.1 d_L_law_834 hl rfl ?_
  refine A_cs (na := 4) 835 E w (c_L_most l hfl D cI cJ q qo f G g hI.2.1 (uv_lt _) (uv_lt _)) rfl tw_284 tw_282 tw_283 (by decide +kernel) ⟨by decide, by decide⟩ hf (kl_sz hl) rfl rfl (Nat.le_of_ble_eq_true rfl) d_L_law_835 (fun r f' G' g' H locs hp w => ?_)
  refine kl_istore 838 E.1 d_L_law_838 hl (Nat.le_of_ble_eq_true rfl) (fun ls hl => ?_)
  refine kl_aload_n 840 E.1 d_L_law_840 hl rfl ?_
  refine kl_aload_n 841 E.1 d_L_law_841 hl rfl ?_
  refine kl_iload 842 E.1 d_L_law_842 hl rfl ?_
  refine lv_iconst (pc := 844) (v := nI 1) E.1.1 E.1.2.1 d_L_law_844 (by decide) ?_
  refine n_iadd 845 E.1 d_L_law_845 ?_
  refine A_ld 846 E w d_L_law_846 (by omega) ?_
  refine kl_aload_n 847 E.1 d_L_law_847 hl rfl ?_
  refine kl_iload 848 E.1 d_L_law_848 hl rfl ?_
  refine lv_iconst (pc := 850) (v := nI 2) E.1.1 E.1.2.1 d_L_law_850 (by decide) ?_
  refine n_iadd 851 E.1 d_L_law_851 ?_
  refine A_ld 852 E w d_L_law_852 (by omega) ?_
  refine A_cm 853 E w (j_most l D cM qm hI (uv_lt _) (uv_lt _) hp) (cv_L_M_most E.1.2.2.2 rfl rfl ⟨by decide, by decide⟩) hf (kl_sz hl) rfl rfl (Nat.le_of_ble_eq_true rfl) d_L_law_853 (fun r2 fm' Gm' H locs hq w => ?_)
  refine kl_istore 856 E.1 d_L_law_856 hl (Nat.le_of_ble_eq_true rfl) (fun ls hl => ?_)
  refine kl_aload_n 858 E.1 d_L_law_858 hl rfl ?_
  refine A_cm 859 E w (c_Mthrown l D cM qm fm' Gm') (cv_L_M_thrown E.1.2.2.2 rfl rfl ⟨by decide, by decide⟩) hf (kl_sz hl) rfl rfl (Nat.le_of_ble_eq_true rfl) d_L_law_859 (fun r3 f3 G3 H locs h3 w => ?_)
  obtain ⟨e3, e4, e5⟩ := h3
  rw [e4, e5] at w
  obtain ⟨hq1, hq2, hq3⟩ := hq
  refine kl_iload 862 E.1 d_L_law_862 hl rfl ?_
  refine lv_icmp_eq (pc := 864) (tgt := 869) E.1.1 E.1.2.1 d_L_law_864 rfl (fun _ => ?_) (fun h => absurd (e3.trans hq1) h)
  refine kl_iload 869 E.1 d_L_law_869 hl rfl ?_
  refine lv_if_ne (pc := 871) (tgt := 886) E.1.1 E.1.2.1 d_L_law_871 rfl (fun _ => ?_) (fun h0 => ?_)
  · refine lv_goto (pc := 886) (tgt := 914) E.1.1 E.1.2.1 d_L_law_886 rfl ?_
    exact K _ _ _ _ _ _ _ _ _ _ hq3 w hl
  · refine kl_aload_n 874 E.1 d_L_law_874 hl rfl ?_
    refine lv_iconst (pc := 875) (v := nI 0) E.1.1 E.1.2.1 d_L_law_875 (by decide) ?_
    refine A_lald 876 E w d_L_law_876 ?_
    refine kl_iload 877 E.1 d_L_law_877 hl rfl ?_
    refine lv_i2l (pc := 879) E.1.1 E.1.2.1 d_L_law_879 rfl ?_
    refine W.lcmp (pc := 880) E.1.1 E.1.2.1 d_L_law_880 ?_
    refine lv_if_eq (pc := 881) (tgt := 886) E.1.1 E.1.2.1 d_L_law_881 rfl (fun _ => ?_) (fun h => absurd ((lg_cmp_eq _ _).mpr (hq2 h0)) h)
    refine lv_goto (pc := 886) (tgt := 914) E.1.1 E.1.2.1 d_L_law_886 rfl ?_
    exact K _ _ _ _ _ _ _ _ _ _ hq3 w hl
theorem law_count (hfl : l.flags = flags0) (E : kx_W p s m args c meth A b L xs) (hI : kI k f G fm Gm) (w : kx_A D cI cM cJ A q qm qo f G fm Gm g s H locs) (hl : kl ls [some (.ref b), some (.ref (q 0)), some (.ref (qm 0)), some (.ref qo), some (.int (nI (4 * k))), o5, o6]) (h4 : 4 * k + 4 ≤ L) (hk : k ≤ 512) (hf : cells + 1 ≤ room_1.cells ∧ slots + 6 ≤ room_1.slots) (K : kK p l e s m args below meth c Q D cI cM cJ A q qm qo b k cells slots) : W p l e room_1 s m args below meth c H locs cells slots Q (F0 m 889 ls []) := by
  obtain ⟨len, n, F, ro, A0, hI⟩ := hI
  have hlen := hI.1.1
  refine kl_aload_n 889 E.1 d_L_law_889 hl rfl ?_
  refine kl_aload_n 890 E.1 d_L_law_890 hl rfl ?_
  refine kl_iload 891 E.1 d_L_law_891 hl rfl ?_
  refine lv_iconst (pc := 893) (v := nI 1) E.1.1 E.1.2.1 d_L_law_893 (by decide) ?_
  refine n_iadd 894 E.1 d_L_law_894 ?_
  refine A_ld 895 E w d_L_law_895 (by omega) ?_
  refine A_ct 896 E w (c_count l D cI q f G _) (cv_L_T_count E.1.2.2.2 rfl rfl ⟨by decide, by decide⟩) ⟨by omega, by omega⟩ (kl_sz hl) rfl rfl (Nat.le_of_ble_eq_true rfl) d_L_law_896 (fun r f' G' H locs hp w => ?_)
  obtain ⟨e1, e2, e3⟩ := hp
  rw [e2, e3] at w
  refine kl_aload_n 899 E.1 d_L_law_899 hl rfl ?_
  refine kl_aload_n 900 E.1 d_L_law_900 hl rfl ?_
  refine kl_iload 901 E.1 d_L_law_901 hl rfl ?_
  refine lv_iconst (pc := 903) (v := nI 1) E.1.1 E.1.2.1 d_L_law_903 (by decide) ?_
  refine n_iadd 904 E.1 d_L_law_904 ?_
  refine A_ld 905 E w d_L_law_905 (by omega) ?_
  refine A_cm 906 E w (j_count l D cM qm _ hI) (cv_L_M_count E.1.2.2.2 rfl rfl ⟨by decide, by decide⟩) ⟨by omega, by omega⟩ (kl_sz hl) rfl rfl (Nat.le_of_ble_eq_true rfl) d_L_law_906 (fun r2 fm' Gm' H locs hq w => ?_)
  refine lv_icmp_eq (pc := 909) (tgt := 914) E.1.1 E.1.2.1 d_L_law_909 rfl (fun _ => ?_) (fun h => absurd (e1.trans hq.1.symm) h)
  exact W.widen (Nat.le_add_right _ _) (Nat.le_add_right _ _) (K _ _ _ _ _ _ _ _ _ _ hq.2 w hl)
end LAWC
end
section
/-! THE CLAIM OUT OF ONE WALK OF THE LAW'S BODY. Your part is whole_start (and what it stands on); all else here is the same for every law, but numbers. -/
def R_law : String := "LevelTreeLaw"
def lw_P (b : Addr) (xs : List Int32) (args : Array Value) (s : State) : Prop := args = #[.ref b] ∧ s.IntsAt b xs ∧ xs.length ≤ 2048 ∧ (Jvm.Cond.and given_1 narrow_1).before args s = true
def lw_Q (_ : Array Value) (s : State) (o : Outcome) (t : State) : Prop := o = .returned (some (.int 1)) ∧ Framed s o t [] 601024 7293034
def lw_Z (below : List Frame) (a : Array Value) (s : State) : State → Prop := fun t => ∃ o, t.status = .running ∧ Ended t below o ∧ lw_Q a s o t
/-- the law's own end, with 1 on the stack, nothing written that was there before, its room as the claim has it -/
theorem lw_ret {p : Program} {l : Launch} {e : Env} {s : State} {m : MethodId} {below : List Frame} {meth : Method} {c : Code} {b : Nat} (hx : p.tables.exec = Jvm.exec) (hb : c.code = code) (hr : meth.sig.returnType = ret) (hlocks : meth.locks = false) {pc : Nat} {H : Heap} {ls : Array Slot} (hdg : decode code pc = .ok (.ireturn, 1)) : W p l e room_1 s m #[Value.ref b] below meth c H [] 601024 7293034 (lw_Z below #[Value.ref b] s) (F0 m pc ls [.int 1]) := by
  intro T hT X
  obtain ⟨fs, hret, hrun, hended, hW, hframe⟩ := X.leave (v := some (.int 1)) (hlocks := hlocks) (fun h => by rw [hr] at h; cases h)
  have hmeth' : T.vm.method? m = some meth := X.method'
  refine ⟨T.setFrames fs, ?_, .returned (some (.int 1)), hrun, hended, rfl, ⟨_, rfl⟩, hW, hframe⟩
  jvm_step X.here [X.here.top, hx, hb, hdg, hmeth', hr, ret, narrow_b1]
  (try refine ⟨rfl, ?_⟩); (try refine ⟨rfl, ?_⟩)
  first | (intro acts; rw [hret _ acts rfl rfl rfl]) | rw [hret _ _ rfl rfl rfl]
  exact Steps.refl _
/-- what holds at the law's entry: the machine, the code, the tables' words (any of lw_tbl by 'hts w (by decide +kernel)'), the script of L ints xs at the cell b, what the Statement gives of the start (any of its parts by flat_of_before) -/
def lw_At (p : Program) (s : State) (m : MethodId) (meth : Method) (c : Code) (b L : Nat) (xs : Nat → Int32) : Prop :=
  p.tables.exec = Jvm.exec ∧ c.code = code ∧ meth.sig.returnType = ret ∧ c.maxLocals = 7 ∧ s.vm.findClass R_law = some m.cls ∧ (∀ w ∈ lw_tbl, w.before #[Value.ref b] s = true) ∧ va_X b L xs s s.heap ∧ b < s.heap.size ∧ meth.locks = false ∧ (Jvm.Cond.and given_1 narrow_1).before #[Value.ref b] s = true
end
section
/-! the law's loop -/
section LAWL
variable {p : Program} {l : Launch} {e : Env} {s : State} {m : MethodId} {below : List Frame} {meth : Method} {c : Code} {H : Heap} {locs : List Loc} {cells slots : Nat}
variable {ls : Array Slot} {D : va_G} {cI cM cJ : ClassId} {A : Nat → Prop} {q qm : Nat → Nat} {qo : Nat} {f : Nat → Int32} {G : Nat → Nat → Int32} {fm : Nat → Int32} {Gm : Nat → Nat → Int32} {g : Nat → Int64} {b L k : Nat} {xs : Nat → Int32} {o5 o6 : Option Value}
theorem law_exit (E : kx_W p s m #[Value.ref b] c meth A b L xs) (hr : meth.sig.returnType = ret) (hlk : meth.locks = false) (w : kx_A D cI cM cJ A q qm qo f G fm Gm g s H locs) (hf : cells ≤ 601024 ∧ slots ≤ 7293034) : W p l e room_1 s m #[Value.ref b] below meth c H locs cells slots (lw_Z below #[Value.ref b] s) (F0 m 920 ls []) := by
  refine lv_iconst (pc := 920) (v := 1) E.1.1 E.1.2.1 d_L_law_920 (by decide) ?_
  refine W.widen hf.1 hf.2 ?_
  refine va_forget (fun z hz => E.2.2.2.2.1 _ (w.2.2.1.2.2 z hz)) ?_
  exact lw_ret E.1.1 E.1.2.1 hr hlk d_L_law_921
theorem law_step (hfl : l.flags = flags0) (E : kx_W p s m #[Value.ref b] c meth A b L xs) (hr : meth.sig.returnType = ret) (hlk : meth.locks = false) (hI : kI k f G fm Gm) (w : kx_A D cI cM cJ A q qm qo f G fm Gm g s H locs) (hl : kl ls [some (.ref b), some (.ref (q 0)), some (.ref (qm 0)), some (.ref qo), some (.int (nI (4 * k))), o5, o6]) (hk : 4 * k ≤ L)
    (K : 4 * k + 4 ≤ L → kK p l e s m #[Value.ref b] below meth c (lw_Z below #[Value.ref b] s) D cI cM cJ A q qm qo b k (16 + k) (24880 + 6 * k)) : W p l e room_1 s m #[Value.ref b] below meth c H locs (16 + k) (24880 + 6 * k) (lw_Z below #[Value.ref b] s) (F0 m 23 ls []) := by
  have hL := E.2.2.2.2.2.2.2
  have hf : 16 + k ≤ 601024 ∧ 24880 + 6 * k ≤ 7293034 := by omega
  refine kl_iload 23 E.1 d_L_law_23 hl rfl ?_
  refine kl_aload_n 25 E.1 d_L_law_25 hl rfl ?_
  refine A_len 26 E w d_L_law_26 ?_
  refine lv_iconst (pc := 27) (v := nI 4) E.1.1 E.1.2.1 d_L_law_27 (by decide) ?_
  by_cases hL4 : 4 ≤ L
  · refine n_isub 28 E.1 d_L_law_28 hL4 ?_
    refine n_icmp_gt 29 (tgt := 920) E.1 d_L_law_29 rfl (by omega) (by omega) (fun h => law_exit E hr hlk w hf) (fun h => ?_)
    have h4 : 4 * k + 4 ≤ L := by omega
    have hk5 : k ≤ 512 := by omega
    have hfc : 16 + k + 1 ≤ room_1.cells ∧ 24880 + 6 * k + 6 ≤ room_1.slots := ⟨show 16 + k + 1 ≤ 601024 by omega, show 24880 + 6 * k + 6 ≤ 7293034 by omega⟩
    refine kl_aload_n 32 E.1 d_L_law_32 hl rfl ?_
    refine kl_iload 33 E.1 d_L_law_33 hl rfl ?_
    refine A_ld 35 E w d_L_law_35 (by omega) ?_
    refine lv_bipush (pc := 36) (v := nI 15) E.1.1 E.1.2.1 d_L_law_36 (by decide) ?_
    refine n_iand 38 E.1 d_L_law_38 ?_
    have ht : uv (xs (4 * k)) &&& 15 ≤ 15 := Nat.and_le_right
    generalize uv (xs (4 * k)) &&& 15 = t at ht ⊢
    rcases (show t = 0 ∨ t = 1 ∨ t = 2 ∨ t = 3 ∨ t = 4 ∨ t = 5 ∨ t = 6 ∨ t = 7 ∨ t = 8 ∨ t = 9 ∨ t = 10 ∨ t = 11 ∨ t = 12 ∨ t = 13 ∨ t = 14 ∨ t = 15 by omega) with rfl | rfl | rfl | rfl | rfl | rfl | rfl | rfl | rfl | rfl | rfl | rfl | rfl | rfl | rfl | rfl
    · refine lv_tableIn (pc := 39) (tgt := 104) (off := 65) E.1.1 E.1.2.1 d_L_law_39 (by decide) (by decide) (by decide) (by decide) ?_
      exact law_add hfl E hI w hl h4 hk5 hfc (K h4)
    · refine lv_tableIn (pc := 39) (tgt := 184) (off := 145) E.1.1 E.1.2.1 d_L_law_39 (by decide) (by decide) (by decide) (by decide) ?_
      exact law_cut hfl E hI w hl h4 hk5 hfc (K h4)
    · refine lv_tableIn (pc := 39) (tgt := 240) (off := 201) E.1.1 E.1.2.1 d_L_law_39 (by decide) (by decide) (by decide) (by decide) ?_
      exact law_build hfl E hI w hl h4 hk5 hfc (K h4)
    · refine lv_tableIn (pc := 39) (tgt := 253) (off := 214) E.1.1 E.1.2.1 d_L_law_39 (by decide) (by decide) (by decide) (by decide) ?_
      exact law_at hfl E hI w hl h4 hk5 hfc (K h4)
    · refine lv_tableIn (pc := 39) (tgt := 309) (off := 270) E.1.1 E.1.2.1 d_L_law_39 (by decide) (by decide) (by decide) (by decide) ?_
      exact law_often hfl E hI w hl h4 hk5 hfc (K h4)
    · refine lv_tableIn (pc := 39) (tgt := 389) (off := 350) E.1.1 E.1.2.1 d_L_law_39 (by decide) (by decide) (by decide) (by decide) ?_
      exact law_place hfl E hI w hl h4 hk5 hfc (K h4)
    · refine lv_tableIn (pc := 39) (tgt := 457) (off := 418) E.1.1 E.1.2.1 d_L_law_39 (by decide) (by decide) (by decide) (by decide) ?_
      exact law_least hfl E hI w hl h4 hk5 hfc (K h4)
    · refine lv_tableIn (pc := 39) (tgt := 537) (off := 498) E.1.1 E.1.2.1 d_L_law_39 (by decide) (by decide) (by decide) (by decide) ?_
      exact law_below hfl E hI w hl h4 hk5 hfc (K h4)
    · refine lv_tableIn (pc := 39) (tgt := 617) (off := 578) E.1.1 E.1.2.1 d_L_law_39 (by decide) (by decide) (by decide) (by decide) ?_
      exact law_different hfl E hI w hl h4 hk5 hfc (K h4)
    · refine lv_tableIn (pc := 39) (tgt := 685) (off := 646) E.1.1 E.1.2.1 d_L_law_39 (by decide) (by decide) (by decide) (by decide) ?_
      exact law_number hfl E hI w hl h4 hk5 hfc (K h4)
    · refine lv_tableIn (pc := 39) (tgt := 741) (off := 702) E.1.1 E.1.2.1 d_L_law_39 (by decide) (by decide) (by decide) (by decide) ?_
      exact law_before hfl E hI w hl h4 hk5 hfc (K h4)
    · refine lv_tableIn (pc := 39) (tgt := 821) (off := 782) E.1.1 E.1.2.1 d_L_law_39 (by decide) (by decide) (by decide) (by decide) ?_
      exact law_most hfl E hI w hl h4 hk5 hfc (K h4)
    · refine lv_tableIn (pc := 39) (tgt := 889) (off := 850) E.1.1 E.1.2.1 d_L_law_39 (by decide) (by decide) (by decide) (by decide) ?_
      exact law_count hfl E hI w hl h4 hk5 hfc (K h4)
    · refine lv_tableOut (pc := 39) (tgt := 914) E.1.1 E.1.2.1 d_L_law_39 (by decide) (by decide) ?_
      exact W.widen (Nat.le_add_right _ _) (Nat.le_add_right _ _) (K h4 _ _ _ _ _ _ _ _ _ _ hI.next w hl)
    · refine lv_tableOut (pc := 39) (tgt := 914) E.1.1 E.1.2.1 d_L_law_39 (by decide) (by decide) ?_
      exact W.widen (Nat.le_add_right _ _) (Nat.le_add_right _ _) (K h4 _ _ _ _ _ _ _ _ _ _ hI.next w hl)
    · refine lv_tableOut (pc := 39) (tgt := 914) E.1.1 E.1.2.1 d_L_law_39 (by decide) (by decide) ?_
      exact W.widen (Nat.le_add_right _ _) (Nat.le_add_right _ _) (K h4 _ _ _ _ _ _ _ _ _ _ hI.next w hl)
  · have hk0 : k = 0 := by omega
    subst hk0
    refine lv_isub (pc := 28) E.1.1 E.1.2.1 d_L_law_28 ?_
    refine lv_icmp_gt (pc := 29) (tgt := 920) E.1.1 E.1.2.1 d_L_law_29 rfl (fun h => law_exit E hr hlk w hf) (fun h => absurd ?_ h)
    rcases (show L = 0 ∨ L = 1 ∨ L = 2 ∨ L = 3 by omega) with rfl | rfl | rfl | rfl <;> decide
theorem law_loop (hfl : l.flags = flags0) (E : kx_W p s m #[Value.ref b] c meth A b L xs) (hr : meth.sig.returnType = ret) (hlk : meth.locks = false) : ∀ (d k : Nat), L < 4 * k + 4 * d + 4 → 4 * k ≤ L → ∀ (f : Nat → Int32) (G : Nat → Nat → Int32) (fm : Nat → Int32) (Gm : Nat → Nat → Int32) (g : Nat → Int64) (H : Heap) (locs : List Loc) (ls : Array Slot) (o5 o6 : Option Value), kI k f G fm Gm → kx_A D cI cM cJ A q qm qo f G fm Gm g s H locs →
    kl ls [some (.ref b), some (.ref (q 0)), some (.ref (qm 0)), some (.ref qo), some (.int (nI (4 * k))), o5, o6] → W p l e room_1 s m #[Value.ref b] below meth c H locs (16 + k) (24880 + 6 * k) (lw_Z below #[Value.ref b] s) (F0 m 23 ls []) := by
  intro d
  induction d with
  | zero =>
    intro k h1 h2 f G fm Gm g H locs ls o5 o6 hI w hl
    exact law_step hfl E hr hlk hI w hl h2 (fun h => absurd h (by omega))
  | succ d ih =>
    intro k h1 h2 f G fm Gm g H locs ls o5 o6 hI w hl
    refine law_step hfl E hr hlk hI w hl h2 (fun h4 => ?_)
    intro f G fm Gm g H locs ls o5 o6 hI w hl
    refine kl_iinc 914 E.1 d_L_law_914 hl rfl (v := nI (4 * (k + 1))) (nI_add _ _) (fun ls hl => ?_)
    refine lv_goto (pc := 917) (tgt := 23) E.1.1 E.1.2.1 d_L_law_917 rfl ?_
    refine W.widen (k := 16 + (k + 1)) (n := 24880 + 6 * (k + 1)) (by omega) (by omega) ?_
    exact ih (k + 1) (by omega) (by omega) f G fm Gm g H locs ls o5 o6 hI w hl
end LAWL
end
section
/-! the law's start -/
abbrev z_T : List Value := [.null, .null, .null, .null, .null, .null, .null, .null, .int 0, .int 0, .int 0, .int 0, .int 0, .int 0, .int 0]
abbrev z_M : List Value := [.int 0, .null, .null, .null, .null, .null, .int 0, .int 0, .int 0]
theorem df_T : ∀ j, j < 15 → defaultValue (ty_T j) = vp_V z_T j := by
  intro j hj
  rcases (show j = 0 ∨ j = 1 ∨ j = 2 ∨ j = 3 ∨ j = 4 ∨ j = 5 ∨ j = 6 ∨ j = 7 ∨ j = 8 ∨ j = 9 ∨ j = 10 ∨ j = 11 ∨ j = 12 ∨ j = 13 ∨ j = 14 by omega) with rfl | rfl | rfl | rfl | rfl | rfl | rfl | rfl | rfl | rfl | rfl | rfl | rfl | rfl | rfl <;> rfl
theorem df_M : ∀ j, j < 9 → defaultValue (ty_M j) = vp_V z_M j := by
  intro j hj
  rcases (show j = 0 ∨ j = 1 ∨ j = 2 ∨ j = 3 ∨ j = 4 ∨ j = 5 ∨ j = 6 ∨ j = 7 ∨ j = 8 by omega) with rfl | rfl | rfl | rfl | rfl | rfl | rfl | rfl | rfl <;> rfl
theorem kt_Y_0 {s : State} {b : Nat} (hts : ∀ w ∈ lw_tbl, w.before #[Value.ref b] s = true) (hgv : (Jvm.Cond.and given_1 narrow_1).before #[Value.ref b] s = true) : kt_Y s s.heap := by
  have hs := flat_of_before _ hgv
  refine ⟨⟨kt_z.of (hts _ tw_118) (hs _ (by decide +kernel)), kt_z.of (hts _ tw_120) (hs _ (by decide +kernel)), fun w hw => ?_⟩, fun c1 c2 h1 h2 => ?_⟩
  · exact kt_face_moved (List.mem_filter.mp hw).2 (Vm.Alike.refl s.vm) (hts w (List.mem_filter.mp hw).1)
  · exact kt_notcast (args := #[Value.ref b]) (X := R_NSE) (Y := R_IAE) (hs _ (by decide +kernel)) h1 h2
theorem whole_start {p : Program} {e : Env} {s : State} {m : MethodId} {below : List Frame} {meth : Method} {c : Code} (l : Launch) (hfl : l.flags = flags0) {b L : Nat} {xs : Nat → Int32} (hL : L ≤ 2048) (C0 : lw_At p s m meth c b L xs) : W p l e room_1 s m #[Value.ref b] below meth c s.heap [] 0 0 (lw_Z below #[Value.ref b] s) (entryFrame m ([Value.ref b] : List Value).toArray 7) := by
  obtain ⟨hx, hb, hr, hml, hown, hts, hX, hbl, hlk, hgv⟩ := C0
  have ht : ∀ w ∈ lw_g, w.before #[Value.ref b] s = true := fun w h => hts w (lw_g_sub w h)
  have hY := kt_Y_0 hts hgv
  have C : kx_C p s m #[Value.ref b] c code R_L := ⟨hx, hb, hown, ht⟩
  obtain ⟨cT, iT, kT⟩ := u_known ht in_T (ht _ tw_10)
  obtain ⟨cN, iN, kN⟩ := u_known ht in_M (ht _ tw_294)
  obtain ⟨D, hK⟩ : ∃ D : va_G, va_K D cls_ [] s := by
    refine ⟨(fun j => if j = 0 then cT else cN, fun j => if j = 0 then iT else iN), fun j q hq => ?_, fun j q hq => by simp at hq⟩
    match j, hq with
    | 0, hq => cases hq; exact kT
    | 1, hq => cases hq; exact kN
    | j + 2, hq => simp at hq
  obtain ⟨A, hAe⟩ : ∃ A : Nat → Prop, A = fun x => s.heap.size ≤ x := ⟨_, rfl⟩
  have hA : ∀ x : Nat, s.heap.size ≤ x → A x := fun x h => by rw [hAe]; exact h
  have hA' : ∀ x : Nat, A x → s.heap.size ≤ x := fun x h => by rw [hAe] at h; exact h
  have E : kx_W p s m #[Value.ref b] c meth A b L xs := ⟨C, hml, hY, hA, hA', hX, hbl, hL⟩
  have hP : va_P D cls_ [] s.heap := fun j q hq => by simp at hq
  have hD : va_D A [] := ⟨fun i j x y h => by simp at h, fun j q hq => by simp at hq⟩
  have hS : va_S A s.heap s.heap [] := va_S.rf
  rw [lg_entry_eq]
  have hl := lv_entry ([.ref b]) (n := 7) (Nat.le_of_ble_eq_true rfl)
  generalize (lg_sl ([.ref b]) ++ List.replicate (7 - (lg_sl ([.ref b])).length) Slot.unset).toArray = ls at hl ⊢
  have hl : kl ls [some (.ref b), none, none, none, none, none, none] := kl_of _ hl rfl rfl rfl
  refine va_new (D := D) (own := R_L) (C := R_T) (T := F_T) (N := 15) (ci := 0) (fs := z_T) hx hb ht in_T ty_T ty_T_ok hown (ht _ tw_9) (ht _ tw_10) (ht _ tw_1) hK hP hD hS hA rfl df_T (Nat.le_of_ble_eq_true rfl) (Nat.le_of_ble_eq_true rfl) d_L_law_0 (fun q0 H hP hD hS => ?_)
  refine lv_dup (pc := 3) hx hb d_L_law_3 rfl ?_
  have hP : va_P D cls_ [(q0, .inr (0, z_T))] H := hP
  have hD : va_D A [(q0, .inr (0, z_T))] := hD
  have hFc : ∀ x, va_A [(q0, .inr (0, z_T))] H.size x → A x := va_free (wc := [(q0, .inr (0, z_T))]) hD hS hA [0] rfl
  refine va_callv (va_runI (As := []) (rest := [.ref q0]) ⟨hx, hb, hml, hown, ht⟩ (c_Tinit l D q0 H.size) (cwI 0 ht (gd_C tw_13) rfl rfl rfl (ht _ tw_1) (ht _ tw_11) (ht _ tw_12) rfl (by decide +kernel) ⟨Nat.le_of_ble_eq_true rfl, Nat.le_of_ble_eq_true rfl⟩) ⟨fun a U g mk z => by obtain ⟨z0, z1, zP, zK, zD⟩ := z; exact ⟨z0, z1, zP, va_K.moved (u := U) (U := U.calling g mk a) (Vm.Alike.refl U.vm) zK, zD⟩, fun U hU hW => ⟨rfl, by rw [hU], by rw [hU]; exact hP, va_K.moved hW.alike hK, hD.weaken (fun _ _ _ _ => trivial)⟩⟩ rfl rfl (kl_sz hl) rfl (lv_room (Nat.le_of_ble_eq_true rfl)) d_L_law_4 ⟨Nat.le_of_ble_eq_true rfl, Nat.le_of_ble_eq_true rfl⟩) hS (fun x _ h => hFc x h) hFc (fun u t H1 locs1 ht1 hvm hpost hB hz hk hS => ?_)
  obtain ⟨cI, q⟩ := u
  have hpost : q 0 = q0 := hpost
  obtain ⟨hP1, hK1, hD1⟩ := hB
  rw [ht1] at hP1
  have hK1 : va_K D cls_ [(cI, .int)] s := va_K.moved hvm.symm hK1
  have hP : va_P D cls_ (wT cI q (fun _ => 0) (fun _ _ => 0)) H1 := hP1
  have hD : va_D A (wT cI q (fun _ => 0) (fun _ _ => 0)) := hD1.weaken (fun _ _ _ h => hFc _ h)
  rw [← hpost]
  refine kl_astore_n 7 C d_L_law_7 hl (Nat.le_of_ble_eq_true rfl) (fun ls hl => ?_)
  refine va_new (D := D) (own := R_L) (C := R_M) (T := F_M) (N := 9) (ci := 1) (fs := z_M) hx hb ht in_M ty_M ty_M_ok hown (ht _ tw_293) (ht _ tw_294) (ht _ tw_2) hK1 hP hD hS hA rfl df_M (Nat.le_of_ble_eq_true rfl) (Nat.le_of_ble_eq_true rfl) d_L_law_8 (fun m0 H hP hD hS => ?_)
  refine lv_dup (pc := 11) hx hb d_L_law_11 rfl ?_
  have hPm : va_P D cls_ [(m0, .inr (1, z_M))] H := hP.sub (ws' := [(m0, .inr (1, z_M))]) [9] rfl
  have hDm : va_D A [(m0, .inr (1, z_M))] := hD.sub (ws' := [(m0, .inr (1, z_M))]) [9] (by decide) rfl
  have hFc : ∀ x, va_A [(m0, .inr (1, z_M))] H.size x → A x := va_free (wc := [(m0, .inr (1, z_M))]) hD hS hA [9] rfl
  refine va_callv (va_runI (As := []) (rest := [.ref m0]) ⟨hx, hb, hml, hown, ht⟩ (c_Minit l D m0 H.size) (cwI 0 ht (gd_C tw_297) rfl rfl rfl (ht _ tw_2) (ht _ tw_295) (ht _ tw_296) rfl (by decide +kernel) ⟨Nat.le_of_ble_eq_true rfl, Nat.le_of_ble_eq_true rfl⟩) ⟨fun a U g mk z => by obtain ⟨z0, z1, zP, zK, zD⟩ := z; exact ⟨z0, z1, zP, va_K.moved (u := U) (U := U.calling g mk a) (Vm.Alike.refl U.vm) zK, zD⟩, fun U hU hW => ⟨rfl, by rw [hU], by rw [hU]; exact hPm, va_K.moved hW.alike hK, hDm.weaken (fun _ _ _ _ => trivial)⟩⟩ rfl rfl (kl_sz hl) rfl (lv_room (Nat.le_of_ble_eq_true rfl)) d_L_law_12 ⟨Nat.le_of_ble_eq_true rfl, Nat.le_of_ble_eq_true rfl⟩) hS (fun x _ h => hFc x h) hFc (fun u t H1 locs1 ht1 hvm hpost hB hz hk hS => ?_)
  obtain ⟨cM, qm⟩ := u
  have hpost : qm 0 = m0 := hpost
  obtain ⟨hP1, hK2, hD1⟩ := hB
  rw [ht1] at hP1
  have hK2 : va_K D cls_ [(cM, .int)] s := va_K.moved hvm.symm hK2
  obtain ⟨hP, hD⟩ := va_join (wr := wT cI q (fun _ => 0) (fun _ _ => 0)) (w1 := wM cM qm (fun _ => 0) (fun _ _ => 0)) hP hD [9] [0, 1, 2, 3, 4, 5, 6, 7, 8] rfl rfl (by decide) (by decide) hk hFc hP1 hD1
  have hK3 : va_K D cls_ [(cI, .int), (cM, .int)] s := hK1.app hK2
  rw [← hpost]
  refine kl_astore_n 15 C d_L_law_15 hl (Nat.le_of_ble_eq_true rfl) (fun ls hl => ?_)
  refine lv_iconst (pc := 16) (v := nI 1) hx hb d_L_law_16 (by decide) ?_
  refine va_newa (atype := .long) (ty := .long) (N' := 1) (a0 := (1, .inr (.inl (fun _ => 0)))) hx hb (ht _ tw_395) rfl hK3 hP hD hS hA (fun cA => rfl) (by decide) (by decide) (Nat.le_of_ble_eq_true rfl) (Nat.le_of_ble_eq_true rfl) (Nat.le_of_ble_eq_true rfl) d_L_law_17 (fun qo cJ H hK hP hD hS => ?_)
  refine kl_astore_n 19 C d_L_law_19 hl (Nat.le_of_ble_eq_true rfl) (fun ls hl => ?_)
  refine lv_iconst (pc := 20) (v := nI 0) hx hb d_L_law_20 (by decide) ?_
  refine kl_istore 21 C d_L_law_21 hl (Nat.le_of_ble_eq_true rfl) (fun ls hl => ?_)
  have w : kx_A D cI cM cJ A q qm qo (fun _ => 0) (fun _ _ => 0) (fun _ => 0) (fun _ _ => 0) (fun _ => 0) s H locs1 := ⟨hP, hD, hS, hK⟩
  exact law_loop hfl E hr hlk L 0 (by omega) (by omega) _ _ _ _ _ _ _ _ none none kI_0 w hl
end
section
set_option maxHeartbeats 4000000 in
theorem lw_walk (l : Launch) (hfl : l.flags = flags0) (b : Addr) (xs : List Int32) : MetFree l x (headSpec (Jvm.Cond.code x code maxLocals ret :: tables_1) room_1) (lw_P b xs) (fun _ _ _ _ _ => True) lw_Q := by
  refine MetFree.of_bodyS (code := code) (maxLocals := maxLocals) (ret := ret) (by decide) ?_ ?_
  · intro args s m h hn
    obtain ⟨meth, c, h1, h2, h3, h4, h5, h6, -, -⟩ := Cond.code_spec hn (atoms_spec (ws := Jvm.Cond.code x code maxLocals ret :: tables_1) h _ List.mem_cons_self)
    exact ⟨meth, c, h1, h2, h3, h4, h5, h6⟩
  · intro p e s m args below meth c s₁ B hml0 hP _
    obtain ⟨rfl, hx, hbd, hgv⟩ := hP
    obtain ⟨scr, harrAt, hlist, hof, hsmall⟩ := hx
    obtain ⟨hcb, hkn, -, -⟩ := State.arrayAt?_spec harrAt
    have hown : s.vm.findClass R_law = some m.cls := findClass_of_methodNamed B.named
    have hts0 : ∀ c ∈ (Jvm.Cond.code x code maxLocals ret :: tables_1), c.before #[Value.ref b] s = true := atoms_spec (ws := Jvm.Cond.code x code maxLocals ret :: tables_1) B.pre
    have hts : ∀ w ∈ lw_tbl, w.before #[Value.ref b] s = true := k2_hts_sels lw_privs (fun w hw => hts0 w (List.mem_cons_of_mem _ hw)) lw_privs_ok
    have hml : c.maxLocals = 7 := B.maxLocals_eq (hts0 _ List.mem_cons_self)
    have X₀ : Stand p l e room_1 s m #[Value.ref b] below meth c s₁ [] 0 0 := Stand.of_body B
    have hh0 : s₁.heap = s.heap := by rw [B.state]; rfl
    have hsz : scr.slots.size = xs.length := by rw [← Array.length_toList, hlist, List.length_map]
    have hval : ∀ j : Nat, j < xs.length → scr.slots[j]? = some (.int (xs.getD j 0)) := fun j hj => by
      rw [← Array.getElem?_toList, hlist]
      simp [hj]
    have hbl : b < s.heap.size := (Array.getElem?_eq_some_iff.mp hcb).1
    have hX : va_X b xs.length (fun j => xs.getD j 0) s s.heap := ⟨scr, hcb, hof, hkn, hsz, hval⟩
    have K : W p l e room_1 s m #[Value.ref b] below meth c s₁.heap [] 0 0 (lw_Z below #[Value.ref b] s) (entryFrame m ([Value.ref b] : List Value).toArray 7) := by
      rw [hh0]
      exact whole_start l hfl hbd ⟨B.exec, B.bytes, B.returns, hml, hown, hts, hX, hbl, B.notSynchronized, hgv⟩
    obtain ⟨t, a1, o, b1, b2, b3⟩ := K s₁ rfl X₀
    exact ⟨t, o, a1, b1, b2, b3⟩
theorem lw_pre_spec {args : Array Value} {s : State} (h : (Jvm.Cond.and given_1 narrow_1).before args s = true) (hr : rest_1_c.before args s = true) : ∃ (b : Addr) (xs : List Int32), lw_P b xs args s := by
  have hs := flat_of_before _ h
  have hq := flat_of_before _ hr
  have hc : (Cond.count 1).before args s = true := hs _ (by decide +kernel)
  have harr : (Cond.arrayOf (.arg 0) .int).before args s = true := hs _ (by decide +kernel)
  have hle : (Cond.le (.length (.arg 0)) (.int 2048)).before args s = true := hs _ (by decide +kernel)
  have hlen : (Cond.isInt (.length (.arg 0))).before args s = true := hq _ (by decide +kernel)
  have hall : (Cond.all (.arg 0) (.isInt (.elem (.arg 0) (.index 0)))).before args s = true := hq _ (by decide +kernel)
  obtain ⟨b, xs, hb, hx⟩ := State.ints_of_pre rfl harr hlen hall
  have hsm : xs.length < 2 ^ 31 := hx.choose_spec.2.2.2
  have hev : (Term.length (.arg 0)).eval args s none [] s = some (.int xs.length.toInt32) := hx.length_eval hb
  have hv := Cond.le_ints hev (show (Term.int 2048).eval args s none [] s = some (.int 2048) from rfl)
  have hd : xs.length.toInt32 ≤ 2048 := by
    simpa [Cond.before, Cond.holds, hv] using hle
  have hN : xs.length ≤ 2048 := (Int32.ofNat_le_ofNat hsm (by decide)).mp (show Int32.ofNat xs.length ≤ Int32.ofNat 2048 from hd)
  exact ⟨b, xs, Cond.one_arg hc (show args[0]? = some (.ref b) from hb), hx, hN, h⟩
theorem lw_comes (l : Launch) (hfl : l.flags = flags0) : Comes l x (Jvm.Cond.code x code maxLocals ret :: tables_1) room_1 (fun tb e args s => Calls_1 tb e args s ∧ rest_1 tb e args s ∧ Pre_1 tb e args s)
    (fun _ _ args s o t => lw_Q args s o t) := by
  intro p e ha hc hk s m args below hf hfit hheap happ hpre
  obtain ⟨b, xs, hP⟩ := lw_pre_spec hpre.2.2 hpre.2.1
  obtain ⟨k, o, h1, h2, h3, hQ⟩ := lw_walk l hfl b xs p e ha hc hk s m args below hf ((Spec.applies_iff_loose hf).mp happ).1 hP trivial
  exact ⟨k, o, h1, h2, h3, hQ⟩
theorem lw_frame {s t : State} {o : Outcome} {args : Array Value} (h : Framed s o t [] 601024 7293034) :
    Framed s o t (fieldLocs frame_1_writes args s ++ arrayLocs frame_1_arrays args s ++ staticLocs frame_1_statics s) 601024 7293034 := h
theorem lw_limb (L : Cond) (hL : ∀ (args : Array Value) (s t : State), L.after args s (.returned (some (.int 1))) t = true) :
    ArmFor flags0 classFile x code maxLocals ret World_1 tables_1 room_1 Calls_1 rest_1 Pre_1
      (fun tb e a s o t => postC L tb e a s o t ∧ Framed s o t (fieldLocs frame_1_writes a s ++ arrayLocs frame_1_arrays a s ++ staticLocs frame_1_statics s) 601024 7293034) := by
  intro l hfl _ _ p e ha hc hk s m args below hf hfit hheap happ hpre
  obtain ⟨k, o, h1, h2, h3, rfl, hF⟩ := lw_comes l hfl p e ha hc hk s m args below hf hfit hheap happ hpre
  exact ⟨k, _, h1, h2, h3, hL args s _, lw_frame hF⟩
theorem i_vc : Claimed_1_1 ∧ Claimed_1_2 := ⟨lw_limb limb_1_1 (fun args s t => by simp [limb_1_1, Cond.after, Cond.holds, Cond.value]), lw_limb limb_1_2 (fun args s t => Cond.after_iff.mpr (by
  first | (rw [show limb_1_2 = Cond.eq .result (.int 1) from rfl, Cond.eq_ints (x := 1) (y := 1) rfl rfl]; simp; done) | (simp [limb_1_2, Cond.value, Term.eval]; done)))⟩
end
