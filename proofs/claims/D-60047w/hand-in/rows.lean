section
/-! names, words (PART A is the skeleton's; the rest printed by wip gen/names.py) -/
/-- a private method of a class that the tables say can be made, by its rows of tables_1 -/
def lw_okq (q : MethodName × Nat) : Prop := (q.1.cls ≠ "java/lang/invoke/MethodHandle" ∧ q.1.cls ≠ "java/lang/invoke/VarHandle") ∧ Cond.instantiable q.1.cls q.2 ∈ tables_1 ∧ Cond.privateMethod q.1 ∈ tables_1 ∧ Cond.instanceMethod q.1 ∈ tables_1
theorem lw_p0 : lw_okq (⟨"PartsDesk", "add", "(I)Z"⟩, 6) := ⟨⟨by decide +kernel, by decide +kernel⟩, List.mem_of_getElem? (i := 6) (by decide +kernel), List.mem_of_getElem? (i := 75) (by decide +kernel), List.mem_of_getElem? (i := 76) (by decide +kernel)⟩
theorem lw_p1 : lw_okq (⟨"PartsDesk", "ready", "()V"⟩, 6) := ⟨⟨by decide +kernel, by decide +kernel⟩, List.mem_of_getElem? (i := 6) (by decide +kernel), List.mem_of_getElem? (i := 95) (by decide +kernel), List.mem_of_getElem? (i := 96) (by decide +kernel)⟩
theorem lw_p2 : lw_okq (⟨"PartsDesk$Ends", "byLetters", "([I)V"⟩, 9) := ⟨⟨by decide +kernel, by decide +kernel⟩, List.mem_of_getElem? (i := 14) (by decide +kernel), List.mem_of_getElem? (i := 103) (by decide +kernel), List.mem_of_getElem? (i := 104) (by decide +kernel)⟩
theorem lw_p3 : lw_okq (⟨"PartsDesk$Ends", "twice", "(I)V"⟩, 9) := ⟨⟨by decide +kernel, by decide +kernel⟩, List.mem_of_getElem? (i := 14) (by decide +kernel), List.mem_of_getElem? (i := 107) (by decide +kernel), List.mem_of_getElem? (i := 108) (by decide +kernel)⟩
theorem lw_p4 : lw_okq (⟨"PartsDesk$Ends", "alike", "(III)Z"⟩, 9) := ⟨⟨by decide +kernel, by decide +kernel⟩, List.mem_of_getElem? (i := 14) (by decide +kernel), List.mem_of_getElem? (i := 111) (by decide +kernel), List.mem_of_getElem? (i := 112) (by decide +kernel)⟩
theorem lw_p5 : lw_okq (⟨"PartsDesk$Ends", "behind", "(II)I"⟩, 9) := ⟨⟨by decide +kernel, by decide +kernel⟩, List.mem_of_getElem? (i := 14) (by decide +kernel), List.mem_of_getElem? (i := 115) (by decide +kernel), List.mem_of_getElem? (i := 116) (by decide +kernel)⟩
theorem lw_p6 : lw_okq (⟨"PartsDesk$Ends", "neighbours", "([I)V"⟩, 9) := ⟨⟨by decide +kernel, by decide +kernel⟩, List.mem_of_getElem? (i := 14) (by decide +kernel), List.mem_of_getElem? (i := 119) (by decide +kernel), List.mem_of_getElem? (i := 120) (by decide +kernel)⟩
theorem lw_p7 : lw_okq (⟨"PartsDeskModel", "reckon", "()V"⟩, 3) := ⟨⟨by decide +kernel, by decide +kernel⟩, List.mem_of_getElem? (i := 153) (by decide +kernel), List.mem_of_getElem? (i := 189) (by decide +kernel), List.mem_of_getElem? (i := 190) (by decide +kernel)⟩
theorem lw_p8 : lw_okq (⟨"PartsDeskModel", "same", "(II)I"⟩, 3) := ⟨⟨by decide +kernel, by decide +kernel⟩, List.mem_of_getElem? (i := 153) (by decide +kernel), List.mem_of_getElem? (i := 193) (by decide +kernel), List.mem_of_getElem? (i := 194) (by decide +kernel)⟩
def lw_privs_1 : List (MethodName × Nat) := [(⟨"PartsDesk", "add", "(I)Z"⟩, 6), (⟨"PartsDesk", "ready", "()V"⟩, 6), (⟨"PartsDesk$Ends", "byLetters", "([I)V"⟩, 9), (⟨"PartsDesk$Ends", "twice", "(I)V"⟩, 9), (⟨"PartsDesk$Ends", "alike", "(III)Z"⟩, 9), (⟨"PartsDesk$Ends", "behind", "(II)I"⟩, 9), (⟨"PartsDesk$Ends", "neighbours", "([I)V"⟩, 9), (⟨"PartsDeskModel", "reckon", "()V"⟩, 3), (⟨"PartsDeskModel", "same", "(II)I"⟩, 3)]
theorem lw_r1 : ∀ q ∈ lw_privs_1, lw_okq q := List.forall_mem_cons.mpr ⟨lw_p0, List.forall_mem_cons.mpr ⟨lw_p1, List.forall_mem_cons.mpr ⟨lw_p2, List.forall_mem_cons.mpr ⟨lw_p3, List.forall_mem_cons.mpr ⟨lw_p4, List.forall_mem_cons.mpr ⟨lw_p5, List.forall_mem_cons.mpr ⟨lw_p6, List.forall_mem_cons.mpr ⟨lw_p7, List.forall_mem_cons.mpr ⟨lw_p8, fun _ h => absurd h List.not_mem_nil⟩⟩⟩⟩⟩⟩⟩⟩⟩
def lw_privs : List (MethodName × Nat) := lw_privs_1
def lw_tbl : List Cond := k2_sels lw_privs ++ tables_1
theorem lw_privs_ok : ∀ q ∈ lw_privs, lw_okq q := lw_r1
def std : List Cond := k2_sels lw_privs ++ tables_1.filter goodWord
theorem std_of {w : Cond} (k : Nat) (h : tables_1[k]? = some w) (hg : goodWord w = true) : w ∈ std := List.mem_append_right _ (List.mem_filter.mpr ⟨List.mem_of_getElem? h, hg⟩)
theorem std_good : std.all goodWord = true := by decide +kernel
theorem std_tbl : ∀ w ∈ std, w ∈ lw_tbl := by
  intro w hw
  rcases List.mem_append.mp hw with h | h
  · exact List.mem_append_left _ h
  · exact List.mem_append_right _ (List.mem_filter.mp h).1
theorem std_in (y : Cond) (h : y ∈ std) : GoodIn std (y :: std) := by
  intro w hw
  have h1 : w ∈ std := by
    rcases List.mem_cons.mp hw with rfl | h2
    · exact h
    · exact h2
  exact ⟨h1, good_of_word (List.all_eq_true.mp std_good w h1)⟩
def R_L : String := "PartsDeskLaw"
def R_D : String := "PartsDesk"
def F_D : u_T := fun k => match k with
  | 0 => ("PartsDesk", "text", "[I", true)
  | 1 => ("PartsDesk", "border", "[I", true)
  | 2 => ("PartsDesk", "reach", "[I", true)
  | 3 => ("PartsDesk", "ends", "LPartsDesk$Ends;", true)
  | 4 => ("PartsDesk", "n", "I", false)
  | _ => ("PartsDesk", "made", "Z", false)
def t_D : Nat → FieldType := fun k => match k with
  | 0 => .array .int
  | 1 => .array .int
  | 2 => .array .int
  | 3 => .object "PartsDesk$Ends"
  | 4 => .int
  | _ => .boolean
def R_E : String := "PartsDesk$Ends"
def F_E : u_T := fun k => match k with
  | 0 => ("PartsDesk$Ends", "order", "[I", true)
  | 1 => ("PartsDesk$Ends", "place", "[I", true)
  | 2 => ("PartsDesk$Ends", "common", "[I", true)
  | 3 => ("PartsDesk$Ends", "group", "[I", true)
  | 4 => ("PartsDesk$Ends", "then", "[I", true)
  | 5 => ("PartsDesk$Ends", "second", "[I", true)
  | 6 => ("PartsDesk$Ends", "count", "[I", true)
  | 7 => ("PartsDesk$Ends", "many", "I", false)
  | _ => ("PartsDesk$Ends", "groups", "I", false)
def t_E : Nat → FieldType := fun k => match k with
  | 0 => .array .int
  | 1 => .array .int
  | 2 => .array .int
  | 3 => .array .int
  | 4 => .array .int
  | 5 => .array .int
  | 6 => .array .int
  | 7 => .int
  | _ => .int
def R_M : String := "PartsDeskModel"
def F_M : u_T := fun k => match k with
  | 0 => ("PartsDeskModel", "text", "[I", true)
  | 1 => ("PartsDeskModel", "n", "I", false)
  | _ => ("PartsDeskModel", "common", "[I", true)
def t_M : Nat → FieldType := fun k => match k with
  | 0 => .array .int
  | 1 => .int
  | _ => .array .int
theorem n_D : ∀ a, a < 6 → ∀ b, b < 6 → a ≠ b → (F_D a).2.1 ≠ (F_D b).2.1 := by decide +kernel
theorem t_D_ok : ∀ k, k < 6 → parseFieldDescriptor (F_D k).2.2.1 = some (t_D k) := by decide +kernel
theorem i_D : ∀ w ∈ u_ws R_D F_D 6, w ∈ std := by decide +kernel
theorem n_E : ∀ a, a < 9 → ∀ b, b < 9 → a ≠ b → (F_E a).2.1 ≠ (F_E b).2.1 := by decide +kernel
theorem t_E_ok : ∀ k, k < 9 → parseFieldDescriptor (F_E k).2.2.1 = some (t_E k) := by decide +kernel
theorem i_E : ∀ w ∈ u_ws R_E F_E 9, w ∈ std := by decide +kernel
theorem n_M : ∀ a, a < 3 → ∀ b, b < 3 → a ≠ b → (F_M a).2.1 ≠ (F_M b).2.1 := by decide +kernel
theorem t_M_ok : ∀ k, k < 3 → parseFieldDescriptor (F_M k).2.2.1 = some (t_M k) := by decide +kernel
theorem i_M : ∀ w ∈ u_ws R_M F_M 3, w ∈ std := by decide +kernel
abbrev classes : List vw_C := [(R_E, F_E, 9), (R_D, F_D, 6), (R_M, F_M, 3)]
abbrev b_D_init : ByteArray := prog_1_method_1_code
def y_D_init : MethodName := ⟨R_D, "<init>", "()V"⟩
theorem k_d_D_init : y_D_init.cls ≠ "java/lang/invoke/MethodHandle" ∧ y_D_init.cls ≠ "java/lang/invoke/VarHandle" ∧ (parseMethodDescriptor y_D_init.desc).map (fun d => d.parameters.length) = some 0 := by decide +kernel
abbrev b_D_add : ByteArray := prog_1_method_2_code
def y_D_add : MethodName := ⟨R_D, "add", "(I)Z"⟩
theorem k_d_D_add : y_D_add.cls ≠ "java/lang/invoke/MethodHandle" ∧ y_D_add.cls ≠ "java/lang/invoke/VarHandle" ∧ (parseMethodDescriptor y_D_add.desc).map (fun d => d.parameters.length) = some 1 := by decide +kernel
abbrev b_D_put : ByteArray := prog_1_method_3_code
def y_D_put : MethodName := ⟨R_D, "put", "(IIII)Z"⟩
theorem k_d_D_put : y_D_put.cls ≠ "java/lang/invoke/MethodHandle" ∧ y_D_put.cls ≠ "java/lang/invoke/VarHandle" ∧ (parseMethodDescriptor y_D_put.desc).map (fun d => d.parameters.length) = some 4 := by decide +kernel
abbrev b_D_one : ByteArray := prog_1_method_4_code
def y_D_one : MethodName := ⟨R_D, "one", "(I)Z"⟩
theorem k_d_D_one : y_D_one.cls ≠ "java/lang/invoke/MethodHandle" ∧ y_D_one.cls ≠ "java/lang/invoke/VarHandle" ∧ (parseMethodDescriptor y_D_one.desc).map (fun d => d.parameters.length) = some 1 := by decide +kernel
abbrev b_D_cut : ByteArray := prog_1_method_5_code
def y_D_cut : MethodName := ⟨R_D, "cut", "()Z"⟩
theorem k_d_D_cut : y_D_cut.cls ≠ "java/lang/invoke/MethodHandle" ∧ y_D_cut.cls ≠ "java/lang/invoke/VarHandle" ∧ (parseMethodDescriptor y_D_cut.desc).map (fun d => d.parameters.length) = some 0 := by decide +kernel
abbrev b_D_length : ByteArray := prog_1_method_6_code
def y_D_length : MethodName := ⟨R_D, "length", "()I"⟩
theorem k_d_D_length : y_D_length.cls ≠ "java/lang/invoke/MethodHandle" ∧ y_D_length.cls ≠ "java/lang/invoke/VarHandle" ∧ (parseMethodDescriptor y_D_length.desc).map (fun d => d.parameters.length) = some 0 := by decide +kernel
abbrev b_D_ready : ByteArray := prog_1_method_7_code
def y_D_ready : MethodName := ⟨R_D, "ready", "()V"⟩
theorem k_d_D_ready : y_D_ready.cls ≠ "java/lang/invoke/MethodHandle" ∧ y_D_ready.cls ≠ "java/lang/invoke/VarHandle" ∧ (parseMethodDescriptor y_D_ready.desc).map (fun d => d.parameters.length) = some 0 := by decide +kernel
abbrev b_D_different : ByteArray := prog_1_method_8_code
def y_D_different : MethodName := ⟨R_D, "different", "()I"⟩
theorem k_d_D_different : y_D_different.cls ≠ "java/lang/invoke/MethodHandle" ∧ y_D_different.cls ≠ "java/lang/invoke/VarHandle" ∧ (parseMethodDescriptor y_D_different.desc).map (fun d => d.parameters.length) = some 0 := by decide +kernel
abbrev b_D_longest : ByteArray := prog_1_method_9_code
def y_D_longest : MethodName := ⟨R_D, "longest", "()I"⟩
theorem k_d_D_longest : y_D_longest.cls ≠ "java/lang/invoke/MethodHandle" ∧ y_D_longest.cls ≠ "java/lang/invoke/VarHandle" ∧ (parseMethodDescriptor y_D_longest.desc).map (fun d => d.parameters.length) = some 0 := by decide +kernel
abbrev b_D_below : ByteArray := prog_1_method_10_code
def y_D_below : MethodName := ⟨R_D, "below", "(II)I"⟩
theorem k_d_D_below : y_D_below.cls ≠ "java/lang/invoke/MethodHandle" ∧ y_D_below.cls ≠ "java/lang/invoke/VarHandle" ∧ (parseMethodDescriptor y_D_below.desc).map (fun d => d.parameters.length) = some 2 := by decide +kernel
abbrev b_D_times : ByteArray := prog_1_method_11_code
def y_D_times : MethodName := ⟨R_D, "times", "(II)I"⟩
theorem k_d_D_times : y_D_times.cls ≠ "java/lang/invoke/MethodHandle" ∧ y_D_times.cls ≠ "java/lang/invoke/VarHandle" ∧ (parseMethodDescriptor y_D_times.desc).map (fun d => d.parameters.length) = some 2 := by decide +kernel
abbrev b_D_rank : ByteArray := prog_1_method_12_code
def y_D_rank : MethodName := ⟨R_D, "rank", "(I)I"⟩
theorem k_d_D_rank : y_D_rank.cls ≠ "java/lang/invoke/MethodHandle" ∧ y_D_rank.cls ≠ "java/lang/invoke/VarHandle" ∧ (parseMethodDescriptor y_D_rank.desc).map (fun d => d.parameters.length) = some 1 := by decide +kernel
abbrev b_D_period : ByteArray := prog_1_method_13_code
def y_D_period : MethodName := ⟨R_D, "period", "()I"⟩
theorem k_d_D_period : y_D_period.cls ≠ "java/lang/invoke/MethodHandle" ∧ y_D_period.cls ≠ "java/lang/invoke/VarHandle" ∧ (parseMethodDescriptor y_D_period.desc).map (fun d => d.parameters.length) = some 0 := by decide +kernel
abbrev b_D_mirror : ByteArray := prog_1_method_14_code
def y_D_mirror : MethodName := ⟨R_D, "mirror", "()I"⟩
theorem k_d_D_mirror : y_D_mirror.cls ≠ "java/lang/invoke/MethodHandle" ∧ y_D_mirror.cls ≠ "java/lang/invoke/VarHandle" ∧ (parseMethodDescriptor y_D_mirror.desc).map (fun d => d.parameters.length) = some 0 := by decide +kernel
abbrev b_M_init : ByteArray := prog_4_method_1_code
def y_M_init : MethodName := ⟨R_M, "<init>", "()V"⟩
theorem k_d_M_init : y_M_init.cls ≠ "java/lang/invoke/MethodHandle" ∧ y_M_init.cls ≠ "java/lang/invoke/VarHandle" ∧ (parseMethodDescriptor y_M_init.desc).map (fun d => d.parameters.length) = some 0 := by decide +kernel
abbrev b_M_put : ByteArray := prog_4_method_2_code
def y_M_put : MethodName := ⟨R_M, "put", "(IIII)Z"⟩
theorem k_d_M_put : y_M_put.cls ≠ "java/lang/invoke/MethodHandle" ∧ y_M_put.cls ≠ "java/lang/invoke/VarHandle" ∧ (parseMethodDescriptor y_M_put.desc).map (fun d => d.parameters.length) = some 4 := by decide +kernel
abbrev b_M_one : ByteArray := prog_4_method_3_code
def y_M_one : MethodName := ⟨R_M, "one", "(I)Z"⟩
theorem k_d_M_one : y_M_one.cls ≠ "java/lang/invoke/MethodHandle" ∧ y_M_one.cls ≠ "java/lang/invoke/VarHandle" ∧ (parseMethodDescriptor y_M_one.desc).map (fun d => d.parameters.length) = some 1 := by decide +kernel
abbrev b_M_cut : ByteArray := prog_4_method_4_code
def y_M_cut : MethodName := ⟨R_M, "cut", "()Z"⟩
theorem k_d_M_cut : y_M_cut.cls ≠ "java/lang/invoke/MethodHandle" ∧ y_M_cut.cls ≠ "java/lang/invoke/VarHandle" ∧ (parseMethodDescriptor y_M_cut.desc).map (fun d => d.parameters.length) = some 0 := by decide +kernel
abbrev b_M_length : ByteArray := prog_4_method_5_code
def y_M_length : MethodName := ⟨R_M, "length", "()I"⟩
theorem k_d_M_length : y_M_length.cls ≠ "java/lang/invoke/MethodHandle" ∧ y_M_length.cls ≠ "java/lang/invoke/VarHandle" ∧ (parseMethodDescriptor y_M_length.desc).map (fun d => d.parameters.length) = some 0 := by decide +kernel
abbrev b_M_reckon : ByteArray := prog_4_method_6_code
def y_M_reckon : MethodName := ⟨R_M, "reckon", "()V"⟩
theorem k_d_M_reckon : y_M_reckon.cls ≠ "java/lang/invoke/MethodHandle" ∧ y_M_reckon.cls ≠ "java/lang/invoke/VarHandle" ∧ (parseMethodDescriptor y_M_reckon.desc).map (fun d => d.parameters.length) = some 0 := by decide +kernel
abbrev b_M_same : ByteArray := prog_4_method_7_code
def y_M_same : MethodName := ⟨R_M, "same", "(II)I"⟩
theorem k_d_M_same : y_M_same.cls ≠ "java/lang/invoke/MethodHandle" ∧ y_M_same.cls ≠ "java/lang/invoke/VarHandle" ∧ (parseMethodDescriptor y_M_same.desc).map (fun d => d.parameters.length) = some 2 := by decide +kernel
abbrev b_M_different : ByteArray := prog_4_method_8_code
def y_M_different : MethodName := ⟨R_M, "different", "()I"⟩
theorem k_d_M_different : y_M_different.cls ≠ "java/lang/invoke/MethodHandle" ∧ y_M_different.cls ≠ "java/lang/invoke/VarHandle" ∧ (parseMethodDescriptor y_M_different.desc).map (fun d => d.parameters.length) = some 0 := by decide +kernel
abbrev b_M_longest : ByteArray := prog_4_method_9_code
def y_M_longest : MethodName := ⟨R_M, "longest", "()I"⟩
theorem k_d_M_longest : y_M_longest.cls ≠ "java/lang/invoke/MethodHandle" ∧ y_M_longest.cls ≠ "java/lang/invoke/VarHandle" ∧ (parseMethodDescriptor y_M_longest.desc).map (fun d => d.parameters.length) = some 0 := by decide +kernel
abbrev b_M_times : ByteArray := prog_4_method_10_code
def y_M_times : MethodName := ⟨R_M, "times", "(II)I"⟩
theorem k_d_M_times : y_M_times.cls ≠ "java/lang/invoke/MethodHandle" ∧ y_M_times.cls ≠ "java/lang/invoke/VarHandle" ∧ (parseMethodDescriptor y_M_times.desc).map (fun d => d.parameters.length) = some 2 := by decide +kernel
abbrev b_M_rank : ByteArray := prog_4_method_11_code
def y_M_rank : MethodName := ⟨R_M, "rank", "(I)I"⟩
theorem k_d_M_rank : y_M_rank.cls ≠ "java/lang/invoke/MethodHandle" ∧ y_M_rank.cls ≠ "java/lang/invoke/VarHandle" ∧ (parseMethodDescriptor y_M_rank.desc).map (fun d => d.parameters.length) = some 1 := by decide +kernel
abbrev b_M_period : ByteArray := prog_4_method_12_code
def y_M_period : MethodName := ⟨R_M, "period", "()I"⟩
theorem k_d_M_period : y_M_period.cls ≠ "java/lang/invoke/MethodHandle" ∧ y_M_period.cls ≠ "java/lang/invoke/VarHandle" ∧ (parseMethodDescriptor y_M_period.desc).map (fun d => d.parameters.length) = some 0 := by decide +kernel
abbrev b_M_mirror : ByteArray := prog_4_method_13_code
def y_M_mirror : MethodName := ⟨R_M, "mirror", "()I"⟩
theorem k_d_M_mirror : y_M_mirror.cls ≠ "java/lang/invoke/MethodHandle" ∧ y_M_mirror.cls ≠ "java/lang/invoke/VarHandle" ∧ (parseMethodDescriptor y_M_mirror.desc).map (fun d => d.parameters.length) = some 0 := by decide +kernel
abbrev b_E_init : ByteArray := prog_2_method_1_code
def y_E_init : MethodName := ⟨R_E, "<init>", "()V"⟩
theorem k_d_E_init : y_E_init.cls ≠ "java/lang/invoke/MethodHandle" ∧ y_E_init.cls ≠ "java/lang/invoke/VarHandle" ∧ (parseMethodDescriptor y_E_init.desc).map (fun d => d.parameters.length) = some 0 := by decide +kernel
abbrev b_E_make : ByteArray := prog_2_method_2_code
def y_E_make : MethodName := ⟨R_E, "make", "([II)V"⟩
theorem k_d_E_make : y_E_make.cls ≠ "java/lang/invoke/MethodHandle" ∧ y_E_make.cls ≠ "java/lang/invoke/VarHandle" ∧ (parseMethodDescriptor y_E_make.desc).map (fun d => d.parameters.length) = some 2 := by decide +kernel
abbrev b_E_byLetters : ByteArray := prog_2_method_3_code
def y_E_byLetters : MethodName := ⟨R_E, "byLetters", "([I)V"⟩
theorem k_d_E_byLetters : y_E_byLetters.cls ≠ "java/lang/invoke/MethodHandle" ∧ y_E_byLetters.cls ≠ "java/lang/invoke/VarHandle" ∧ (parseMethodDescriptor y_E_byLetters.desc).map (fun d => d.parameters.length) = some 1 := by decide +kernel
abbrev b_E_twice : ByteArray := prog_2_method_4_code
def y_E_twice : MethodName := ⟨R_E, "twice", "(I)V"⟩
theorem k_d_E_twice : y_E_twice.cls ≠ "java/lang/invoke/MethodHandle" ∧ y_E_twice.cls ≠ "java/lang/invoke/VarHandle" ∧ (parseMethodDescriptor y_E_twice.desc).map (fun d => d.parameters.length) = some 1 := by decide +kernel
abbrev b_E_behind : ByteArray := prog_2_method_5_code
def y_E_behind : MethodName := ⟨R_E, "behind", "(II)I"⟩
theorem k_d_E_behind : y_E_behind.cls ≠ "java/lang/invoke/MethodHandle" ∧ y_E_behind.cls ≠ "java/lang/invoke/VarHandle" ∧ (parseMethodDescriptor y_E_behind.desc).map (fun d => d.parameters.length) = some 2 := by decide +kernel
abbrev b_E_alike : ByteArray := prog_2_method_6_code
def y_E_alike : MethodName := ⟨R_E, "alike", "(III)Z"⟩
theorem k_d_E_alike : y_E_alike.cls ≠ "java/lang/invoke/MethodHandle" ∧ y_E_alike.cls ≠ "java/lang/invoke/VarHandle" ∧ (parseMethodDescriptor y_E_alike.desc).map (fun d => d.parameters.length) = some 3 := by decide +kernel
abbrev b_E_neighbours : ByteArray := prog_2_method_7_code
def y_E_neighbours : MethodName := ⟨R_E, "neighbours", "([I)V"⟩
theorem k_d_E_neighbours : y_E_neighbours.cls ≠ "java/lang/invoke/MethodHandle" ∧ y_E_neighbours.cls ≠ "java/lang/invoke/VarHandle" ∧ (parseMethodDescriptor y_E_neighbours.desc).map (fun d => d.parameters.length) = some 1 := by decide +kernel
theorem k_in_L : Cond.initialized R_L ∈ std := std_of 0 (by decide +kernel) rfl
theorem k_in_D : Cond.initialized R_D ∈ std := std_of 1 (by decide +kernel) rfl
theorem k_in_E : Cond.initialized R_E ∈ std := std_of 2 (by decide +kernel) rfl
theorem k_in_M : Cond.initialized R_M ∈ std := std_of 3 (by decide +kernel) rfl
theorem k_in_Math : Cond.initialized "java/lang/Math" ∈ std := std_of 4 (by decide +kernel) rfl
theorem k_cl_L_7 : Cond.classLink R_L 7 R_D ∈ std := std_of 5 (by decide +kernel) rfl
theorem k_n_D : Cond.instantiable R_D 6 ∈ std := std_of 6 (by decide +kernel) rfl
theorem k_l_L_9 : Cond.methodLink R_L 9 y_D_init ∈ std := std_of 7 (by decide +kernel) rfl
theorem k_i_D_init : Cond.instanceMethod y_D_init ∈ std := std_of 8 (by decide +kernel) rfl
theorem k_c_D_init : Cond.code y_D_init b_D_init 1 none ∈ std := std_of 9 (by rfl) rfl
theorem k_l_D_1 : Cond.methodLink R_D 1 objectInit ∈ std := std_of 10 (by decide +kernel) rfl
theorem k_i_obj : Cond.instanceMethod objectInit ∈ std := std_of 11 (by decide +kernel) rfl
theorem k_c_obj : Cond.code objectInit ⟨#[0xb1]⟩ 1 none ∈ std := std_of 12 (by rfl) rfl
theorem k_cl_D_19 : Cond.classLink R_D 19 R_E ∈ std := std_of 13 (by decide +kernel) rfl
theorem k_n_E : Cond.instantiable R_E 9 ∈ std := std_of 14 (by decide +kernel) rfl
theorem k_i_E_init : Cond.instanceMethod y_E_init ∈ std := std_of 16 (by decide +kernel) rfl
theorem k_c_E_init : Cond.code y_E_init b_E_init 1 none ∈ std := std_of 17 (by rfl) rfl
theorem k_l_E_3 : Cond.methodLink R_E 3 objectInit ∈ std := std_of 18 (by decide +kernel) rfl
theorem k_f_E_9 : Cond.fieldLink R_E 9 R_E "order" "[I" ∈ std := std_of 19 (by decide +kernel) rfl
theorem k_f_D_45 : Cond.fieldLink R_D 45 R_E "order" "[I" ∈ std := std_of 20 (by decide +kernel) rfl
theorem k_f_E_15 : Cond.fieldLink R_E 15 R_E "place" "[I" ∈ std := std_of 21 (by decide +kernel) rfl
theorem k_f_D_63 : Cond.fieldLink R_D 63 R_E "place" "[I" ∈ std := std_of 22 (by decide +kernel) rfl
theorem k_f_E_18 : Cond.fieldLink R_E 18 R_E "common" "[I" ∈ std := std_of 23 (by decide +kernel) rfl
theorem k_f_D_48 : Cond.fieldLink R_D 48 R_E "common" "[I" ∈ std := std_of 24 (by decide +kernel) rfl
theorem k_f_E_21 : Cond.fieldLink R_E 21 R_E "group" "[I" ∈ std := std_of 25 (by decide +kernel) rfl
theorem k_f_E_24 : Cond.fieldLink R_E 24 R_E "then" "[I" ∈ std := std_of 26 (by decide +kernel) rfl
theorem k_f_E_27 : Cond.fieldLink R_E 27 R_E "second" "[I" ∈ std := std_of 27 (by decide +kernel) rfl
theorem k_f_E_30 : Cond.fieldLink R_E 30 R_E "count" "[I" ∈ std := std_of 28 (by decide +kernel) rfl
theorem k_f_E_33 : Cond.fieldLink R_E 33 R_E "many" "I" ∈ std := std_of 29 (by decide +kernel) rfl
theorem k_f_E_41 : Cond.fieldLink R_E 41 R_E "groups" "I" ∈ std := std_of 30 (by decide +kernel) rfl
theorem k_arr : Cond.arrayClass .int ∈ std := std_of 50 (by decide +kernel) rfl
theorem k_f_D_9 : Cond.fieldLink R_D 9 R_D "text" "[I" ∈ std := std_of 51 (by decide +kernel) rfl
theorem k_f_D_13 : Cond.fieldLink R_D 13 R_D "border" "[I" ∈ std := std_of 52 (by decide +kernel) rfl
theorem k_f_D_16 : Cond.fieldLink R_D 16 R_D "reach" "[I" ∈ std := std_of 53 (by decide +kernel) rfl
theorem k_f_D_22 : Cond.fieldLink R_D 22 R_D "ends" "LPartsDesk$Ends;" ∈ std := std_of 54 (by decide +kernel) rfl
theorem k_f_D_26 : Cond.fieldLink R_D 26 R_D "n" "I" ∈ std := std_of 55 (by decide +kernel) rfl
theorem k_f_D_30 : Cond.fieldLink R_D 30 R_D "made" "Z" ∈ std := std_of 56 (by decide +kernel) rfl
theorem k_l_L_13 : Cond.methodLink R_L 13 y_D_put ∈ std := std_of 70 (by decide +kernel) rfl
theorem k_i_D_put : Cond.instanceMethod y_D_put ∈ std := std_of 71 (by decide +kernel) rfl
theorem k_s_D_put : Cond.selects R_D y_D_put y_D_put ∈ std := std_of 72 (by decide +kernel) rfl
theorem k_c_D_put : Cond.code y_D_put b_D_put 5 (some .boolean) ∈ std := std_of 73 (by rfl) rfl
theorem k_l_D_34 : Cond.methodLink R_D 34 y_D_add ∈ std := std_of 74 (by decide +kernel) rfl
theorem k_i_D_add : Cond.instanceMethod y_D_add ∈ std := std_of 76 (by decide +kernel) rfl
theorem k_c_D_add : Cond.code y_D_add b_D_add 2 (some .boolean) ∈ std := std_of 77 (by rfl) rfl
theorem k_l_L_18 : Cond.methodLink R_L 18 y_D_one ∈ std := std_of 78 (by decide +kernel) rfl
theorem k_i_D_one : Cond.instanceMethod y_D_one ∈ std := std_of 79 (by decide +kernel) rfl
theorem k_s_D_one : Cond.selects R_D y_D_one y_D_one ∈ std := std_of 80 (by decide +kernel) rfl
theorem k_c_D_one : Cond.code y_D_one b_D_one 2 (some .boolean) ∈ std := std_of 81 (by rfl) rfl
theorem k_l_L_23 : Cond.methodLink R_L 23 y_D_cut ∈ std := std_of 82 (by decide +kernel) rfl
theorem k_i_D_cut : Cond.instanceMethod y_D_cut ∈ std := std_of 83 (by decide +kernel) rfl
theorem k_s_D_cut : Cond.selects R_D y_D_cut y_D_cut ∈ std := std_of 84 (by decide +kernel) rfl
theorem k_c_D_cut : Cond.code y_D_cut b_D_cut 1 (some .boolean) ∈ std := std_of 85 (by rfl) rfl
theorem k_l_L_28 : Cond.methodLink R_L 28 y_D_length ∈ std := std_of 86 (by decide +kernel) rfl
theorem k_i_D_length : Cond.instanceMethod y_D_length ∈ std := std_of 87 (by decide +kernel) rfl
theorem k_s_D_length : Cond.selects R_D y_D_length y_D_length ∈ std := std_of 88 (by decide +kernel) rfl
theorem k_c_D_length : Cond.code y_D_length b_D_length 1 (some .int) ∈ std := std_of 89 (by rfl) rfl
theorem k_l_L_33 : Cond.methodLink R_L 33 y_D_different ∈ std := std_of 90 (by decide +kernel) rfl
theorem k_i_D_different : Cond.instanceMethod y_D_different ∈ std := std_of 91 (by decide +kernel) rfl
theorem k_s_D_different : Cond.selects R_D y_D_different y_D_different ∈ std := std_of 92 (by decide +kernel) rfl
theorem k_c_D_different : Cond.code y_D_different b_D_different 3 (some .int) ∈ std := std_of 93 (by rfl) rfl
theorem k_l_D_42 : Cond.methodLink R_D 42 y_D_ready ∈ std := std_of 94 (by decide +kernel) rfl
theorem k_i_D_ready : Cond.instanceMethod y_D_ready ∈ std := std_of 96 (by decide +kernel) rfl
theorem k_c_D_ready : Cond.code y_D_ready b_D_ready 1 none ∈ std := std_of 97 (by rfl) rfl
theorem k_l_D_38 : Cond.methodLink R_D 38 y_E_make ∈ std := std_of 98 (by decide +kernel) rfl
theorem k_i_E_make : Cond.instanceMethod y_E_make ∈ std := std_of 99 (by decide +kernel) rfl
theorem k_s_E_make : Cond.selects R_E y_E_make y_E_make ∈ std := std_of 100 (by decide +kernel) rfl
theorem k_c_E_make : Cond.code y_E_make b_E_make 4 none ∈ std := std_of 101 (by rfl) rfl
theorem k_l_E_37 : Cond.methodLink R_E 37 y_E_byLetters ∈ std := std_of 102 (by decide +kernel) rfl
theorem k_i_E_byLetters : Cond.instanceMethod y_E_byLetters ∈ std := std_of 104 (by decide +kernel) rfl
theorem k_c_E_byLetters : Cond.code y_E_byLetters b_E_byLetters 6 none ∈ std := std_of 105 (by rfl) rfl
theorem k_l_E_44 : Cond.methodLink R_E 44 y_E_twice ∈ std := std_of 106 (by decide +kernel) rfl
theorem k_i_E_twice : Cond.instanceMethod y_E_twice ∈ std := std_of 108 (by decide +kernel) rfl
theorem k_c_E_twice : Cond.code y_E_twice b_E_twice 5 none ∈ std := std_of 109 (by rfl) rfl
theorem k_l_E_51 : Cond.methodLink R_E 51 y_E_alike ∈ std := std_of 110 (by decide +kernel) rfl
theorem k_i_E_alike : Cond.instanceMethod y_E_alike ∈ std := std_of 112 (by decide +kernel) rfl
theorem k_c_E_alike : Cond.code y_E_alike b_E_alike 4 (some .boolean) ∈ std := std_of 113 (by rfl) rfl
theorem k_l_E_55 : Cond.methodLink R_E 55 y_E_behind ∈ std := std_of 114 (by decide +kernel) rfl
theorem k_i_E_behind : Cond.instanceMethod y_E_behind ∈ std := std_of 116 (by decide +kernel) rfl
theorem k_c_E_behind : Cond.code y_E_behind b_E_behind 3 (some .int) ∈ std := std_of 117 (by rfl) rfl
theorem k_l_E_48 : Cond.methodLink R_E 48 y_E_neighbours ∈ std := std_of 118 (by decide +kernel) rfl
theorem k_i_E_neighbours : Cond.instanceMethod y_E_neighbours ∈ std := std_of 120 (by decide +kernel) rfl
theorem k_c_E_neighbours : Cond.code y_E_neighbours b_E_neighbours 5 none ∈ std := std_of 121 (by rfl) rfl
theorem k_l_L_37 : Cond.methodLink R_L 37 y_D_longest ∈ std := std_of 122 (by decide +kernel) rfl
theorem k_i_D_longest : Cond.instanceMethod y_D_longest ∈ std := std_of 123 (by decide +kernel) rfl
theorem k_s_D_longest : Cond.selects R_D y_D_longest y_D_longest ∈ std := std_of 124 (by decide +kernel) rfl
theorem k_c_D_longest : Cond.code y_D_longest b_D_longest 3 (some .int) ∈ std := std_of 125 (by rfl) rfl
theorem k_l_D_51 : Cond.methodLink R_D 51 Lib.Math.max.name ∈ std := std_of 126 (by decide +kernel) rfl
theorem k_st_Math_max : Cond.static Lib.Math.max.name ∈ std := std_of 127 (by decide +kernel) rfl
theorem k_c_Math_max : Cond.code Lib.Math.max.name Lib.Math.max.code 2 (some .int) ∈ std := std_of 128 (by rfl) rfl
theorem k_l_L_41 : Cond.methodLink R_L 41 y_D_times ∈ std := std_of 129 (by decide +kernel) rfl
theorem k_i_D_times : Cond.instanceMethod y_D_times ∈ std := std_of 130 (by decide +kernel) rfl
theorem k_s_D_times : Cond.selects R_D y_D_times y_D_times ∈ std := std_of 131 (by decide +kernel) rfl
theorem k_c_D_times : Cond.code y_D_times b_D_times 7 (some .int) ∈ std := std_of 132 (by rfl) rfl
theorem k_l_D_60 : Cond.methodLink R_D 60 y_D_below ∈ std := std_of 133 (by decide +kernel) rfl
theorem k_st_D_below : Cond.static y_D_below ∈ std := std_of 134 (by decide +kernel) rfl
theorem k_c_D_below : Cond.code y_D_below b_D_below 2 (some .int) ∈ std := std_of 135 (by rfl) rfl
theorem k_k_D_59 : Cond.constant R_D 59 2147483647 ∈ std := std_of 136 (by decide +kernel) rfl
theorem k_l_L_46 : Cond.methodLink R_L 46 y_D_rank ∈ std := std_of 137 (by decide +kernel) rfl
theorem k_i_D_rank : Cond.instanceMethod y_D_rank ∈ std := std_of 138 (by decide +kernel) rfl
theorem k_s_D_rank : Cond.selects R_D y_D_rank y_D_rank ∈ std := std_of 139 (by decide +kernel) rfl
theorem k_c_D_rank : Cond.code y_D_rank b_D_rank 2 (some .int) ∈ std := std_of 140 (by rfl) rfl
theorem k_l_L_51 : Cond.methodLink R_L 51 y_D_period ∈ std := std_of 141 (by decide +kernel) rfl
theorem k_i_D_period : Cond.instanceMethod y_D_period ∈ std := std_of 142 (by decide +kernel) rfl
theorem k_s_D_period : Cond.selects R_D y_D_period y_D_period ∈ std := std_of 143 (by decide +kernel) rfl
theorem k_c_D_period : Cond.code y_D_period b_D_period 3 (some .int) ∈ std := std_of 144 (by rfl) rfl
theorem k_l_L_55 : Cond.methodLink R_L 55 y_D_mirror ∈ std := std_of 145 (by decide +kernel) rfl
theorem k_i_D_mirror : Cond.instanceMethod y_D_mirror ∈ std := std_of 146 (by decide +kernel) rfl
theorem k_s_D_mirror : Cond.selects R_D y_D_mirror y_D_mirror ∈ std := std_of 147 (by decide +kernel) rfl
theorem k_c_D_mirror : Cond.code y_D_mirror b_D_mirror 6 (some .int) ∈ std := std_of 148 (by rfl) rfl
theorem k_l_D_66 : Cond.methodLink R_D 66 Lib.Math.min.name ∈ std := std_of 149 (by decide +kernel) rfl
theorem k_st_Math_min : Cond.static Lib.Math.min.name ∈ std := std_of 150 (by decide +kernel) rfl
theorem k_c_Math_min : Cond.code Lib.Math.min.name Lib.Math.min.code 2 (some .int) ∈ std := std_of 151 (by rfl) rfl
theorem k_cl_L_10 : Cond.classLink R_L 10 R_M ∈ std := std_of 152 (by decide +kernel) rfl
theorem k_n_M : Cond.instantiable R_M 3 ∈ std := std_of 153 (by decide +kernel) rfl
theorem k_l_L_12 : Cond.methodLink R_L 12 y_M_init ∈ std := std_of 154 (by decide +kernel) rfl
theorem k_i_M_init : Cond.instanceMethod y_M_init ∈ std := std_of 155 (by decide +kernel) rfl
theorem k_c_M_init : Cond.code y_M_init b_M_init 1 none ∈ std := std_of 156 (by rfl) rfl
theorem k_l_M_1 : Cond.methodLink R_M 1 objectInit ∈ std := std_of 157 (by decide +kernel) rfl
theorem k_f_M_7 : Cond.fieldLink R_M 7 R_M "text" "[I" ∈ std := std_of 158 (by decide +kernel) rfl
theorem k_f_M_16 : Cond.fieldLink R_M 16 R_M "n" "I" ∈ std := std_of 159 (by decide +kernel) rfl
theorem k_f_M_13 : Cond.fieldLink R_M 13 R_M "common" "[I" ∈ std := std_of 160 (by decide +kernel) rfl
theorem k_l_L_17 : Cond.methodLink R_L 17 y_M_put ∈ std := std_of 168 (by decide +kernel) rfl
theorem k_i_M_put : Cond.instanceMethod y_M_put ∈ std := std_of 169 (by decide +kernel) rfl
theorem k_s_M_put : Cond.selects R_M y_M_put y_M_put ∈ std := std_of 170 (by decide +kernel) rfl
theorem k_c_M_put : Cond.code y_M_put b_M_put 6 (some .boolean) ∈ std := std_of 171 (by rfl) rfl
theorem k_l_L_22 : Cond.methodLink R_L 22 y_M_one ∈ std := std_of 172 (by decide +kernel) rfl
theorem k_i_M_one : Cond.instanceMethod y_M_one ∈ std := std_of 173 (by decide +kernel) rfl
theorem k_s_M_one : Cond.selects R_M y_M_one y_M_one ∈ std := std_of 174 (by decide +kernel) rfl
theorem k_c_M_one : Cond.code y_M_one b_M_one 2 (some .boolean) ∈ std := std_of 175 (by rfl) rfl
theorem k_l_L_27 : Cond.methodLink R_L 27 y_M_cut ∈ std := std_of 176 (by decide +kernel) rfl
theorem k_i_M_cut : Cond.instanceMethod y_M_cut ∈ std := std_of 177 (by decide +kernel) rfl
theorem k_s_M_cut : Cond.selects R_M y_M_cut y_M_cut ∈ std := std_of 178 (by decide +kernel) rfl
theorem k_c_M_cut : Cond.code y_M_cut b_M_cut 1 (some .boolean) ∈ std := std_of 179 (by rfl) rfl
theorem k_l_L_32 : Cond.methodLink R_L 32 y_M_length ∈ std := std_of 180 (by decide +kernel) rfl
theorem k_i_M_length : Cond.instanceMethod y_M_length ∈ std := std_of 181 (by decide +kernel) rfl
theorem k_s_M_length : Cond.selects R_M y_M_length y_M_length ∈ std := std_of 182 (by decide +kernel) rfl
theorem k_c_M_length : Cond.code y_M_length b_M_length 1 (some .int) ∈ std := std_of 183 (by rfl) rfl
theorem k_l_L_36 : Cond.methodLink R_L 36 y_M_different ∈ std := std_of 184 (by decide +kernel) rfl
theorem k_i_M_different : Cond.instanceMethod y_M_different ∈ std := std_of 185 (by decide +kernel) rfl
theorem k_s_M_different : Cond.selects R_M y_M_different y_M_different ∈ std := std_of 186 (by decide +kernel) rfl
theorem k_c_M_different : Cond.code y_M_different b_M_different 6 (some .int) ∈ std := std_of 187 (by rfl) rfl
theorem k_l_M_20 : Cond.methodLink R_M 20 y_M_reckon ∈ std := std_of 188 (by decide +kernel) rfl
theorem k_i_M_reckon : Cond.instanceMethod y_M_reckon ∈ std := std_of 190 (by decide +kernel) rfl
theorem k_c_M_reckon : Cond.code y_M_reckon b_M_reckon 3 none ∈ std := std_of 191 (by rfl) rfl
theorem k_l_M_23 : Cond.methodLink R_M 23 y_M_same ∈ std := std_of 192 (by decide +kernel) rfl
theorem k_i_M_same : Cond.instanceMethod y_M_same ∈ std := std_of 194 (by decide +kernel) rfl
theorem k_c_M_same : Cond.code y_M_same b_M_same 3 (some .int) ∈ std := std_of 195 (by rfl) rfl
theorem k_l_L_40 : Cond.methodLink R_L 40 y_M_longest ∈ std := std_of 196 (by decide +kernel) rfl
theorem k_i_M_longest : Cond.instanceMethod y_M_longest ∈ std := std_of 197 (by decide +kernel) rfl
theorem k_s_M_longest : Cond.selects R_M y_M_longest y_M_longest ∈ std := std_of 198 (by decide +kernel) rfl
theorem k_c_M_longest : Cond.code y_M_longest b_M_longest 5 (some .int) ∈ std := std_of 199 (by rfl) rfl
theorem k_l_L_45 : Cond.methodLink R_L 45 y_M_times ∈ std := std_of 200 (by decide +kernel) rfl
theorem k_i_M_times : Cond.instanceMethod y_M_times ∈ std := std_of 201 (by decide +kernel) rfl
theorem k_s_M_times : Cond.selects R_M y_M_times y_M_times ∈ std := std_of 202 (by decide +kernel) rfl
theorem k_c_M_times : Cond.code y_M_times b_M_times 7 (some .int) ∈ std := std_of 203 (by rfl) rfl
theorem k_k_M_27 : Cond.constant R_M 27 2147483647 ∈ std := std_of 204 (by decide +kernel) rfl
theorem k_l_L_50 : Cond.methodLink R_L 50 y_M_rank ∈ std := std_of 205 (by decide +kernel) rfl
theorem k_i_M_rank : Cond.instanceMethod y_M_rank ∈ std := std_of 206 (by decide +kernel) rfl
theorem k_s_M_rank : Cond.selects R_M y_M_rank y_M_rank ∈ std := std_of 207 (by decide +kernel) rfl
theorem k_c_M_rank : Cond.code y_M_rank b_M_rank 6 (some .int) ∈ std := std_of 208 (by rfl) rfl
theorem k_l_L_54 : Cond.methodLink R_L 54 y_M_period ∈ std := std_of 209 (by decide +kernel) rfl
theorem k_i_M_period : Cond.instanceMethod y_M_period ∈ std := std_of 210 (by decide +kernel) rfl
theorem k_s_M_period : Cond.selects R_M y_M_period y_M_period ∈ std := std_of 211 (by decide +kernel) rfl
theorem k_c_M_period : Cond.code y_M_period b_M_period 2 (some .int) ∈ std := std_of 212 (by rfl) rfl
theorem k_l_L_58 : Cond.methodLink R_L 58 y_M_mirror ∈ std := std_of 213 (by decide +kernel) rfl
theorem k_i_M_mirror : Cond.instanceMethod y_M_mirror ∈ std := std_of 214 (by decide +kernel) rfl
theorem k_s_M_mirror : Cond.selects R_M y_M_mirror y_M_mirror ∈ std := std_of 215 (by decide +kernel) rfl
theorem k_c_M_mirror : Cond.code y_M_mirror b_M_mirror 6 (some .int) ∈ std := std_of 216 (by rfl) rfl
theorem k_s_D_add : Cond.selects R_D y_D_add y_D_add ∈ std := List.mem_of_getElem? (i := 0) (by decide +kernel)
theorem k_s_D_ready : Cond.selects R_D y_D_ready y_D_ready ∈ std := List.mem_of_getElem? (i := 1) (by decide +kernel)
theorem k_s_E_byLetters : Cond.selects R_E y_E_byLetters y_E_byLetters ∈ std := List.mem_of_getElem? (i := 2) (by decide +kernel)
theorem k_s_E_twice : Cond.selects R_E y_E_twice y_E_twice ∈ std := List.mem_of_getElem? (i := 3) (by decide +kernel)
theorem k_s_E_alike : Cond.selects R_E y_E_alike y_E_alike ∈ std := List.mem_of_getElem? (i := 4) (by decide +kernel)
theorem k_s_E_behind : Cond.selects R_E y_E_behind y_E_behind ∈ std := List.mem_of_getElem? (i := 5) (by decide +kernel)
theorem k_s_E_neighbours : Cond.selects R_E y_E_neighbours y_E_neighbours ∈ std := List.mem_of_getElem? (i := 6) (by decide +kernel)
theorem k_s_M_reckon : Cond.selects R_M y_M_reckon y_M_reckon ∈ std := List.mem_of_getElem? (i := 7) (by decide +kernel)
theorem k_s_M_same : Cond.selects R_M y_M_same y_M_same ∈ std := List.mem_of_getElem? (i := 8) (by decide +kernel)
end
section
theorem d_E_init_0 : decode b_E_init 0 = .ok (.aload_n 0, 1) := by decide +kernel
theorem d_E_init_1 : decode b_E_init 1 = .ok (.invokespecial 3, 3) := by decide +kernel
theorem d_E_init_4 : decode b_E_init 4 = .ok (.aload_n 0, 1) := by decide +kernel
theorem d_E_init_5 : decode b_E_init 5 = .ok (.sipush 128, 3) := by decide +kernel
theorem d_E_init_8 : decode b_E_init 8 = .ok (.newarray .int, 2) := by decide +kernel
theorem d_E_init_10 : decode b_E_init 10 = .ok (.putfield 9, 3) := by decide +kernel
theorem d_E_init_13 : decode b_E_init 13 = .ok (.aload_n 0, 1) := by decide +kernel
theorem d_E_init_14 : decode b_E_init 14 = .ok (.sipush 128, 3) := by decide +kernel
theorem d_E_init_17 : decode b_E_init 17 = .ok (.newarray .int, 2) := by decide +kernel
theorem d_E_init_19 : decode b_E_init 19 = .ok (.putfield 15, 3) := by decide +kernel
theorem d_E_init_22 : decode b_E_init 22 = .ok (.aload_n 0, 1) := by decide +kernel
theorem d_E_init_23 : decode b_E_init 23 = .ok (.sipush 128, 3) := by decide +kernel
theorem d_E_init_26 : decode b_E_init 26 = .ok (.newarray .int, 2) := by decide +kernel
theorem d_E_init_28 : decode b_E_init 28 = .ok (.putfield 18, 3) := by decide +kernel
theorem d_E_init_31 : decode b_E_init 31 = .ok (.aload_n 0, 1) := by decide +kernel
theorem d_E_init_32 : decode b_E_init 32 = .ok (.sipush 128, 3) := by decide +kernel
theorem d_E_init_35 : decode b_E_init 35 = .ok (.newarray .int, 2) := by decide +kernel
theorem d_E_init_37 : decode b_E_init 37 = .ok (.putfield 21, 3) := by decide +kernel
theorem d_E_init_40 : decode b_E_init 40 = .ok (.aload_n 0, 1) := by decide +kernel
theorem d_E_init_41 : decode b_E_init 41 = .ok (.sipush 128, 3) := by decide +kernel
theorem d_E_init_44 : decode b_E_init 44 = .ok (.newarray .int, 2) := by decide +kernel
theorem d_E_init_46 : decode b_E_init 46 = .ok (.putfield 24, 3) := by decide +kernel
theorem d_E_init_49 : decode b_E_init 49 = .ok (.aload_n 0, 1) := by decide +kernel
theorem d_E_init_50 : decode b_E_init 50 = .ok (.sipush 128, 3) := by decide +kernel
theorem d_E_init_53 : decode b_E_init 53 = .ok (.newarray .int, 2) := by decide +kernel
theorem d_E_init_55 : decode b_E_init 55 = .ok (.putfield 27, 3) := by decide +kernel
theorem d_E_init_58 : decode b_E_init 58 = .ok (.aload_n 0, 1) := by decide +kernel
theorem d_E_init_59 : decode b_E_init 59 = .ok (.sipush 129, 3) := by decide +kernel
theorem d_E_init_62 : decode b_E_init 62 = .ok (.newarray .int, 2) := by decide +kernel
theorem d_E_init_64 : decode b_E_init 64 = .ok (.putfield 30, 3) := by decide +kernel
theorem d_E_init_67 : decode b_E_init 67 = .ok (.return_, 1) := by decide +kernel
theorem d_E_make_0 : decode b_E_make 0 = .ok (.aload_n 0, 1) := by decide +kernel
theorem d_E_make_1 : decode b_E_make 1 = .ok (.iload_n 2, 1) := by decide +kernel
theorem d_E_make_2 : decode b_E_make 2 = .ok (.putfield 33, 3) := by decide +kernel
theorem d_E_make_5 : decode b_E_make 5 = .ok (.aload_n 0, 1) := by decide +kernel
theorem d_E_make_6 : decode b_E_make 6 = .ok (.aload_n 1, 1) := by decide +kernel
theorem d_E_make_7 : decode b_E_make 7 = .ok (.invokevirtual 37, 3) := by decide +kernel
theorem d_E_make_10 : decode b_E_make 10 = .ok (.iconst 1, 1) := by decide +kernel
theorem d_E_make_11 : decode b_E_make 11 = .ok (.istore_n 3, 1) := by decide +kernel
theorem d_E_make_12 : decode b_E_make 12 = .ok (.aload_n 0, 1) := by decide +kernel
theorem d_E_make_13 : decode b_E_make 13 = .ok (.getfield 41, 3) := by decide +kernel
theorem d_E_make_16 : decode b_E_make 16 = .ok (.iload_n 2, 1) := by decide +kernel
theorem d_E_make_17 : decode b_E_make 17 = .ok (.if_icmp .ge 15, 3) := by decide +kernel
theorem d_E_make_20 : decode b_E_make 20 = .ok (.aload_n 0, 1) := by decide +kernel
theorem d_E_make_21 : decode b_E_make 21 = .ok (.iload_n 3, 1) := by decide +kernel
theorem d_E_make_22 : decode b_E_make 22 = .ok (.invokevirtual 44, 3) := by decide +kernel
theorem d_E_make_25 : decode b_E_make 25 = .ok (.iconst 2, 1) := by decide +kernel
theorem d_E_make_26 : decode b_E_make 26 = .ok (.iload_n 3, 1) := by decide +kernel
theorem d_E_make_27 : decode b_E_make 27 = .ok (.imul, 1) := by decide +kernel
theorem d_E_make_28 : decode b_E_make 28 = .ok (.istore_n 3, 1) := by decide +kernel
theorem d_E_make_29 : decode b_E_make 29 = .ok (.goto (-17), 3) := by decide +kernel
theorem d_E_make_32 : decode b_E_make 32 = .ok (.iconst 0, 1) := by decide +kernel
theorem d_E_make_33 : decode b_E_make 33 = .ok (.istore_n 3, 1) := by decide +kernel
theorem d_E_make_34 : decode b_E_make 34 = .ok (.iload_n 3, 1) := by decide +kernel
theorem d_E_make_35 : decode b_E_make 35 = .ok (.iload_n 2, 1) := by decide +kernel
theorem d_E_make_36 : decode b_E_make 36 = .ok (.if_icmp .ge 21, 3) := by decide +kernel
theorem d_E_make_39 : decode b_E_make 39 = .ok (.aload_n 0, 1) := by decide +kernel
theorem d_E_make_40 : decode b_E_make 40 = .ok (.getfield 15, 3) := by decide +kernel
theorem d_E_make_43 : decode b_E_make 43 = .ok (.aload_n 0, 1) := by decide +kernel
theorem d_E_make_44 : decode b_E_make 44 = .ok (.getfield 9, 3) := by decide +kernel
theorem d_E_make_47 : decode b_E_make 47 = .ok (.iload_n 3, 1) := by decide +kernel
theorem d_E_make_48 : decode b_E_make 48 = .ok (.iaload, 1) := by decide +kernel
theorem d_E_make_49 : decode b_E_make 49 = .ok (.iload_n 3, 1) := by decide +kernel
theorem d_E_make_50 : decode b_E_make 50 = .ok (.iastore, 1) := by decide +kernel
theorem d_E_make_51 : decode b_E_make 51 = .ok (.iinc 3 1, 3) := by decide +kernel
theorem d_E_make_54 : decode b_E_make 54 = .ok (.goto (-20), 3) := by decide +kernel
theorem d_E_make_57 : decode b_E_make 57 = .ok (.aload_n 0, 1) := by decide +kernel
theorem d_E_make_58 : decode b_E_make 58 = .ok (.aload_n 1, 1) := by decide +kernel
theorem d_E_make_59 : decode b_E_make 59 = .ok (.invokevirtual 48, 3) := by decide +kernel
theorem d_E_make_62 : decode b_E_make 62 = .ok (.return_, 1) := by decide +kernel
theorem d_E_byLetters_0 : decode b_E_byLetters 0 = .ok (.iconst 0, 1) := by decide +kernel
theorem d_E_byLetters_1 : decode b_E_byLetters 1 = .ok (.istore_n 2, 1) := by decide +kernel
theorem d_E_byLetters_2 : decode b_E_byLetters 2 = .ok (.aload_n 0, 1) := by decide +kernel
theorem d_E_byLetters_3 : decode b_E_byLetters 3 = .ok (.iconst 0, 1) := by decide +kernel
theorem d_E_byLetters_4 : decode b_E_byLetters 4 = .ok (.putfield 41, 3) := by decide +kernel
theorem d_E_byLetters_7 : decode b_E_byLetters 7 = .ok (.iconst 0, 1) := by decide +kernel
theorem d_E_byLetters_8 : decode b_E_byLetters 8 = .ok (.istore_n 3, 1) := by decide +kernel
theorem d_E_byLetters_9 : decode b_E_byLetters 9 = .ok (.iload_n 3, 1) := by decide +kernel
theorem d_E_byLetters_10 : decode b_E_byLetters 10 = .ok (.iconst 4, 1) := by decide +kernel
theorem d_E_byLetters_11 : decode b_E_byLetters 11 = .ok (.if_icmp .ge 76, 3) := by decide +kernel
theorem d_E_byLetters_14 : decode b_E_byLetters 14 = .ok (.iload_n 2, 1) := by decide +kernel
theorem d_E_byLetters_15 : decode b_E_byLetters 15 = .ok (.istore 4, 2) := by decide +kernel
theorem d_E_byLetters_17 : decode b_E_byLetters 17 = .ok (.iconst 0, 1) := by decide +kernel
theorem d_E_byLetters_18 : decode b_E_byLetters 18 = .ok (.istore 5, 2) := by decide +kernel
theorem d_E_byLetters_20 : decode b_E_byLetters 20 = .ok (.iload 5, 2) := by decide +kernel
theorem d_E_byLetters_22 : decode b_E_byLetters 22 = .ok (.aload_n 0, 1) := by decide +kernel
theorem d_E_byLetters_23 : decode b_E_byLetters 23 = .ok (.getfield 33, 3) := by decide +kernel
theorem d_E_byLetters_26 : decode b_E_byLetters 26 = .ok (.if_icmp .ge 39, 3) := by decide +kernel
theorem d_E_byLetters_29 : decode b_E_byLetters 29 = .ok (.aload_n 1, 1) := by decide +kernel
theorem d_E_byLetters_30 : decode b_E_byLetters 30 = .ok (.iload 5, 2) := by decide +kernel
theorem d_E_byLetters_32 : decode b_E_byLetters 32 = .ok (.iaload, 1) := by decide +kernel
theorem d_E_byLetters_33 : decode b_E_byLetters 33 = .ok (.iload_n 3, 1) := by decide +kernel
theorem d_E_byLetters_34 : decode b_E_byLetters 34 = .ok (.if_icmp .ne 25, 3) := by decide +kernel
theorem d_E_byLetters_37 : decode b_E_byLetters 37 = .ok (.aload_n 0, 1) := by decide +kernel
theorem d_E_byLetters_38 : decode b_E_byLetters 38 = .ok (.getfield 9, 3) := by decide +kernel
theorem d_E_byLetters_41 : decode b_E_byLetters 41 = .ok (.iload_n 2, 1) := by decide +kernel
theorem d_E_byLetters_42 : decode b_E_byLetters 42 = .ok (.iinc 2 1, 3) := by decide +kernel
theorem d_E_byLetters_45 : decode b_E_byLetters 45 = .ok (.iload 5, 2) := by decide +kernel
theorem d_E_byLetters_47 : decode b_E_byLetters 47 = .ok (.iastore, 1) := by decide +kernel
theorem d_E_byLetters_48 : decode b_E_byLetters 48 = .ok (.aload_n 0, 1) := by decide +kernel
theorem d_E_byLetters_49 : decode b_E_byLetters 49 = .ok (.getfield 21, 3) := by decide +kernel
theorem d_E_byLetters_52 : decode b_E_byLetters 52 = .ok (.iload 5, 2) := by decide +kernel
theorem d_E_byLetters_54 : decode b_E_byLetters 54 = .ok (.aload_n 0, 1) := by decide +kernel
theorem d_E_byLetters_55 : decode b_E_byLetters 55 = .ok (.getfield 41, 3) := by decide +kernel
theorem d_E_byLetters_58 : decode b_E_byLetters 58 = .ok (.iastore, 1) := by decide +kernel
theorem d_E_byLetters_59 : decode b_E_byLetters 59 = .ok (.iinc 5 1, 3) := by decide +kernel
theorem d_E_byLetters_62 : decode b_E_byLetters 62 = .ok (.goto (-42), 3) := by decide +kernel
theorem d_E_byLetters_65 : decode b_E_byLetters 65 = .ok (.iload_n 2, 1) := by decide +kernel
theorem d_E_byLetters_66 : decode b_E_byLetters 66 = .ok (.iload 4, 2) := by decide +kernel
theorem d_E_byLetters_68 : decode b_E_byLetters 68 = .ok (.if_icmp .le 13, 3) := by decide +kernel
theorem d_E_byLetters_71 : decode b_E_byLetters 71 = .ok (.aload_n 0, 1) := by decide +kernel
theorem d_E_byLetters_72 : decode b_E_byLetters 72 = .ok (.dup, 1) := by decide +kernel
theorem d_E_byLetters_73 : decode b_E_byLetters 73 = .ok (.getfield 41, 3) := by decide +kernel
theorem d_E_byLetters_76 : decode b_E_byLetters 76 = .ok (.iconst 1, 1) := by decide +kernel
theorem d_E_byLetters_77 : decode b_E_byLetters 77 = .ok (.iadd, 1) := by decide +kernel
theorem d_E_byLetters_78 : decode b_E_byLetters 78 = .ok (.putfield 41, 3) := by decide +kernel
theorem d_E_byLetters_81 : decode b_E_byLetters 81 = .ok (.iinc 3 1, 3) := by decide +kernel
theorem d_E_byLetters_84 : decode b_E_byLetters 84 = .ok (.goto (-75), 3) := by decide +kernel
theorem d_E_byLetters_87 : decode b_E_byLetters 87 = .ok (.return_, 1) := by decide +kernel
theorem d_E_twice_0 : decode b_E_twice 0 = .ok (.iconst 0, 1) := by decide +kernel
theorem d_E_twice_1 : decode b_E_twice 1 = .ok (.istore_n 2, 1) := by decide +kernel
theorem d_E_twice_2 : decode b_E_twice 2 = .ok (.aload_n 0, 1) := by decide +kernel
theorem d_E_twice_3 : decode b_E_twice 3 = .ok (.getfield 33, 3) := by decide +kernel
theorem d_E_twice_6 : decode b_E_twice 6 = .ok (.iload_n 1, 1) := by decide +kernel
theorem d_E_twice_7 : decode b_E_twice 7 = .ok (.isub, 1) := by decide +kernel
theorem d_E_twice_8 : decode b_E_twice 8 = .ok (.istore_n 3, 1) := by decide +kernel
theorem d_E_twice_9 : decode b_E_twice 9 = .ok (.iload_n 3, 1) := by decide +kernel
theorem d_E_twice_10 : decode b_E_twice 10 = .ok (.aload_n 0, 1) := by decide +kernel
theorem d_E_twice_11 : decode b_E_twice 11 = .ok (.getfield 33, 3) := by decide +kernel
theorem d_E_twice_14 : decode b_E_twice 14 = .ok (.if_icmp .ge 23, 3) := by decide +kernel
theorem d_E_twice_17 : decode b_E_twice 17 = .ok (.iload_n 3, 1) := by decide +kernel
theorem d_E_twice_18 : decode b_E_twice 18 = .ok (.ifCond .lt 13, 3) := by decide +kernel
theorem d_E_twice_21 : decode b_E_twice 21 = .ok (.aload_n 0, 1) := by decide +kernel
theorem d_E_twice_22 : decode b_E_twice 22 = .ok (.getfield 27, 3) := by decide +kernel
theorem d_E_twice_25 : decode b_E_twice 25 = .ok (.iload_n 2, 1) := by decide +kernel
theorem d_E_twice_26 : decode b_E_twice 26 = .ok (.iinc 2 1, 3) := by decide +kernel
theorem d_E_twice_29 : decode b_E_twice 29 = .ok (.iload_n 3, 1) := by decide +kernel
theorem d_E_twice_30 : decode b_E_twice 30 = .ok (.iastore, 1) := by decide +kernel
theorem d_E_twice_31 : decode b_E_twice 31 = .ok (.iinc 3 1, 3) := by decide +kernel
theorem d_E_twice_34 : decode b_E_twice 34 = .ok (.goto (-25), 3) := by decide +kernel
theorem d_E_twice_37 : decode b_E_twice 37 = .ok (.iconst 0, 1) := by decide +kernel
theorem d_E_twice_38 : decode b_E_twice 38 = .ok (.istore_n 3, 1) := by decide +kernel
theorem d_E_twice_39 : decode b_E_twice 39 = .ok (.iload_n 3, 1) := by decide +kernel
theorem d_E_twice_40 : decode b_E_twice 40 = .ok (.aload_n 0, 1) := by decide +kernel
theorem d_E_twice_41 : decode b_E_twice 41 = .ok (.getfield 33, 3) := by decide +kernel
theorem d_E_twice_44 : decode b_E_twice 44 = .ok (.if_icmp .ge 36, 3) := by decide +kernel
theorem d_E_twice_47 : decode b_E_twice 47 = .ok (.aload_n 0, 1) := by decide +kernel
theorem d_E_twice_48 : decode b_E_twice 48 = .ok (.getfield 9, 3) := by decide +kernel
theorem d_E_twice_51 : decode b_E_twice 51 = .ok (.iload_n 3, 1) := by decide +kernel
theorem d_E_twice_52 : decode b_E_twice 52 = .ok (.iaload, 1) := by decide +kernel
theorem d_E_twice_53 : decode b_E_twice 53 = .ok (.iload_n 1, 1) := by decide +kernel
theorem d_E_twice_54 : decode b_E_twice 54 = .ok (.if_icmp .lt 20, 3) := by decide +kernel
theorem d_E_twice_57 : decode b_E_twice 57 = .ok (.aload_n 0, 1) := by decide +kernel
theorem d_E_twice_58 : decode b_E_twice 58 = .ok (.getfield 27, 3) := by decide +kernel
theorem d_E_twice_61 : decode b_E_twice 61 = .ok (.iload_n 2, 1) := by decide +kernel
theorem d_E_twice_62 : decode b_E_twice 62 = .ok (.iinc 2 1, 3) := by decide +kernel
theorem d_E_twice_65 : decode b_E_twice 65 = .ok (.aload_n 0, 1) := by decide +kernel
theorem d_E_twice_66 : decode b_E_twice 66 = .ok (.getfield 9, 3) := by decide +kernel
theorem d_E_twice_69 : decode b_E_twice 69 = .ok (.iload_n 3, 1) := by decide +kernel
theorem d_E_twice_70 : decode b_E_twice 70 = .ok (.iaload, 1) := by decide +kernel
theorem d_E_twice_71 : decode b_E_twice 71 = .ok (.iload_n 1, 1) := by decide +kernel
theorem d_E_twice_72 : decode b_E_twice 72 = .ok (.isub, 1) := by decide +kernel
theorem d_E_twice_73 : decode b_E_twice 73 = .ok (.iastore, 1) := by decide +kernel
theorem d_E_twice_74 : decode b_E_twice 74 = .ok (.iinc 3 1, 3) := by decide +kernel
theorem d_E_twice_77 : decode b_E_twice 77 = .ok (.goto (-38), 3) := by decide +kernel
theorem d_E_twice_80 : decode b_E_twice 80 = .ok (.iconst 0, 1) := by decide +kernel
theorem d_E_twice_81 : decode b_E_twice 81 = .ok (.istore_n 3, 1) := by decide +kernel
theorem d_E_twice_82 : decode b_E_twice 82 = .ok (.iload_n 3, 1) := by decide +kernel
theorem d_E_twice_83 : decode b_E_twice 83 = .ok (.aload_n 0, 1) := by decide +kernel
theorem d_E_twice_84 : decode b_E_twice 84 = .ok (.getfield 41, 3) := by decide +kernel
theorem d_E_twice_87 : decode b_E_twice 87 = .ok (.if_icmp .gt 16, 3) := by decide +kernel
theorem d_E_twice_90 : decode b_E_twice 90 = .ok (.aload_n 0, 1) := by decide +kernel
theorem d_E_twice_91 : decode b_E_twice 91 = .ok (.getfield 30, 3) := by decide +kernel
theorem d_E_twice_94 : decode b_E_twice 94 = .ok (.iload_n 3, 1) := by decide +kernel
theorem d_E_twice_95 : decode b_E_twice 95 = .ok (.iconst 0, 1) := by decide +kernel
theorem d_E_twice_96 : decode b_E_twice 96 = .ok (.iastore, 1) := by decide +kernel
theorem d_E_twice_97 : decode b_E_twice 97 = .ok (.iinc 3 1, 3) := by decide +kernel
theorem d_E_twice_100 : decode b_E_twice 100 = .ok (.goto (-18), 3) := by decide +kernel
theorem d_E_twice_103 : decode b_E_twice 103 = .ok (.iconst 0, 1) := by decide +kernel
theorem d_E_twice_104 : decode b_E_twice 104 = .ok (.istore_n 3, 1) := by decide +kernel
theorem d_E_twice_105 : decode b_E_twice 105 = .ok (.iload_n 3, 1) := by decide +kernel
theorem d_E_twice_106 : decode b_E_twice 106 = .ok (.aload_n 0, 1) := by decide +kernel
theorem d_E_twice_107 : decode b_E_twice 107 = .ok (.getfield 33, 3) := by decide +kernel
theorem d_E_twice_110 : decode b_E_twice 110 = .ok (.if_icmp .ge 26, 3) := by decide +kernel
theorem d_E_twice_113 : decode b_E_twice 113 = .ok (.aload_n 0, 1) := by decide +kernel
theorem d_E_twice_114 : decode b_E_twice 114 = .ok (.getfield 30, 3) := by decide +kernel
theorem d_E_twice_117 : decode b_E_twice 117 = .ok (.aload_n 0, 1) := by decide +kernel
theorem d_E_twice_118 : decode b_E_twice 118 = .ok (.getfield 21, 3) := by decide +kernel
theorem d_E_twice_121 : decode b_E_twice 121 = .ok (.iload_n 3, 1) := by decide +kernel
theorem d_E_twice_122 : decode b_E_twice 122 = .ok (.iaload, 1) := by decide +kernel
theorem d_E_twice_123 : decode b_E_twice 123 = .ok (.iconst 1, 1) := by decide +kernel
theorem d_E_twice_124 : decode b_E_twice 124 = .ok (.iadd, 1) := by decide +kernel
theorem d_E_twice_125 : decode b_E_twice 125 = .ok (.dup2, 1) := by decide +kernel
theorem d_E_twice_126 : decode b_E_twice 126 = .ok (.iaload, 1) := by decide +kernel
theorem d_E_twice_127 : decode b_E_twice 127 = .ok (.iconst 1, 1) := by decide +kernel
theorem d_E_twice_128 : decode b_E_twice 128 = .ok (.iadd, 1) := by decide +kernel
theorem d_E_twice_129 : decode b_E_twice 129 = .ok (.iastore, 1) := by decide +kernel
theorem d_E_twice_130 : decode b_E_twice 130 = .ok (.iinc 3 1, 3) := by decide +kernel
theorem d_E_twice_133 : decode b_E_twice 133 = .ok (.goto (-28), 3) := by decide +kernel
theorem d_E_twice_136 : decode b_E_twice 136 = .ok (.iconst 0, 1) := by decide +kernel
theorem d_E_twice_137 : decode b_E_twice 137 = .ok (.istore_n 3, 1) := by decide +kernel
theorem d_E_twice_138 : decode b_E_twice 138 = .ok (.iload_n 3, 1) := by decide +kernel
theorem d_E_twice_139 : decode b_E_twice 139 = .ok (.aload_n 0, 1) := by decide +kernel
theorem d_E_twice_140 : decode b_E_twice 140 = .ok (.getfield 41, 3) := by decide +kernel
theorem d_E_twice_143 : decode b_E_twice 143 = .ok (.if_icmp .ge 26, 3) := by decide +kernel
theorem d_E_twice_146 : decode b_E_twice 146 = .ok (.aload_n 0, 1) := by decide +kernel
theorem d_E_twice_147 : decode b_E_twice 147 = .ok (.getfield 30, 3) := by decide +kernel
theorem d_E_twice_150 : decode b_E_twice 150 = .ok (.iload_n 3, 1) := by decide +kernel
theorem d_E_twice_151 : decode b_E_twice 151 = .ok (.iconst 1, 1) := by decide +kernel
theorem d_E_twice_152 : decode b_E_twice 152 = .ok (.iadd, 1) := by decide +kernel
theorem d_E_twice_153 : decode b_E_twice 153 = .ok (.dup2, 1) := by decide +kernel
theorem d_E_twice_154 : decode b_E_twice 154 = .ok (.iaload, 1) := by decide +kernel
theorem d_E_twice_155 : decode b_E_twice 155 = .ok (.aload_n 0, 1) := by decide +kernel
theorem d_E_twice_156 : decode b_E_twice 156 = .ok (.getfield 30, 3) := by decide +kernel
theorem d_E_twice_159 : decode b_E_twice 159 = .ok (.iload_n 3, 1) := by decide +kernel
theorem d_E_twice_160 : decode b_E_twice 160 = .ok (.iaload, 1) := by decide +kernel
theorem d_E_twice_161 : decode b_E_twice 161 = .ok (.iadd, 1) := by decide +kernel
theorem d_E_twice_162 : decode b_E_twice 162 = .ok (.iastore, 1) := by decide +kernel
theorem d_E_twice_163 : decode b_E_twice 163 = .ok (.iinc 3 1, 3) := by decide +kernel
theorem d_E_twice_166 : decode b_E_twice 166 = .ok (.goto (-28), 3) := by decide +kernel
theorem d_E_twice_169 : decode b_E_twice 169 = .ok (.iconst 0, 1) := by decide +kernel
theorem d_E_twice_170 : decode b_E_twice 170 = .ok (.istore_n 3, 1) := by decide +kernel
theorem d_E_twice_171 : decode b_E_twice 171 = .ok (.iload_n 3, 1) := by decide +kernel
theorem d_E_twice_172 : decode b_E_twice 172 = .ok (.aload_n 0, 1) := by decide +kernel
theorem d_E_twice_173 : decode b_E_twice 173 = .ok (.getfield 33, 3) := by decide +kernel
theorem d_E_twice_176 : decode b_E_twice 176 = .ok (.if_icmp .ge 41, 3) := by decide +kernel
theorem d_E_twice_179 : decode b_E_twice 179 = .ok (.aload_n 0, 1) := by decide +kernel
theorem d_E_twice_180 : decode b_E_twice 180 = .ok (.getfield 9, 3) := by decide +kernel
theorem d_E_twice_183 : decode b_E_twice 183 = .ok (.aload_n 0, 1) := by decide +kernel
theorem d_E_twice_184 : decode b_E_twice 184 = .ok (.getfield 30, 3) := by decide +kernel
theorem d_E_twice_187 : decode b_E_twice 187 = .ok (.aload_n 0, 1) := by decide +kernel
theorem d_E_twice_188 : decode b_E_twice 188 = .ok (.getfield 21, 3) := by decide +kernel
theorem d_E_twice_191 : decode b_E_twice 191 = .ok (.aload_n 0, 1) := by decide +kernel
theorem d_E_twice_192 : decode b_E_twice 192 = .ok (.getfield 27, 3) := by decide +kernel
theorem d_E_twice_195 : decode b_E_twice 195 = .ok (.iload_n 3, 1) := by decide +kernel
theorem d_E_twice_196 : decode b_E_twice 196 = .ok (.iaload, 1) := by decide +kernel
theorem d_E_twice_197 : decode b_E_twice 197 = .ok (.iaload, 1) := by decide +kernel
theorem d_E_twice_198 : decode b_E_twice 198 = .ok (.dup2, 1) := by decide +kernel
theorem d_E_twice_199 : decode b_E_twice 199 = .ok (.iaload, 1) := by decide +kernel
theorem d_E_twice_200 : decode b_E_twice 200 = .ok (.dup_x2, 1) := by decide +kernel
theorem d_E_twice_201 : decode b_E_twice 201 = .ok (.iconst 1, 1) := by decide +kernel
theorem d_E_twice_202 : decode b_E_twice 202 = .ok (.iadd, 1) := by decide +kernel
theorem d_E_twice_203 : decode b_E_twice 203 = .ok (.iastore, 1) := by decide +kernel
theorem d_E_twice_204 : decode b_E_twice 204 = .ok (.aload_n 0, 1) := by decide +kernel
theorem d_E_twice_205 : decode b_E_twice 205 = .ok (.getfield 27, 3) := by decide +kernel
theorem d_E_twice_208 : decode b_E_twice 208 = .ok (.iload_n 3, 1) := by decide +kernel
theorem d_E_twice_209 : decode b_E_twice 209 = .ok (.iaload, 1) := by decide +kernel
theorem d_E_twice_210 : decode b_E_twice 210 = .ok (.iastore, 1) := by decide +kernel
theorem d_E_twice_211 : decode b_E_twice 211 = .ok (.iinc 3 1, 3) := by decide +kernel
theorem d_E_twice_214 : decode b_E_twice 214 = .ok (.goto (-43), 3) := by decide +kernel
theorem d_E_twice_217 : decode b_E_twice 217 = .ok (.iconst 0, 1) := by decide +kernel
theorem d_E_twice_218 : decode b_E_twice 218 = .ok (.istore_n 3, 1) := by decide +kernel
theorem d_E_twice_219 : decode b_E_twice 219 = .ok (.iconst 0, 1) := by decide +kernel
theorem d_E_twice_220 : decode b_E_twice 220 = .ok (.istore 4, 2) := by decide +kernel
theorem d_E_twice_222 : decode b_E_twice 222 = .ok (.iload 4, 2) := by decide +kernel
theorem d_E_twice_224 : decode b_E_twice 224 = .ok (.aload_n 0, 1) := by decide +kernel
theorem d_E_twice_225 : decode b_E_twice 225 = .ok (.getfield 33, 3) := by decide +kernel
theorem d_E_twice_228 : decode b_E_twice 228 = .ok (.if_icmp .ge 54, 3) := by decide +kernel
theorem d_E_twice_231 : decode b_E_twice 231 = .ok (.iload 4, 2) := by decide +kernel
theorem d_E_twice_233 : decode b_E_twice 233 = .ok (.ifCond .le 30, 3) := by decide +kernel
theorem d_E_twice_236 : decode b_E_twice 236 = .ok (.aload_n 0, 1) := by decide +kernel
theorem d_E_twice_237 : decode b_E_twice 237 = .ok (.aload_n 0, 1) := by decide +kernel
theorem d_E_twice_238 : decode b_E_twice 238 = .ok (.getfield 9, 3) := by decide +kernel
theorem d_E_twice_241 : decode b_E_twice 241 = .ok (.iload 4, 2) := by decide +kernel
theorem d_E_twice_243 : decode b_E_twice 243 = .ok (.iconst 1, 1) := by decide +kernel
theorem d_E_twice_244 : decode b_E_twice 244 = .ok (.isub, 1) := by decide +kernel
theorem d_E_twice_245 : decode b_E_twice 245 = .ok (.iaload, 1) := by decide +kernel
theorem d_E_twice_246 : decode b_E_twice 246 = .ok (.aload_n 0, 1) := by decide +kernel
theorem d_E_twice_247 : decode b_E_twice 247 = .ok (.getfield 9, 3) := by decide +kernel
theorem d_E_twice_250 : decode b_E_twice 250 = .ok (.iload 4, 2) := by decide +kernel
theorem d_E_twice_252 : decode b_E_twice 252 = .ok (.iaload, 1) := by decide +kernel
theorem d_E_twice_253 : decode b_E_twice 253 = .ok (.iload_n 1, 1) := by decide +kernel
theorem d_E_twice_254 : decode b_E_twice 254 = .ok (.invokevirtual 51, 3) := by decide +kernel
theorem d_E_twice_257 : decode b_E_twice 257 = .ok (.ifCond .ne 6, 3) := by decide +kernel
theorem d_E_twice_260 : decode b_E_twice 260 = .ok (.iinc 3 1, 3) := by decide +kernel
theorem d_E_twice_263 : decode b_E_twice 263 = .ok (.aload_n 0, 1) := by decide +kernel
theorem d_E_twice_264 : decode b_E_twice 264 = .ok (.getfield 24, 3) := by decide +kernel
theorem d_E_twice_267 : decode b_E_twice 267 = .ok (.aload_n 0, 1) := by decide +kernel
theorem d_E_twice_268 : decode b_E_twice 268 = .ok (.getfield 9, 3) := by decide +kernel
theorem d_E_twice_271 : decode b_E_twice 271 = .ok (.iload 4, 2) := by decide +kernel
theorem d_E_twice_273 : decode b_E_twice 273 = .ok (.iaload, 1) := by decide +kernel
theorem d_E_twice_274 : decode b_E_twice 274 = .ok (.iload_n 3, 1) := by decide +kernel
theorem d_E_twice_275 : decode b_E_twice 275 = .ok (.iastore, 1) := by decide +kernel
theorem d_E_twice_276 : decode b_E_twice 276 = .ok (.iinc 4 1, 3) := by decide +kernel
theorem d_E_twice_279 : decode b_E_twice 279 = .ok (.goto (-57), 3) := by decide +kernel
theorem d_E_twice_282 : decode b_E_twice 282 = .ok (.aload_n 0, 1) := by decide +kernel
theorem d_E_twice_283 : decode b_E_twice 283 = .ok (.aload_n 0, 1) := by decide +kernel
theorem d_E_twice_284 : decode b_E_twice 284 = .ok (.getfield 33, 3) := by decide +kernel
theorem d_E_twice_287 : decode b_E_twice 287 = .ok (.ifCond .ne 7, 3) := by decide +kernel
theorem d_E_twice_290 : decode b_E_twice 290 = .ok (.iconst 0, 1) := by decide +kernel
theorem d_E_twice_291 : decode b_E_twice 291 = .ok (.goto 6, 3) := by decide +kernel
theorem d_E_twice_294 : decode b_E_twice 294 = .ok (.iload_n 3, 1) := by decide +kernel
theorem d_E_twice_295 : decode b_E_twice 295 = .ok (.iconst 1, 1) := by decide +kernel
theorem d_E_twice_296 : decode b_E_twice 296 = .ok (.iadd, 1) := by decide +kernel
theorem d_E_twice_297 : decode b_E_twice 297 = .ok (.putfield 41, 3) := by decide +kernel
theorem d_E_twice_300 : decode b_E_twice 300 = .ok (.iconst 0, 1) := by decide +kernel
theorem d_E_twice_301 : decode b_E_twice 301 = .ok (.istore 4, 2) := by decide +kernel
theorem d_E_twice_303 : decode b_E_twice 303 = .ok (.iload 4, 2) := by decide +kernel
theorem d_E_twice_305 : decode b_E_twice 305 = .ok (.aload_n 0, 1) := by decide +kernel
theorem d_E_twice_306 : decode b_E_twice 306 = .ok (.getfield 33, 3) := by decide +kernel
theorem d_E_twice_309 : decode b_E_twice 309 = .ok (.if_icmp .ge 23, 3) := by decide +kernel
theorem d_E_twice_312 : decode b_E_twice 312 = .ok (.aload_n 0, 1) := by decide +kernel
theorem d_E_twice_313 : decode b_E_twice 313 = .ok (.getfield 21, 3) := by decide +kernel
theorem d_E_twice_316 : decode b_E_twice 316 = .ok (.iload 4, 2) := by decide +kernel
theorem d_E_twice_318 : decode b_E_twice 318 = .ok (.aload_n 0, 1) := by decide +kernel
theorem d_E_twice_319 : decode b_E_twice 319 = .ok (.getfield 24, 3) := by decide +kernel
theorem d_E_twice_322 : decode b_E_twice 322 = .ok (.iload 4, 2) := by decide +kernel
theorem d_E_twice_324 : decode b_E_twice 324 = .ok (.iaload, 1) := by decide +kernel
theorem d_E_twice_325 : decode b_E_twice 325 = .ok (.iastore, 1) := by decide +kernel
theorem d_E_twice_326 : decode b_E_twice 326 = .ok (.iinc 4 1, 3) := by decide +kernel
theorem d_E_twice_329 : decode b_E_twice 329 = .ok (.goto (-26), 3) := by decide +kernel
theorem d_E_twice_332 : decode b_E_twice 332 = .ok (.return_, 1) := by decide +kernel
theorem d_E_behind_0 : decode b_E_behind 0 = .ok (.iload_n 1, 1) := by decide +kernel
theorem d_E_behind_1 : decode b_E_behind 1 = .ok (.iload_n 2, 1) := by decide +kernel
theorem d_E_behind_2 : decode b_E_behind 2 = .ok (.iadd, 1) := by decide +kernel
theorem d_E_behind_3 : decode b_E_behind 3 = .ok (.aload_n 0, 1) := by decide +kernel
theorem d_E_behind_4 : decode b_E_behind 4 = .ok (.getfield 33, 3) := by decide +kernel
theorem d_E_behind_7 : decode b_E_behind 7 = .ok (.if_icmp .ge 14, 3) := by decide +kernel
theorem d_E_behind_10 : decode b_E_behind 10 = .ok (.aload_n 0, 1) := by decide +kernel
theorem d_E_behind_11 : decode b_E_behind 11 = .ok (.getfield 21, 3) := by decide +kernel
theorem d_E_behind_14 : decode b_E_behind 14 = .ok (.iload_n 1, 1) := by decide +kernel
theorem d_E_behind_15 : decode b_E_behind 15 = .ok (.iload_n 2, 1) := by decide +kernel
theorem d_E_behind_16 : decode b_E_behind 16 = .ok (.iadd, 1) := by decide +kernel
theorem d_E_behind_17 : decode b_E_behind 17 = .ok (.iaload, 1) := by decide +kernel
theorem d_E_behind_18 : decode b_E_behind 18 = .ok (.goto 4, 3) := by decide +kernel
theorem d_E_behind_21 : decode b_E_behind 21 = .ok (.iconst (-1), 1) := by decide +kernel
theorem d_E_behind_22 : decode b_E_behind 22 = .ok (.ireturn, 1) := by decide +kernel
theorem d_E_alike_0 : decode b_E_alike 0 = .ok (.aload_n 0, 1) := by decide +kernel
theorem d_E_alike_1 : decode b_E_alike 1 = .ok (.getfield 21, 3) := by decide +kernel
theorem d_E_alike_4 : decode b_E_alike 4 = .ok (.iload_n 1, 1) := by decide +kernel
theorem d_E_alike_5 : decode b_E_alike 5 = .ok (.iaload, 1) := by decide +kernel
theorem d_E_alike_6 : decode b_E_alike 6 = .ok (.aload_n 0, 1) := by decide +kernel
theorem d_E_alike_7 : decode b_E_alike 7 = .ok (.getfield 21, 3) := by decide +kernel
theorem d_E_alike_10 : decode b_E_alike 10 = .ok (.iload_n 2, 1) := by decide +kernel
theorem d_E_alike_11 : decode b_E_alike 11 = .ok (.iaload, 1) := by decide +kernel
theorem d_E_alike_12 : decode b_E_alike 12 = .ok (.if_icmp .ne 22, 3) := by decide +kernel
theorem d_E_alike_15 : decode b_E_alike 15 = .ok (.aload_n 0, 1) := by decide +kernel
theorem d_E_alike_16 : decode b_E_alike 16 = .ok (.iload_n 1, 1) := by decide +kernel
theorem d_E_alike_17 : decode b_E_alike 17 = .ok (.iload_n 3, 1) := by decide +kernel
theorem d_E_alike_18 : decode b_E_alike 18 = .ok (.invokevirtual 55, 3) := by decide +kernel
theorem d_E_alike_21 : decode b_E_alike 21 = .ok (.aload_n 0, 1) := by decide +kernel
theorem d_E_alike_22 : decode b_E_alike 22 = .ok (.iload_n 2, 1) := by decide +kernel
theorem d_E_alike_23 : decode b_E_alike 23 = .ok (.iload_n 3, 1) := by decide +kernel
theorem d_E_alike_24 : decode b_E_alike 24 = .ok (.invokevirtual 55, 3) := by decide +kernel
theorem d_E_alike_27 : decode b_E_alike 27 = .ok (.if_icmp .ne 7, 3) := by decide +kernel
theorem d_E_alike_30 : decode b_E_alike 30 = .ok (.iconst 1, 1) := by decide +kernel
theorem d_E_alike_31 : decode b_E_alike 31 = .ok (.goto 4, 3) := by decide +kernel
theorem d_E_alike_34 : decode b_E_alike 34 = .ok (.iconst 0, 1) := by decide +kernel
theorem d_E_alike_35 : decode b_E_alike 35 = .ok (.ireturn, 1) := by decide +kernel
theorem d_E_neighbours_0 : decode b_E_neighbours 0 = .ok (.iconst 0, 1) := by decide +kernel
theorem d_E_neighbours_1 : decode b_E_neighbours 1 = .ok (.istore_n 2, 1) := by decide +kernel
theorem d_E_neighbours_2 : decode b_E_neighbours 2 = .ok (.iconst 0, 1) := by decide +kernel
theorem d_E_neighbours_3 : decode b_E_neighbours 3 = .ok (.istore_n 3, 1) := by decide +kernel
theorem d_E_neighbours_4 : decode b_E_neighbours 4 = .ok (.iload_n 3, 1) := by decide +kernel
theorem d_E_neighbours_5 : decode b_E_neighbours 5 = .ok (.aload_n 0, 1) := by decide +kernel
theorem d_E_neighbours_6 : decode b_E_neighbours 6 = .ok (.getfield 33, 3) := by decide +kernel
theorem d_E_neighbours_9 : decode b_E_neighbours 9 = .ok (.if_icmp .ge 105, 3) := by decide +kernel
theorem d_E_neighbours_12 : decode b_E_neighbours 12 = .ok (.aload_n 0, 1) := by decide +kernel
theorem d_E_neighbours_13 : decode b_E_neighbours 13 = .ok (.getfield 15, 3) := by decide +kernel
theorem d_E_neighbours_16 : decode b_E_neighbours 16 = .ok (.iload_n 3, 1) := by decide +kernel
theorem d_E_neighbours_17 : decode b_E_neighbours 17 = .ok (.iaload, 1) := by decide +kernel
theorem d_E_neighbours_18 : decode b_E_neighbours 18 = .ok (.ifCond .ne 15, 3) := by decide +kernel
theorem d_E_neighbours_21 : decode b_E_neighbours 21 = .ok (.aload_n 0, 1) := by decide +kernel
theorem d_E_neighbours_22 : decode b_E_neighbours 22 = .ok (.getfield 18, 3) := by decide +kernel
theorem d_E_neighbours_25 : decode b_E_neighbours 25 = .ok (.iconst 0, 1) := by decide +kernel
theorem d_E_neighbours_26 : decode b_E_neighbours 26 = .ok (.iconst 0, 1) := by decide +kernel
theorem d_E_neighbours_27 : decode b_E_neighbours 27 = .ok (.iastore, 1) := by decide +kernel
theorem d_E_neighbours_28 : decode b_E_neighbours 28 = .ok (.iconst 0, 1) := by decide +kernel
theorem d_E_neighbours_29 : decode b_E_neighbours 29 = .ok (.istore_n 2, 1) := by decide +kernel
theorem d_E_neighbours_30 : decode b_E_neighbours 30 = .ok (.goto 78, 3) := by decide +kernel
theorem d_E_neighbours_33 : decode b_E_neighbours 33 = .ok (.aload_n 0, 1) := by decide +kernel
theorem d_E_neighbours_34 : decode b_E_neighbours 34 = .ok (.getfield 9, 3) := by decide +kernel
theorem d_E_neighbours_37 : decode b_E_neighbours 37 = .ok (.aload_n 0, 1) := by decide +kernel
theorem d_E_neighbours_38 : decode b_E_neighbours 38 = .ok (.getfield 15, 3) := by decide +kernel
theorem d_E_neighbours_41 : decode b_E_neighbours 41 = .ok (.iload_n 3, 1) := by decide +kernel
theorem d_E_neighbours_42 : decode b_E_neighbours 42 = .ok (.iaload, 1) := by decide +kernel
theorem d_E_neighbours_43 : decode b_E_neighbours 43 = .ok (.iconst 1, 1) := by decide +kernel
theorem d_E_neighbours_44 : decode b_E_neighbours 44 = .ok (.isub, 1) := by decide +kernel
theorem d_E_neighbours_45 : decode b_E_neighbours 45 = .ok (.iaload, 1) := by decide +kernel
theorem d_E_neighbours_46 : decode b_E_neighbours 46 = .ok (.istore 4, 2) := by decide +kernel
theorem d_E_neighbours_48 : decode b_E_neighbours 48 = .ok (.iload_n 3, 1) := by decide +kernel
theorem d_E_neighbours_49 : decode b_E_neighbours 49 = .ok (.iload_n 2, 1) := by decide +kernel
theorem d_E_neighbours_50 : decode b_E_neighbours 50 = .ok (.iadd, 1) := by decide +kernel
theorem d_E_neighbours_51 : decode b_E_neighbours 51 = .ok (.aload_n 0, 1) := by decide +kernel
theorem d_E_neighbours_52 : decode b_E_neighbours 52 = .ok (.getfield 33, 3) := by decide +kernel
theorem d_E_neighbours_55 : decode b_E_neighbours 55 = .ok (.if_icmp .ge 34, 3) := by decide +kernel
theorem d_E_neighbours_58 : decode b_E_neighbours 58 = .ok (.iload 4, 2) := by decide +kernel
theorem d_E_neighbours_60 : decode b_E_neighbours 60 = .ok (.iload_n 2, 1) := by decide +kernel
theorem d_E_neighbours_61 : decode b_E_neighbours 61 = .ok (.iadd, 1) := by decide +kernel
theorem d_E_neighbours_62 : decode b_E_neighbours 62 = .ok (.aload_n 0, 1) := by decide +kernel
theorem d_E_neighbours_63 : decode b_E_neighbours 63 = .ok (.getfield 33, 3) := by decide +kernel
theorem d_E_neighbours_66 : decode b_E_neighbours 66 = .ok (.if_icmp .ge 23, 3) := by decide +kernel
theorem d_E_neighbours_69 : decode b_E_neighbours 69 = .ok (.aload_n 1, 1) := by decide +kernel
theorem d_E_neighbours_70 : decode b_E_neighbours 70 = .ok (.iload_n 3, 1) := by decide +kernel
theorem d_E_neighbours_71 : decode b_E_neighbours 71 = .ok (.iload_n 2, 1) := by decide +kernel
theorem d_E_neighbours_72 : decode b_E_neighbours 72 = .ok (.iadd, 1) := by decide +kernel
theorem d_E_neighbours_73 : decode b_E_neighbours 73 = .ok (.iaload, 1) := by decide +kernel
theorem d_E_neighbours_74 : decode b_E_neighbours 74 = .ok (.aload_n 1, 1) := by decide +kernel
theorem d_E_neighbours_75 : decode b_E_neighbours 75 = .ok (.iload 4, 2) := by decide +kernel
theorem d_E_neighbours_77 : decode b_E_neighbours 77 = .ok (.iload_n 2, 1) := by decide +kernel
theorem d_E_neighbours_78 : decode b_E_neighbours 78 = .ok (.iadd, 1) := by decide +kernel
theorem d_E_neighbours_79 : decode b_E_neighbours 79 = .ok (.iaload, 1) := by decide +kernel
theorem d_E_neighbours_80 : decode b_E_neighbours 80 = .ok (.if_icmp .ne 9, 3) := by decide +kernel
theorem d_E_neighbours_83 : decode b_E_neighbours 83 = .ok (.iinc 2 1, 3) := by decide +kernel
theorem d_E_neighbours_86 : decode b_E_neighbours 86 = .ok (.goto (-38), 3) := by decide +kernel
theorem d_E_neighbours_89 : decode b_E_neighbours 89 = .ok (.aload_n 0, 1) := by decide +kernel
theorem d_E_neighbours_90 : decode b_E_neighbours 90 = .ok (.getfield 18, 3) := by decide +kernel
theorem d_E_neighbours_93 : decode b_E_neighbours 93 = .ok (.aload_n 0, 1) := by decide +kernel
theorem d_E_neighbours_94 : decode b_E_neighbours 94 = .ok (.getfield 15, 3) := by decide +kernel
theorem d_E_neighbours_97 : decode b_E_neighbours 97 = .ok (.iload_n 3, 1) := by decide +kernel
theorem d_E_neighbours_98 : decode b_E_neighbours 98 = .ok (.iaload, 1) := by decide +kernel
theorem d_E_neighbours_99 : decode b_E_neighbours 99 = .ok (.iload_n 2, 1) := by decide +kernel
theorem d_E_neighbours_100 : decode b_E_neighbours 100 = .ok (.iastore, 1) := by decide +kernel
theorem d_E_neighbours_101 : decode b_E_neighbours 101 = .ok (.iload_n 2, 1) := by decide +kernel
theorem d_E_neighbours_102 : decode b_E_neighbours 102 = .ok (.ifCond .le 6, 3) := by decide +kernel
theorem d_E_neighbours_105 : decode b_E_neighbours 105 = .ok (.iinc 2 (-1), 3) := by decide +kernel
theorem d_E_neighbours_108 : decode b_E_neighbours 108 = .ok (.iinc 3 1, 3) := by decide +kernel
theorem d_E_neighbours_111 : decode b_E_neighbours 111 = .ok (.goto (-107), 3) := by decide +kernel
theorem d_E_neighbours_114 : decode b_E_neighbours 114 = .ok (.return_, 1) := by decide +kernel
end
section
theorem d_D_init_0 : decode b_D_init 0 = .ok (.aload_n 0, 1) := by decide +kernel
theorem d_D_init_1 : decode b_D_init 1 = .ok (.invokespecial 1, 3) := by decide +kernel
theorem d_D_init_4 : decode b_D_init 4 = .ok (.aload_n 0, 1) := by decide +kernel
theorem d_D_init_5 : decode b_D_init 5 = .ok (.sipush 128, 3) := by decide +kernel
theorem d_D_init_8 : decode b_D_init 8 = .ok (.newarray .int, 2) := by decide +kernel
theorem d_D_init_10 : decode b_D_init 10 = .ok (.putfield 9, 3) := by decide +kernel
theorem d_D_init_13 : decode b_D_init 13 = .ok (.aload_n 0, 1) := by decide +kernel
theorem d_D_init_14 : decode b_D_init 14 = .ok (.sipush 129, 3) := by decide +kernel
theorem d_D_init_17 : decode b_D_init 17 = .ok (.newarray .int, 2) := by decide +kernel
theorem d_D_init_19 : decode b_D_init 19 = .ok (.putfield 13, 3) := by decide +kernel
theorem d_D_init_22 : decode b_D_init 22 = .ok (.aload_n 0, 1) := by decide +kernel
theorem d_D_init_23 : decode b_D_init 23 = .ok (.sipush 257, 3) := by decide +kernel
theorem d_D_init_26 : decode b_D_init 26 = .ok (.newarray .int, 2) := by decide +kernel
theorem d_D_init_28 : decode b_D_init 28 = .ok (.putfield 16, 3) := by decide +kernel
theorem d_D_init_31 : decode b_D_init 31 = .ok (.aload_n 0, 1) := by decide +kernel
theorem d_D_init_32 : decode b_D_init 32 = .ok (.new 19, 3) := by decide +kernel
theorem d_D_init_35 : decode b_D_init 35 = .ok (.dup, 1) := by decide +kernel
theorem d_D_init_36 : decode b_D_init 36 = .ok (.invokespecial 21, 3) := by decide +kernel
theorem d_D_init_39 : decode b_D_init 39 = .ok (.putfield 22, 3) := by decide +kernel
theorem d_D_init_42 : decode b_D_init 42 = .ok (.return_, 1) := by decide +kernel
theorem d_D_add_0 : decode b_D_add 0 = .ok (.aload_n 0, 1) := by decide +kernel
theorem d_D_add_1 : decode b_D_add 1 = .ok (.getfield 26, 3) := by decide +kernel
theorem d_D_add_4 : decode b_D_add 4 = .ok (.sipush 128, 3) := by decide +kernel
theorem d_D_add_7 : decode b_D_add 7 = .ok (.if_icmp .ne 5, 3) := by decide +kernel
theorem d_D_add_10 : decode b_D_add 10 = .ok (.iconst 0, 1) := by decide +kernel
theorem d_D_add_11 : decode b_D_add 11 = .ok (.ireturn, 1) := by decide +kernel
theorem d_D_add_12 : decode b_D_add 12 = .ok (.aload_n 0, 1) := by decide +kernel
theorem d_D_add_13 : decode b_D_add 13 = .ok (.getfield 9, 3) := by decide +kernel
theorem d_D_add_16 : decode b_D_add 16 = .ok (.aload_n 0, 1) := by decide +kernel
theorem d_D_add_17 : decode b_D_add 17 = .ok (.dup, 1) := by decide +kernel
theorem d_D_add_18 : decode b_D_add 18 = .ok (.getfield 26, 3) := by decide +kernel
theorem d_D_add_21 : decode b_D_add 21 = .ok (.dup_x1, 1) := by decide +kernel
theorem d_D_add_22 : decode b_D_add 22 = .ok (.iconst 1, 1) := by decide +kernel
theorem d_D_add_23 : decode b_D_add 23 = .ok (.iadd, 1) := by decide +kernel
theorem d_D_add_24 : decode b_D_add 24 = .ok (.putfield 26, 3) := by decide +kernel
theorem d_D_add_27 : decode b_D_add 27 = .ok (.iload_n 1, 1) := by decide +kernel
theorem d_D_add_28 : decode b_D_add 28 = .ok (.iconst 3, 1) := by decide +kernel
theorem d_D_add_29 : decode b_D_add 29 = .ok (.iand, 1) := by decide +kernel
theorem d_D_add_30 : decode b_D_add 30 = .ok (.iastore, 1) := by decide +kernel
theorem d_D_add_31 : decode b_D_add 31 = .ok (.aload_n 0, 1) := by decide +kernel
theorem d_D_add_32 : decode b_D_add 32 = .ok (.iconst 0, 1) := by decide +kernel
theorem d_D_add_33 : decode b_D_add 33 = .ok (.putfield 30, 3) := by decide +kernel
theorem d_D_add_36 : decode b_D_add 36 = .ok (.iconst 1, 1) := by decide +kernel
theorem d_D_add_37 : decode b_D_add 37 = .ok (.ireturn, 1) := by decide +kernel
theorem d_D_put_0 : decode b_D_put 0 = .ok (.aload_n 0, 1) := by decide +kernel
theorem d_D_put_1 : decode b_D_put 1 = .ok (.getfield 26, 3) := by decide +kernel
theorem d_D_put_4 : decode b_D_put 4 = .ok (.bipush 124, 2) := by decide +kernel
theorem d_D_put_6 : decode b_D_put 6 = .ok (.if_icmp .gt 40, 3) := by decide +kernel
theorem d_D_put_9 : decode b_D_put 9 = .ok (.aload_n 0, 1) := by decide +kernel
theorem d_D_put_10 : decode b_D_put 10 = .ok (.iload_n 1, 1) := by decide +kernel
theorem d_D_put_11 : decode b_D_put 11 = .ok (.invokevirtual 34, 3) := by decide +kernel
theorem d_D_put_14 : decode b_D_put 14 = .ok (.ifCond .eq 32, 3) := by decide +kernel
theorem d_D_put_17 : decode b_D_put 17 = .ok (.aload_n 0, 1) := by decide +kernel
theorem d_D_put_18 : decode b_D_put 18 = .ok (.iload_n 2, 1) := by decide +kernel
theorem d_D_put_19 : decode b_D_put 19 = .ok (.invokevirtual 34, 3) := by decide +kernel
theorem d_D_put_22 : decode b_D_put 22 = .ok (.ifCond .eq 24, 3) := by decide +kernel
theorem d_D_put_25 : decode b_D_put 25 = .ok (.aload_n 0, 1) := by decide +kernel
theorem d_D_put_26 : decode b_D_put 26 = .ok (.iload_n 3, 1) := by decide +kernel
theorem d_D_put_27 : decode b_D_put 27 = .ok (.invokevirtual 34, 3) := by decide +kernel
theorem d_D_put_30 : decode b_D_put 30 = .ok (.ifCond .eq 16, 3) := by decide +kernel
theorem d_D_put_33 : decode b_D_put 33 = .ok (.aload_n 0, 1) := by decide +kernel
theorem d_D_put_34 : decode b_D_put 34 = .ok (.iload 4, 2) := by decide +kernel
theorem d_D_put_36 : decode b_D_put 36 = .ok (.invokevirtual 34, 3) := by decide +kernel
theorem d_D_put_39 : decode b_D_put 39 = .ok (.ifCond .eq 7, 3) := by decide +kernel
theorem d_D_put_42 : decode b_D_put 42 = .ok (.iconst 1, 1) := by decide +kernel
theorem d_D_put_43 : decode b_D_put 43 = .ok (.goto 4, 3) := by decide +kernel
theorem d_D_put_46 : decode b_D_put 46 = .ok (.iconst 0, 1) := by decide +kernel
theorem d_D_put_47 : decode b_D_put 47 = .ok (.ireturn, 1) := by decide +kernel
theorem d_D_one_0 : decode b_D_one 0 = .ok (.aload_n 0, 1) := by decide +kernel
theorem d_D_one_1 : decode b_D_one 1 = .ok (.iload_n 1, 1) := by decide +kernel
theorem d_D_one_2 : decode b_D_one 2 = .ok (.invokevirtual 34, 3) := by decide +kernel
theorem d_D_one_5 : decode b_D_one 5 = .ok (.ireturn, 1) := by decide +kernel
theorem d_D_cut_0 : decode b_D_cut 0 = .ok (.aload_n 0, 1) := by decide +kernel
theorem d_D_cut_1 : decode b_D_cut 1 = .ok (.getfield 26, 3) := by decide +kernel
theorem d_D_cut_4 : decode b_D_cut 4 = .ok (.ifCond .ne 5, 3) := by decide +kernel
theorem d_D_cut_7 : decode b_D_cut 7 = .ok (.iconst 0, 1) := by decide +kernel
theorem d_D_cut_8 : decode b_D_cut 8 = .ok (.ireturn, 1) := by decide +kernel
theorem d_D_cut_9 : decode b_D_cut 9 = .ok (.aload_n 0, 1) := by decide +kernel
theorem d_D_cut_10 : decode b_D_cut 10 = .ok (.dup, 1) := by decide +kernel
theorem d_D_cut_11 : decode b_D_cut 11 = .ok (.getfield 26, 3) := by decide +kernel
theorem d_D_cut_14 : decode b_D_cut 14 = .ok (.iconst 1, 1) := by decide +kernel
theorem d_D_cut_15 : decode b_D_cut 15 = .ok (.isub, 1) := by decide +kernel
theorem d_D_cut_16 : decode b_D_cut 16 = .ok (.putfield 26, 3) := by decide +kernel
theorem d_D_cut_19 : decode b_D_cut 19 = .ok (.aload_n 0, 1) := by decide +kernel
theorem d_D_cut_20 : decode b_D_cut 20 = .ok (.iconst 0, 1) := by decide +kernel
theorem d_D_cut_21 : decode b_D_cut 21 = .ok (.putfield 30, 3) := by decide +kernel
theorem d_D_cut_24 : decode b_D_cut 24 = .ok (.iconst 1, 1) := by decide +kernel
theorem d_D_cut_25 : decode b_D_cut 25 = .ok (.ireturn, 1) := by decide +kernel
theorem d_D_length_0 : decode b_D_length 0 = .ok (.aload_n 0, 1) := by decide +kernel
theorem d_D_length_1 : decode b_D_length 1 = .ok (.getfield 26, 3) := by decide +kernel
theorem d_D_length_4 : decode b_D_length 4 = .ok (.ireturn, 1) := by decide +kernel
theorem d_D_ready_0 : decode b_D_ready 0 = .ok (.aload_n 0, 1) := by decide +kernel
theorem d_D_ready_1 : decode b_D_ready 1 = .ok (.getfield 30, 3) := by decide +kernel
theorem d_D_ready_4 : decode b_D_ready 4 = .ok (.ifCond .ne 18, 3) := by decide +kernel
theorem d_D_ready_7 : decode b_D_ready 7 = .ok (.aload_n 0, 1) := by decide +kernel
theorem d_D_ready_8 : decode b_D_ready 8 = .ok (.getfield 22, 3) := by decide +kernel
theorem d_D_ready_11 : decode b_D_ready 11 = .ok (.aload_n 0, 1) := by decide +kernel
theorem d_D_ready_12 : decode b_D_ready 12 = .ok (.getfield 9, 3) := by decide +kernel
theorem d_D_ready_15 : decode b_D_ready 15 = .ok (.aload_n 0, 1) := by decide +kernel
theorem d_D_ready_16 : decode b_D_ready 16 = .ok (.getfield 26, 3) := by decide +kernel
theorem d_D_ready_19 : decode b_D_ready 19 = .ok (.invokevirtual 38, 3) := by decide +kernel
theorem d_D_ready_22 : decode b_D_ready 22 = .ok (.aload_n 0, 1) := by decide +kernel
theorem d_D_ready_23 : decode b_D_ready 23 = .ok (.iconst 1, 1) := by decide +kernel
theorem d_D_ready_24 : decode b_D_ready 24 = .ok (.putfield 30, 3) := by decide +kernel
theorem d_D_ready_27 : decode b_D_ready 27 = .ok (.return_, 1) := by decide +kernel
theorem d_D_different_0 : decode b_D_different 0 = .ok (.aload_n 0, 1) := by decide +kernel
theorem d_D_different_1 : decode b_D_different 1 = .ok (.invokevirtual 42, 3) := by decide +kernel
theorem d_D_different_4 : decode b_D_different 4 = .ok (.iconst 0, 1) := by decide +kernel
theorem d_D_different_5 : decode b_D_different 5 = .ok (.istore_n 1, 1) := by decide +kernel
theorem d_D_different_6 : decode b_D_different 6 = .ok (.iconst 0, 1) := by decide +kernel
theorem d_D_different_7 : decode b_D_different 7 = .ok (.istore_n 2, 1) := by decide +kernel
theorem d_D_different_8 : decode b_D_different 8 = .ok (.iload_n 2, 1) := by decide +kernel
theorem d_D_different_9 : decode b_D_different 9 = .ok (.aload_n 0, 1) := by decide +kernel
theorem d_D_different_10 : decode b_D_different 10 = .ok (.getfield 26, 3) := by decide +kernel
theorem d_D_different_13 : decode b_D_different 13 = .ok (.if_icmp .ge 36, 3) := by decide +kernel
theorem d_D_different_16 : decode b_D_different 16 = .ok (.iload_n 1, 1) := by decide +kernel
theorem d_D_different_17 : decode b_D_different 17 = .ok (.aload_n 0, 1) := by decide +kernel
theorem d_D_different_18 : decode b_D_different 18 = .ok (.getfield 26, 3) := by decide +kernel
theorem d_D_different_21 : decode b_D_different 21 = .ok (.aload_n 0, 1) := by decide +kernel
theorem d_D_different_22 : decode b_D_different 22 = .ok (.getfield 22, 3) := by decide +kernel
theorem d_D_different_25 : decode b_D_different 25 = .ok (.getfield 45, 3) := by decide +kernel
theorem d_D_different_28 : decode b_D_different 28 = .ok (.iload_n 2, 1) := by decide +kernel
theorem d_D_different_29 : decode b_D_different 29 = .ok (.iaload, 1) := by decide +kernel
theorem d_D_different_30 : decode b_D_different 30 = .ok (.isub, 1) := by decide +kernel
theorem d_D_different_31 : decode b_D_different 31 = .ok (.aload_n 0, 1) := by decide +kernel
theorem d_D_different_32 : decode b_D_different 32 = .ok (.getfield 22, 3) := by decide +kernel
theorem d_D_different_35 : decode b_D_different 35 = .ok (.getfield 48, 3) := by decide +kernel
theorem d_D_different_38 : decode b_D_different 38 = .ok (.iload_n 2, 1) := by decide +kernel
theorem d_D_different_39 : decode b_D_different 39 = .ok (.iaload, 1) := by decide +kernel
theorem d_D_different_40 : decode b_D_different 40 = .ok (.isub, 1) := by decide +kernel
theorem d_D_different_41 : decode b_D_different 41 = .ok (.iadd, 1) := by decide +kernel
theorem d_D_different_42 : decode b_D_different 42 = .ok (.istore_n 1, 1) := by decide +kernel
theorem d_D_different_43 : decode b_D_different 43 = .ok (.iinc 2 1, 3) := by decide +kernel
theorem d_D_different_46 : decode b_D_different 46 = .ok (.goto (-38), 3) := by decide +kernel
theorem d_D_different_49 : decode b_D_different 49 = .ok (.iload_n 1, 1) := by decide +kernel
theorem d_D_different_50 : decode b_D_different 50 = .ok (.ireturn, 1) := by decide +kernel
theorem d_D_longest_0 : decode b_D_longest 0 = .ok (.aload_n 0, 1) := by decide +kernel
theorem d_D_longest_1 : decode b_D_longest 1 = .ok (.invokevirtual 42, 3) := by decide +kernel
theorem d_D_longest_4 : decode b_D_longest 4 = .ok (.iconst 0, 1) := by decide +kernel
theorem d_D_longest_5 : decode b_D_longest 5 = .ok (.istore_n 1, 1) := by decide +kernel
theorem d_D_longest_6 : decode b_D_longest 6 = .ok (.iconst 1, 1) := by decide +kernel
theorem d_D_longest_7 : decode b_D_longest 7 = .ok (.istore_n 2, 1) := by decide +kernel
theorem d_D_longest_8 : decode b_D_longest 8 = .ok (.iload_n 2, 1) := by decide +kernel
theorem d_D_longest_9 : decode b_D_longest 9 = .ok (.aload_n 0, 1) := by decide +kernel
theorem d_D_longest_10 : decode b_D_longest 10 = .ok (.getfield 26, 3) := by decide +kernel
theorem d_D_longest_13 : decode b_D_longest 13 = .ok (.if_icmp .ge 23, 3) := by decide +kernel
theorem d_D_longest_16 : decode b_D_longest 16 = .ok (.iload_n 1, 1) := by decide +kernel
theorem d_D_longest_17 : decode b_D_longest 17 = .ok (.aload_n 0, 1) := by decide +kernel
theorem d_D_longest_18 : decode b_D_longest 18 = .ok (.getfield 22, 3) := by decide +kernel
theorem d_D_longest_21 : decode b_D_longest 21 = .ok (.getfield 48, 3) := by decide +kernel
theorem d_D_longest_24 : decode b_D_longest 24 = .ok (.iload_n 2, 1) := by decide +kernel
theorem d_D_longest_25 : decode b_D_longest 25 = .ok (.iaload, 1) := by decide +kernel
theorem d_D_longest_26 : decode b_D_longest 26 = .ok (.invokestatic 51, 3) := by decide +kernel
theorem d_D_longest_29 : decode b_D_longest 29 = .ok (.istore_n 1, 1) := by decide +kernel
theorem d_D_longest_30 : decode b_D_longest 30 = .ok (.iinc 2 1, 3) := by decide +kernel
theorem d_D_longest_33 : decode b_D_longest 33 = .ok (.goto (-25), 3) := by decide +kernel
theorem d_D_longest_36 : decode b_D_longest 36 = .ok (.iload_n 1, 1) := by decide +kernel
theorem d_D_longest_37 : decode b_D_longest 37 = .ok (.ireturn, 1) := by decide +kernel
theorem d_D_below_0 : decode b_D_below 0 = .ok (.iload_n 0, 1) := by decide +kernel
theorem d_D_below_1 : decode b_D_below 1 = .ok (.ldc 59, 2) := by decide +kernel
theorem d_D_below_3 : decode b_D_below 3 = .ok (.iand, 1) := by decide +kernel
theorem d_D_below_4 : decode b_D_below 4 = .ok (.iload_n 1, 1) := by decide +kernel
theorem d_D_below_5 : decode b_D_below 5 = .ok (.irem, 1) := by decide +kernel
theorem d_D_below_6 : decode b_D_below 6 = .ok (.ireturn, 1) := by decide +kernel
theorem d_D_times_0 : decode b_D_times 0 = .ok (.aload_n 0, 1) := by decide +kernel
theorem d_D_times_1 : decode b_D_times 1 = .ok (.getfield 26, 3) := by decide +kernel
theorem d_D_times_4 : decode b_D_times 4 = .ok (.ifCond .ne 5, 3) := by decide +kernel
theorem d_D_times_7 : decode b_D_times 7 = .ok (.iconst 0, 1) := by decide +kernel
theorem d_D_times_8 : decode b_D_times 8 = .ok (.ireturn, 1) := by decide +kernel
theorem d_D_times_9 : decode b_D_times 9 = .ok (.aload_n 0, 1) := by decide +kernel
theorem d_D_times_10 : decode b_D_times 10 = .ok (.invokevirtual 42, 3) := by decide +kernel
theorem d_D_times_13 : decode b_D_times 13 = .ok (.iload_n 1, 1) := by decide +kernel
theorem d_D_times_14 : decode b_D_times 14 = .ok (.aload_n 0, 1) := by decide +kernel
theorem d_D_times_15 : decode b_D_times 15 = .ok (.getfield 26, 3) := by decide +kernel
theorem d_D_times_18 : decode b_D_times 18 = .ok (.invokestatic 60, 3) := by decide +kernel
theorem d_D_times_21 : decode b_D_times 21 = .ok (.istore_n 3, 1) := by decide +kernel
theorem d_D_times_22 : decode b_D_times 22 = .ok (.iconst 1, 1) := by decide +kernel
theorem d_D_times_23 : decode b_D_times 23 = .ok (.iload_n 2, 1) := by decide +kernel
theorem d_D_times_24 : decode b_D_times 24 = .ok (.aload_n 0, 1) := by decide +kernel
theorem d_D_times_25 : decode b_D_times 25 = .ok (.getfield 26, 3) := by decide +kernel
theorem d_D_times_28 : decode b_D_times 28 = .ok (.iload_n 3, 1) := by decide +kernel
theorem d_D_times_29 : decode b_D_times 29 = .ok (.isub, 1) := by decide +kernel
theorem d_D_times_30 : decode b_D_times 30 = .ok (.invokestatic 60, 3) := by decide +kernel
theorem d_D_times_33 : decode b_D_times 33 = .ok (.iadd, 1) := by decide +kernel
theorem d_D_times_34 : decode b_D_times 34 = .ok (.istore 4, 2) := by decide +kernel
theorem d_D_times_36 : decode b_D_times 36 = .ok (.aload_n 0, 1) := by decide +kernel
theorem d_D_times_37 : decode b_D_times 37 = .ok (.getfield 22, 3) := by decide +kernel
theorem d_D_times_40 : decode b_D_times 40 = .ok (.getfield 63, 3) := by decide +kernel
theorem d_D_times_43 : decode b_D_times 43 = .ok (.iload_n 3, 1) := by decide +kernel
theorem d_D_times_44 : decode b_D_times 44 = .ok (.iaload, 1) := by decide +kernel
theorem d_D_times_45 : decode b_D_times 45 = .ok (.istore 5, 2) := by decide +kernel
theorem d_D_times_47 : decode b_D_times 47 = .ok (.iload 5, 2) := by decide +kernel
theorem d_D_times_49 : decode b_D_times 49 = .ok (.istore 6, 2) := by decide +kernel
theorem d_D_times_51 : decode b_D_times 51 = .ok (.iload 5, 2) := by decide +kernel
theorem d_D_times_53 : decode b_D_times 53 = .ok (.ifCond .le 24, 3) := by decide +kernel
theorem d_D_times_56 : decode b_D_times 56 = .ok (.aload_n 0, 1) := by decide +kernel
theorem d_D_times_57 : decode b_D_times 57 = .ok (.getfield 22, 3) := by decide +kernel
theorem d_D_times_60 : decode b_D_times 60 = .ok (.getfield 48, 3) := by decide +kernel
theorem d_D_times_63 : decode b_D_times 63 = .ok (.iload 5, 2) := by decide +kernel
theorem d_D_times_65 : decode b_D_times 65 = .ok (.iaload, 1) := by decide +kernel
theorem d_D_times_66 : decode b_D_times 66 = .ok (.iload 4, 2) := by decide +kernel
theorem d_D_times_68 : decode b_D_times 68 = .ok (.if_icmp .lt 9, 3) := by decide +kernel
theorem d_D_times_71 : decode b_D_times 71 = .ok (.iinc 5 (-1), 3) := by decide +kernel
theorem d_D_times_74 : decode b_D_times 74 = .ok (.goto (-23), 3) := by decide +kernel
theorem d_D_times_77 : decode b_D_times 77 = .ok (.iload 6, 2) := by decide +kernel
theorem d_D_times_79 : decode b_D_times 79 = .ok (.iconst 1, 1) := by decide +kernel
theorem d_D_times_80 : decode b_D_times 80 = .ok (.iadd, 1) := by decide +kernel
theorem d_D_times_81 : decode b_D_times 81 = .ok (.aload_n 0, 1) := by decide +kernel
theorem d_D_times_82 : decode b_D_times 82 = .ok (.getfield 26, 3) := by decide +kernel
theorem d_D_times_85 : decode b_D_times 85 = .ok (.if_icmp .ge 26, 3) := by decide +kernel
theorem d_D_times_88 : decode b_D_times 88 = .ok (.aload_n 0, 1) := by decide +kernel
theorem d_D_times_89 : decode b_D_times 89 = .ok (.getfield 22, 3) := by decide +kernel
theorem d_D_times_92 : decode b_D_times 92 = .ok (.getfield 48, 3) := by decide +kernel
theorem d_D_times_95 : decode b_D_times 95 = .ok (.iload 6, 2) := by decide +kernel
theorem d_D_times_97 : decode b_D_times 97 = .ok (.iconst 1, 1) := by decide +kernel
theorem d_D_times_98 : decode b_D_times 98 = .ok (.iadd, 1) := by decide +kernel
theorem d_D_times_99 : decode b_D_times 99 = .ok (.iaload, 1) := by decide +kernel
theorem d_D_times_100 : decode b_D_times 100 = .ok (.iload 4, 2) := by decide +kernel
theorem d_D_times_102 : decode b_D_times 102 = .ok (.if_icmp .lt 9, 3) := by decide +kernel
theorem d_D_times_105 : decode b_D_times 105 = .ok (.iinc 6 1, 3) := by decide +kernel
theorem d_D_times_108 : decode b_D_times 108 = .ok (.goto (-31), 3) := by decide +kernel
theorem d_D_times_111 : decode b_D_times 111 = .ok (.iload 6, 2) := by decide +kernel
theorem d_D_times_113 : decode b_D_times 113 = .ok (.iload 5, 2) := by decide +kernel
theorem d_D_times_115 : decode b_D_times 115 = .ok (.isub, 1) := by decide +kernel
theorem d_D_times_116 : decode b_D_times 116 = .ok (.iconst 1, 1) := by decide +kernel
theorem d_D_times_117 : decode b_D_times 117 = .ok (.iadd, 1) := by decide +kernel
theorem d_D_times_118 : decode b_D_times 118 = .ok (.ireturn, 1) := by decide +kernel
theorem d_D_rank_0 : decode b_D_rank 0 = .ok (.aload_n 0, 1) := by decide +kernel
theorem d_D_rank_1 : decode b_D_rank 1 = .ok (.getfield 26, 3) := by decide +kernel
theorem d_D_rank_4 : decode b_D_rank 4 = .ok (.ifCond .ne 5, 3) := by decide +kernel
theorem d_D_rank_7 : decode b_D_rank 7 = .ok (.iconst (-1), 1) := by decide +kernel
theorem d_D_rank_8 : decode b_D_rank 8 = .ok (.ireturn, 1) := by decide +kernel
theorem d_D_rank_9 : decode b_D_rank 9 = .ok (.aload_n 0, 1) := by decide +kernel
theorem d_D_rank_10 : decode b_D_rank 10 = .ok (.invokevirtual 42, 3) := by decide +kernel
theorem d_D_rank_13 : decode b_D_rank 13 = .ok (.aload_n 0, 1) := by decide +kernel
theorem d_D_rank_14 : decode b_D_rank 14 = .ok (.getfield 22, 3) := by decide +kernel
theorem d_D_rank_17 : decode b_D_rank 17 = .ok (.getfield 63, 3) := by decide +kernel
theorem d_D_rank_20 : decode b_D_rank 20 = .ok (.iload_n 1, 1) := by decide +kernel
theorem d_D_rank_21 : decode b_D_rank 21 = .ok (.aload_n 0, 1) := by decide +kernel
theorem d_D_rank_22 : decode b_D_rank 22 = .ok (.getfield 26, 3) := by decide +kernel
theorem d_D_rank_25 : decode b_D_rank 25 = .ok (.invokestatic 60, 3) := by decide +kernel
theorem d_D_rank_28 : decode b_D_rank 28 = .ok (.iaload, 1) := by decide +kernel
theorem d_D_rank_29 : decode b_D_rank 29 = .ok (.ireturn, 1) := by decide +kernel
theorem d_D_period_0 : decode b_D_period 0 = .ok (.iconst 0, 1) := by decide +kernel
theorem d_D_period_1 : decode b_D_period 1 = .ok (.istore_n 1, 1) := by decide +kernel
theorem d_D_period_2 : decode b_D_period 2 = .ok (.aload_n 0, 1) := by decide +kernel
theorem d_D_period_3 : decode b_D_period 3 = .ok (.getfield 13, 3) := by decide +kernel
theorem d_D_period_6 : decode b_D_period 6 = .ok (.iconst 0, 1) := by decide +kernel
theorem d_D_period_7 : decode b_D_period 7 = .ok (.iconst 0, 1) := by decide +kernel
theorem d_D_period_8 : decode b_D_period 8 = .ok (.iastore, 1) := by decide +kernel
theorem d_D_period_9 : decode b_D_period 9 = .ok (.aload_n 0, 1) := by decide +kernel
theorem d_D_period_10 : decode b_D_period 10 = .ok (.getfield 26, 3) := by decide +kernel
theorem d_D_period_13 : decode b_D_period 13 = .ok (.ifCond .le 10, 3) := by decide +kernel
theorem d_D_period_16 : decode b_D_period 16 = .ok (.aload_n 0, 1) := by decide +kernel
theorem d_D_period_17 : decode b_D_period 17 = .ok (.getfield 13, 3) := by decide +kernel
theorem d_D_period_20 : decode b_D_period 20 = .ok (.iconst 1, 1) := by decide +kernel
theorem d_D_period_21 : decode b_D_period 21 = .ok (.iconst 0, 1) := by decide +kernel
theorem d_D_period_22 : decode b_D_period 22 = .ok (.iastore, 1) := by decide +kernel
theorem d_D_period_23 : decode b_D_period 23 = .ok (.iconst 1, 1) := by decide +kernel
theorem d_D_period_24 : decode b_D_period 24 = .ok (.istore_n 2, 1) := by decide +kernel
theorem d_D_period_25 : decode b_D_period 25 = .ok (.iload_n 2, 1) := by decide +kernel
theorem d_D_period_26 : decode b_D_period 26 = .ok (.aload_n 0, 1) := by decide +kernel
theorem d_D_period_27 : decode b_D_period 27 = .ok (.getfield 26, 3) := by decide +kernel
theorem d_D_period_30 : decode b_D_period 30 = .ok (.if_icmp .ge 65, 3) := by decide +kernel
theorem d_D_period_33 : decode b_D_period 33 = .ok (.iload_n 1, 1) := by decide +kernel
theorem d_D_period_34 : decode b_D_period 34 = .ok (.ifCond .le 28, 3) := by decide +kernel
theorem d_D_period_37 : decode b_D_period 37 = .ok (.aload_n 0, 1) := by decide +kernel
theorem d_D_period_38 : decode b_D_period 38 = .ok (.getfield 9, 3) := by decide +kernel
theorem d_D_period_41 : decode b_D_period 41 = .ok (.iload_n 1, 1) := by decide +kernel
theorem d_D_period_42 : decode b_D_period 42 = .ok (.iaload, 1) := by decide +kernel
theorem d_D_period_43 : decode b_D_period 43 = .ok (.aload_n 0, 1) := by decide +kernel
theorem d_D_period_44 : decode b_D_period 44 = .ok (.getfield 9, 3) := by decide +kernel
theorem d_D_period_47 : decode b_D_period 47 = .ok (.iload_n 2, 1) := by decide +kernel
theorem d_D_period_48 : decode b_D_period 48 = .ok (.iaload, 1) := by decide +kernel
theorem d_D_period_49 : decode b_D_period 49 = .ok (.if_icmp .eq 13, 3) := by decide +kernel
theorem d_D_period_52 : decode b_D_period 52 = .ok (.aload_n 0, 1) := by decide +kernel
theorem d_D_period_53 : decode b_D_period 53 = .ok (.getfield 13, 3) := by decide +kernel
theorem d_D_period_56 : decode b_D_period 56 = .ok (.iload_n 1, 1) := by decide +kernel
theorem d_D_period_57 : decode b_D_period 57 = .ok (.iaload, 1) := by decide +kernel
theorem d_D_period_58 : decode b_D_period 58 = .ok (.istore_n 1, 1) := by decide +kernel
theorem d_D_period_59 : decode b_D_period 59 = .ok (.goto (-26), 3) := by decide +kernel
theorem d_D_period_62 : decode b_D_period 62 = .ok (.aload_n 0, 1) := by decide +kernel
theorem d_D_period_63 : decode b_D_period 63 = .ok (.getfield 9, 3) := by decide +kernel
theorem d_D_period_66 : decode b_D_period 66 = .ok (.iload_n 1, 1) := by decide +kernel
theorem d_D_period_67 : decode b_D_period 67 = .ok (.iaload, 1) := by decide +kernel
theorem d_D_period_68 : decode b_D_period 68 = .ok (.aload_n 0, 1) := by decide +kernel
theorem d_D_period_69 : decode b_D_period 69 = .ok (.getfield 9, 3) := by decide +kernel
theorem d_D_period_72 : decode b_D_period 72 = .ok (.iload_n 2, 1) := by decide +kernel
theorem d_D_period_73 : decode b_D_period 73 = .ok (.iaload, 1) := by decide +kernel
theorem d_D_period_74 : decode b_D_period 74 = .ok (.if_icmp .ne 6, 3) := by decide +kernel
theorem d_D_period_77 : decode b_D_period 77 = .ok (.iinc 1 1, 3) := by decide +kernel
theorem d_D_period_80 : decode b_D_period 80 = .ok (.aload_n 0, 1) := by decide +kernel
theorem d_D_period_81 : decode b_D_period 81 = .ok (.getfield 13, 3) := by decide +kernel
theorem d_D_period_84 : decode b_D_period 84 = .ok (.iload_n 2, 1) := by decide +kernel
theorem d_D_period_85 : decode b_D_period 85 = .ok (.iconst 1, 1) := by decide +kernel
theorem d_D_period_86 : decode b_D_period 86 = .ok (.iadd, 1) := by decide +kernel
theorem d_D_period_87 : decode b_D_period 87 = .ok (.iload_n 1, 1) := by decide +kernel
theorem d_D_period_88 : decode b_D_period 88 = .ok (.iastore, 1) := by decide +kernel
theorem d_D_period_89 : decode b_D_period 89 = .ok (.iinc 2 1, 3) := by decide +kernel
theorem d_D_period_92 : decode b_D_period 92 = .ok (.goto (-67), 3) := by decide +kernel
theorem d_D_period_95 : decode b_D_period 95 = .ok (.aload_n 0, 1) := by decide +kernel
theorem d_D_period_96 : decode b_D_period 96 = .ok (.getfield 26, 3) := by decide +kernel
theorem d_D_period_99 : decode b_D_period 99 = .ok (.ifCond .ne 7, 3) := by decide +kernel
theorem d_D_period_102 : decode b_D_period 102 = .ok (.iconst 0, 1) := by decide +kernel
theorem d_D_period_103 : decode b_D_period 103 = .ok (.goto 17, 3) := by decide +kernel
theorem d_D_period_106 : decode b_D_period 106 = .ok (.aload_n 0, 1) := by decide +kernel
theorem d_D_period_107 : decode b_D_period 107 = .ok (.getfield 26, 3) := by decide +kernel
theorem d_D_period_110 : decode b_D_period 110 = .ok (.aload_n 0, 1) := by decide +kernel
theorem d_D_period_111 : decode b_D_period 111 = .ok (.getfield 13, 3) := by decide +kernel
theorem d_D_period_114 : decode b_D_period 114 = .ok (.aload_n 0, 1) := by decide +kernel
theorem d_D_period_115 : decode b_D_period 115 = .ok (.getfield 26, 3) := by decide +kernel
theorem d_D_period_118 : decode b_D_period 118 = .ok (.iaload, 1) := by decide +kernel
theorem d_D_period_119 : decode b_D_period 119 = .ok (.isub, 1) := by decide +kernel
theorem d_D_period_120 : decode b_D_period 120 = .ok (.ireturn, 1) := by decide +kernel
theorem d_D_mirror_0 : decode b_D_mirror 0 = .ok (.iconst 0, 1) := by decide +kernel
theorem d_D_mirror_1 : decode b_D_mirror 1 = .ok (.istore_n 1, 1) := by decide +kernel
theorem d_D_mirror_2 : decode b_D_mirror 2 = .ok (.iconst 0, 1) := by decide +kernel
theorem d_D_mirror_3 : decode b_D_mirror 3 = .ok (.istore_n 2, 1) := by decide +kernel
theorem d_D_mirror_4 : decode b_D_mirror 4 = .ok (.iconst 0, 1) := by decide +kernel
theorem d_D_mirror_5 : decode b_D_mirror 5 = .ok (.istore_n 3, 1) := by decide +kernel
theorem d_D_mirror_6 : decode b_D_mirror 6 = .ok (.iconst 0, 1) := by decide +kernel
theorem d_D_mirror_7 : decode b_D_mirror 7 = .ok (.istore 4, 2) := by decide +kernel
theorem d_D_mirror_9 : decode b_D_mirror 9 = .ok (.iload 4, 2) := by decide +kernel
theorem d_D_mirror_11 : decode b_D_mirror 11 = .ok (.iconst 2, 1) := by decide +kernel
theorem d_D_mirror_12 : decode b_D_mirror 12 = .ok (.aload_n 0, 1) := by decide +kernel
theorem d_D_mirror_13 : decode b_D_mirror 13 = .ok (.getfield 26, 3) := by decide +kernel
theorem d_D_mirror_16 : decode b_D_mirror 16 = .ok (.imul, 1) := by decide +kernel
theorem d_D_mirror_17 : decode b_D_mirror 17 = .ok (.if_icmp .gt 141, 3) := by decide +kernel
theorem d_D_mirror_20 : decode b_D_mirror 20 = .ok (.iload 4, 2) := by decide +kernel
theorem d_D_mirror_22 : decode b_D_mirror 22 = .ok (.iload_n 2, 1) := by decide +kernel
theorem d_D_mirror_23 : decode b_D_mirror 23 = .ok (.if_icmp .ge 24, 3) := by decide +kernel
theorem d_D_mirror_26 : decode b_D_mirror 26 = .ok (.iload_n 2, 1) := by decide +kernel
theorem d_D_mirror_27 : decode b_D_mirror 27 = .ok (.iload 4, 2) := by decide +kernel
theorem d_D_mirror_29 : decode b_D_mirror 29 = .ok (.isub, 1) := by decide +kernel
theorem d_D_mirror_30 : decode b_D_mirror 30 = .ok (.aload_n 0, 1) := by decide +kernel
theorem d_D_mirror_31 : decode b_D_mirror 31 = .ok (.getfield 16, 3) := by decide +kernel
theorem d_D_mirror_34 : decode b_D_mirror 34 = .ok (.iconst 2, 1) := by decide +kernel
theorem d_D_mirror_35 : decode b_D_mirror 35 = .ok (.iload_n 1, 1) := by decide +kernel
theorem d_D_mirror_36 : decode b_D_mirror 36 = .ok (.imul, 1) := by decide +kernel
theorem d_D_mirror_37 : decode b_D_mirror 37 = .ok (.iload 4, 2) := by decide +kernel
theorem d_D_mirror_39 : decode b_D_mirror 39 = .ok (.isub, 1) := by decide +kernel
theorem d_D_mirror_40 : decode b_D_mirror 40 = .ok (.iaload, 1) := by decide +kernel
theorem d_D_mirror_41 : decode b_D_mirror 41 = .ok (.invokestatic 66, 3) := by decide +kernel
theorem d_D_mirror_44 : decode b_D_mirror 44 = .ok (.goto 4, 3) := by decide +kernel
theorem d_D_mirror_47 : decode b_D_mirror 47 = .ok (.iconst 0, 1) := by decide +kernel
theorem d_D_mirror_48 : decode b_D_mirror 48 = .ok (.istore 5, 2) := by decide +kernel
theorem d_D_mirror_50 : decode b_D_mirror 50 = .ok (.iload 4, 2) := by decide +kernel
theorem d_D_mirror_52 : decode b_D_mirror 52 = .ok (.iload 5, 2) := by decide +kernel
theorem d_D_mirror_54 : decode b_D_mirror 54 = .ok (.isub, 1) := by decide +kernel
theorem d_D_mirror_55 : decode b_D_mirror 55 = .ok (.ifCond .le 63, 3) := by decide +kernel
theorem d_D_mirror_58 : decode b_D_mirror 58 = .ok (.iload 4, 2) := by decide +kernel
theorem d_D_mirror_60 : decode b_D_mirror 60 = .ok (.iload 5, 2) := by decide +kernel
theorem d_D_mirror_62 : decode b_D_mirror 62 = .ok (.iadd, 1) := by decide +kernel
theorem d_D_mirror_63 : decode b_D_mirror 63 = .ok (.iconst 2, 1) := by decide +kernel
theorem d_D_mirror_64 : decode b_D_mirror 64 = .ok (.aload_n 0, 1) := by decide +kernel
theorem d_D_mirror_65 : decode b_D_mirror 65 = .ok (.getfield 26, 3) := by decide +kernel
theorem d_D_mirror_68 : decode b_D_mirror 68 = .ok (.imul, 1) := by decide +kernel
theorem d_D_mirror_69 : decode b_D_mirror 69 = .ok (.if_icmp .ge 49, 3) := by decide +kernel
theorem d_D_mirror_72 : decode b_D_mirror 72 = .ok (.iload 4, 2) := by decide +kernel
theorem d_D_mirror_74 : decode b_D_mirror 74 = .ok (.iload 5, 2) := by decide +kernel
theorem d_D_mirror_76 : decode b_D_mirror 76 = .ok (.iadd, 1) := by decide +kernel
theorem d_D_mirror_77 : decode b_D_mirror 77 = .ok (.iconst 2, 1) := by decide +kernel
theorem d_D_mirror_78 : decode b_D_mirror 78 = .ok (.irem, 1) := by decide +kernel
theorem d_D_mirror_79 : decode b_D_mirror 79 = .ok (.iconst 1, 1) := by decide +kernel
theorem d_D_mirror_80 : decode b_D_mirror 80 = .ok (.if_icmp .eq 32, 3) := by decide +kernel
theorem d_D_mirror_83 : decode b_D_mirror 83 = .ok (.aload_n 0, 1) := by decide +kernel
theorem d_D_mirror_84 : decode b_D_mirror 84 = .ok (.getfield 9, 3) := by decide +kernel
theorem d_D_mirror_87 : decode b_D_mirror 87 = .ok (.iload 4, 2) := by decide +kernel
theorem d_D_mirror_89 : decode b_D_mirror 89 = .ok (.iload 5, 2) := by decide +kernel
theorem d_D_mirror_91 : decode b_D_mirror 91 = .ok (.isub, 1) := by decide +kernel
theorem d_D_mirror_92 : decode b_D_mirror 92 = .ok (.iconst 2, 1) := by decide +kernel
theorem d_D_mirror_93 : decode b_D_mirror 93 = .ok (.idiv, 1) := by decide +kernel
theorem d_D_mirror_94 : decode b_D_mirror 94 = .ok (.iconst 1, 1) := by decide +kernel
theorem d_D_mirror_95 : decode b_D_mirror 95 = .ok (.isub, 1) := by decide +kernel
theorem d_D_mirror_96 : decode b_D_mirror 96 = .ok (.iaload, 1) := by decide +kernel
theorem d_D_mirror_97 : decode b_D_mirror 97 = .ok (.aload_n 0, 1) := by decide +kernel
theorem d_D_mirror_98 : decode b_D_mirror 98 = .ok (.getfield 9, 3) := by decide +kernel
theorem d_D_mirror_101 : decode b_D_mirror 101 = .ok (.iload 4, 2) := by decide +kernel
theorem d_D_mirror_103 : decode b_D_mirror 103 = .ok (.iload 5, 2) := by decide +kernel
theorem d_D_mirror_105 : decode b_D_mirror 105 = .ok (.iadd, 1) := by decide +kernel
theorem d_D_mirror_106 : decode b_D_mirror 106 = .ok (.iconst 2, 1) := by decide +kernel
theorem d_D_mirror_107 : decode b_D_mirror 107 = .ok (.idiv, 1) := by decide +kernel
theorem d_D_mirror_108 : decode b_D_mirror 108 = .ok (.iaload, 1) := by decide +kernel
theorem d_D_mirror_109 : decode b_D_mirror 109 = .ok (.if_icmp .ne 9, 3) := by decide +kernel
theorem d_D_mirror_112 : decode b_D_mirror 112 = .ok (.iinc 5 1, 3) := by decide +kernel
theorem d_D_mirror_115 : decode b_D_mirror 115 = .ok (.goto (-65), 3) := by decide +kernel
theorem d_D_mirror_118 : decode b_D_mirror 118 = .ok (.aload_n 0, 1) := by decide +kernel
theorem d_D_mirror_119 : decode b_D_mirror 119 = .ok (.getfield 16, 3) := by decide +kernel
theorem d_D_mirror_122 : decode b_D_mirror 122 = .ok (.iload 4, 2) := by decide +kernel
theorem d_D_mirror_124 : decode b_D_mirror 124 = .ok (.iload 5, 2) := by decide +kernel
theorem d_D_mirror_126 : decode b_D_mirror 126 = .ok (.iastore, 1) := by decide +kernel
theorem d_D_mirror_127 : decode b_D_mirror 127 = .ok (.iload 4, 2) := by decide +kernel
theorem d_D_mirror_129 : decode b_D_mirror 129 = .ok (.iload 5, 2) := by decide +kernel
theorem d_D_mirror_131 : decode b_D_mirror 131 = .ok (.iadd, 1) := by decide +kernel
theorem d_D_mirror_132 : decode b_D_mirror 132 = .ok (.iload_n 2, 1) := by decide +kernel
theorem d_D_mirror_133 : decode b_D_mirror 133 = .ok (.if_icmp .le 12, 3) := by decide +kernel
theorem d_D_mirror_136 : decode b_D_mirror 136 = .ok (.iload 4, 2) := by decide +kernel
theorem d_D_mirror_138 : decode b_D_mirror 138 = .ok (.istore_n 1, 1) := by decide +kernel
theorem d_D_mirror_139 : decode b_D_mirror 139 = .ok (.iload 4, 2) := by decide +kernel
theorem d_D_mirror_141 : decode b_D_mirror 141 = .ok (.iload 5, 2) := by decide +kernel
theorem d_D_mirror_143 : decode b_D_mirror 143 = .ok (.iadd, 1) := by decide +kernel
theorem d_D_mirror_144 : decode b_D_mirror 144 = .ok (.istore_n 2, 1) := by decide +kernel
theorem d_D_mirror_145 : decode b_D_mirror 145 = .ok (.iload_n 3, 1) := by decide +kernel
theorem d_D_mirror_146 : decode b_D_mirror 146 = .ok (.iload 5, 2) := by decide +kernel
theorem d_D_mirror_148 : decode b_D_mirror 148 = .ok (.invokestatic 51, 3) := by decide +kernel
theorem d_D_mirror_151 : decode b_D_mirror 151 = .ok (.istore_n 3, 1) := by decide +kernel
theorem d_D_mirror_152 : decode b_D_mirror 152 = .ok (.iinc 4 1, 3) := by decide +kernel
theorem d_D_mirror_155 : decode b_D_mirror 155 = .ok (.goto (-146), 3) := by decide +kernel
theorem d_D_mirror_158 : decode b_D_mirror 158 = .ok (.iload_n 3, 1) := by decide +kernel
theorem d_D_mirror_159 : decode b_D_mirror 159 = .ok (.ireturn, 1) := by decide +kernel
end
section
theorem d_M_init_0 : decode b_M_init 0 = .ok (.aload_n 0, 1) := by decide +kernel
theorem d_M_init_1 : decode b_M_init 1 = .ok (.invokespecial 1, 3) := by decide +kernel
theorem d_M_init_4 : decode b_M_init 4 = .ok (.aload_n 0, 1) := by decide +kernel
theorem d_M_init_5 : decode b_M_init 5 = .ok (.sipush 128, 3) := by decide +kernel
theorem d_M_init_8 : decode b_M_init 8 = .ok (.newarray .int, 2) := by decide +kernel
theorem d_M_init_10 : decode b_M_init 10 = .ok (.putfield 7, 3) := by decide +kernel
theorem d_M_init_13 : decode b_M_init 13 = .ok (.aload_n 0, 1) := by decide +kernel
theorem d_M_init_14 : decode b_M_init 14 = .ok (.sipush 16641, 3) := by decide +kernel
theorem d_M_init_17 : decode b_M_init 17 = .ok (.newarray .int, 2) := by decide +kernel
theorem d_M_init_19 : decode b_M_init 19 = .ok (.putfield 13, 3) := by decide +kernel
theorem d_M_init_22 : decode b_M_init 22 = .ok (.return_, 1) := by decide +kernel
theorem d_M_put_0 : decode b_M_put 0 = .ok (.aload_n 0, 1) := by decide +kernel
theorem d_M_put_1 : decode b_M_put 1 = .ok (.getfield 16, 3) := by decide +kernel
theorem d_M_put_4 : decode b_M_put 4 = .ok (.iconst 4, 1) := by decide +kernel
theorem d_M_put_5 : decode b_M_put 5 = .ok (.iadd, 1) := by decide +kernel
theorem d_M_put_6 : decode b_M_put 6 = .ok (.sipush 128, 3) := by decide +kernel
theorem d_M_put_9 : decode b_M_put 9 = .ok (.if_icmp .le 5, 3) := by decide +kernel
theorem d_M_put_12 : decode b_M_put 12 = .ok (.iconst 0, 1) := by decide +kernel
theorem d_M_put_13 : decode b_M_put 13 = .ok (.ireturn, 1) := by decide +kernel
theorem d_M_put_14 : decode b_M_put 14 = .ok (.iconst 0, 1) := by decide +kernel
theorem d_M_put_15 : decode b_M_put 15 = .ok (.istore 5, 2) := by decide +kernel
theorem d_M_put_17 : decode b_M_put 17 = .ok (.iload 5, 2) := by decide +kernel
theorem d_M_put_19 : decode b_M_put 19 = .ok (.iconst 4, 1) := by decide +kernel
theorem d_M_put_20 : decode b_M_put 20 = .ok (.if_icmp .ge 61, 3) := by decide +kernel
theorem d_M_put_23 : decode b_M_put 23 = .ok (.aload_n 0, 1) := by decide +kernel
theorem d_M_put_24 : decode b_M_put 24 = .ok (.getfield 7, 3) := by decide +kernel
theorem d_M_put_27 : decode b_M_put 27 = .ok (.aload_n 0, 1) := by decide +kernel
theorem d_M_put_28 : decode b_M_put 28 = .ok (.getfield 16, 3) := by decide +kernel
theorem d_M_put_31 : decode b_M_put 31 = .ok (.iload 5, 2) := by decide +kernel
theorem d_M_put_33 : decode b_M_put 33 = .ok (.ifCond .ne 7, 3) := by decide +kernel
theorem d_M_put_36 : decode b_M_put 36 = .ok (.iload_n 1, 1) := by decide +kernel
theorem d_M_put_37 : decode b_M_put 37 = .ok (.goto 25, 3) := by decide +kernel
theorem d_M_put_40 : decode b_M_put 40 = .ok (.iload 5, 2) := by decide +kernel
theorem d_M_put_42 : decode b_M_put 42 = .ok (.iconst 1, 1) := by decide +kernel
theorem d_M_put_43 : decode b_M_put 43 = .ok (.if_icmp .ne 7, 3) := by decide +kernel
theorem d_M_put_46 : decode b_M_put 46 = .ok (.iload_n 2, 1) := by decide +kernel
theorem d_M_put_47 : decode b_M_put 47 = .ok (.goto 15, 3) := by decide +kernel
theorem d_M_put_50 : decode b_M_put 50 = .ok (.iload 5, 2) := by decide +kernel
theorem d_M_put_52 : decode b_M_put 52 = .ok (.iconst 2, 1) := by decide +kernel
theorem d_M_put_53 : decode b_M_put 53 = .ok (.if_icmp .ne 7, 3) := by decide +kernel
theorem d_M_put_56 : decode b_M_put 56 = .ok (.iload_n 3, 1) := by decide +kernel
theorem d_M_put_57 : decode b_M_put 57 = .ok (.goto 5, 3) := by decide +kernel
theorem d_M_put_60 : decode b_M_put 60 = .ok (.iload 4, 2) := by decide +kernel
theorem d_M_put_62 : decode b_M_put 62 = .ok (.iconst 3, 1) := by decide +kernel
theorem d_M_put_63 : decode b_M_put 63 = .ok (.iand, 1) := by decide +kernel
theorem d_M_put_64 : decode b_M_put 64 = .ok (.iastore, 1) := by decide +kernel
theorem d_M_put_65 : decode b_M_put 65 = .ok (.aload_n 0, 1) := by decide +kernel
theorem d_M_put_66 : decode b_M_put 66 = .ok (.aload_n 0, 1) := by decide +kernel
theorem d_M_put_67 : decode b_M_put 67 = .ok (.getfield 16, 3) := by decide +kernel
theorem d_M_put_70 : decode b_M_put 70 = .ok (.iconst 1, 1) := by decide +kernel
theorem d_M_put_71 : decode b_M_put 71 = .ok (.iadd, 1) := by decide +kernel
theorem d_M_put_72 : decode b_M_put 72 = .ok (.putfield 16, 3) := by decide +kernel
theorem d_M_put_75 : decode b_M_put 75 = .ok (.iinc 5 1, 3) := by decide +kernel
theorem d_M_put_78 : decode b_M_put 78 = .ok (.goto (-61), 3) := by decide +kernel
theorem d_M_put_81 : decode b_M_put 81 = .ok (.iconst 1, 1) := by decide +kernel
theorem d_M_put_82 : decode b_M_put 82 = .ok (.ireturn, 1) := by decide +kernel
theorem d_M_one_0 : decode b_M_one 0 = .ok (.aload_n 0, 1) := by decide +kernel
theorem d_M_one_1 : decode b_M_one 1 = .ok (.getfield 16, 3) := by decide +kernel
theorem d_M_one_4 : decode b_M_one 4 = .ok (.sipush 128, 3) := by decide +kernel
theorem d_M_one_7 : decode b_M_one 7 = .ok (.if_icmp .ne 5, 3) := by decide +kernel
theorem d_M_one_10 : decode b_M_one 10 = .ok (.iconst 0, 1) := by decide +kernel
theorem d_M_one_11 : decode b_M_one 11 = .ok (.ireturn, 1) := by decide +kernel
theorem d_M_one_12 : decode b_M_one 12 = .ok (.aload_n 0, 1) := by decide +kernel
theorem d_M_one_13 : decode b_M_one 13 = .ok (.getfield 7, 3) := by decide +kernel
theorem d_M_one_16 : decode b_M_one 16 = .ok (.aload_n 0, 1) := by decide +kernel
theorem d_M_one_17 : decode b_M_one 17 = .ok (.getfield 16, 3) := by decide +kernel
theorem d_M_one_20 : decode b_M_one 20 = .ok (.iload_n 1, 1) := by decide +kernel
theorem d_M_one_21 : decode b_M_one 21 = .ok (.iconst 3, 1) := by decide +kernel
theorem d_M_one_22 : decode b_M_one 22 = .ok (.iand, 1) := by decide +kernel
theorem d_M_one_23 : decode b_M_one 23 = .ok (.iastore, 1) := by decide +kernel
theorem d_M_one_24 : decode b_M_one 24 = .ok (.aload_n 0, 1) := by decide +kernel
theorem d_M_one_25 : decode b_M_one 25 = .ok (.aload_n 0, 1) := by decide +kernel
theorem d_M_one_26 : decode b_M_one 26 = .ok (.getfield 16, 3) := by decide +kernel
theorem d_M_one_29 : decode b_M_one 29 = .ok (.iconst 1, 1) := by decide +kernel
theorem d_M_one_30 : decode b_M_one 30 = .ok (.iadd, 1) := by decide +kernel
theorem d_M_one_31 : decode b_M_one 31 = .ok (.putfield 16, 3) := by decide +kernel
theorem d_M_one_34 : decode b_M_one 34 = .ok (.iconst 1, 1) := by decide +kernel
theorem d_M_one_35 : decode b_M_one 35 = .ok (.ireturn, 1) := by decide +kernel
theorem d_M_cut_0 : decode b_M_cut 0 = .ok (.aload_n 0, 1) := by decide +kernel
theorem d_M_cut_1 : decode b_M_cut 1 = .ok (.getfield 16, 3) := by decide +kernel
theorem d_M_cut_4 : decode b_M_cut 4 = .ok (.ifCond .ne 5, 3) := by decide +kernel
theorem d_M_cut_7 : decode b_M_cut 7 = .ok (.iconst 0, 1) := by decide +kernel
theorem d_M_cut_8 : decode b_M_cut 8 = .ok (.ireturn, 1) := by decide +kernel
theorem d_M_cut_9 : decode b_M_cut 9 = .ok (.aload_n 0, 1) := by decide +kernel
theorem d_M_cut_10 : decode b_M_cut 10 = .ok (.aload_n 0, 1) := by decide +kernel
theorem d_M_cut_11 : decode b_M_cut 11 = .ok (.getfield 16, 3) := by decide +kernel
theorem d_M_cut_14 : decode b_M_cut 14 = .ok (.iconst 1, 1) := by decide +kernel
theorem d_M_cut_15 : decode b_M_cut 15 = .ok (.isub, 1) := by decide +kernel
theorem d_M_cut_16 : decode b_M_cut 16 = .ok (.putfield 16, 3) := by decide +kernel
theorem d_M_cut_19 : decode b_M_cut 19 = .ok (.iconst 1, 1) := by decide +kernel
theorem d_M_cut_20 : decode b_M_cut 20 = .ok (.ireturn, 1) := by decide +kernel
theorem d_M_length_0 : decode b_M_length 0 = .ok (.aload_n 0, 1) := by decide +kernel
theorem d_M_length_1 : decode b_M_length 1 = .ok (.getfield 16, 3) := by decide +kernel
theorem d_M_length_4 : decode b_M_length 4 = .ok (.ireturn, 1) := by decide +kernel
theorem d_M_reckon_0 : decode b_M_reckon 0 = .ok (.aload_n 0, 1) := by decide +kernel
theorem d_M_reckon_1 : decode b_M_reckon 1 = .ok (.getfield 16, 3) := by decide +kernel
theorem d_M_reckon_4 : decode b_M_reckon 4 = .ok (.istore_n 1, 1) := by decide +kernel
theorem d_M_reckon_5 : decode b_M_reckon 5 = .ok (.iload_n 1, 1) := by decide +kernel
theorem d_M_reckon_6 : decode b_M_reckon 6 = .ok (.ifCond .lt 89, 3) := by decide +kernel
theorem d_M_reckon_9 : decode b_M_reckon 9 = .ok (.aload_n 0, 1) := by decide +kernel
theorem d_M_reckon_10 : decode b_M_reckon 10 = .ok (.getfield 16, 3) := by decide +kernel
theorem d_M_reckon_13 : decode b_M_reckon 13 = .ok (.istore_n 2, 1) := by decide +kernel
theorem d_M_reckon_14 : decode b_M_reckon 14 = .ok (.iload_n 2, 1) := by decide +kernel
theorem d_M_reckon_15 : decode b_M_reckon 15 = .ok (.ifCond .lt 74, 3) := by decide +kernel
theorem d_M_reckon_18 : decode b_M_reckon 18 = .ok (.aload_n 0, 1) := by decide +kernel
theorem d_M_reckon_19 : decode b_M_reckon 19 = .ok (.getfield 13, 3) := by decide +kernel
theorem d_M_reckon_22 : decode b_M_reckon 22 = .ok (.sipush 129, 3) := by decide +kernel
theorem d_M_reckon_25 : decode b_M_reckon 25 = .ok (.iload_n 1, 1) := by decide +kernel
theorem d_M_reckon_26 : decode b_M_reckon 26 = .ok (.imul, 1) := by decide +kernel
theorem d_M_reckon_27 : decode b_M_reckon 27 = .ok (.iload_n 2, 1) := by decide +kernel
theorem d_M_reckon_28 : decode b_M_reckon 28 = .ok (.iadd, 1) := by decide +kernel
theorem d_M_reckon_29 : decode b_M_reckon 29 = .ok (.iload_n 1, 1) := by decide +kernel
theorem d_M_reckon_30 : decode b_M_reckon 30 = .ok (.aload_n 0, 1) := by decide +kernel
theorem d_M_reckon_31 : decode b_M_reckon 31 = .ok (.getfield 16, 3) := by decide +kernel
theorem d_M_reckon_34 : decode b_M_reckon 34 = .ok (.if_icmp .ge 47, 3) := by decide +kernel
theorem d_M_reckon_37 : decode b_M_reckon 37 = .ok (.iload_n 2, 1) := by decide +kernel
theorem d_M_reckon_38 : decode b_M_reckon 38 = .ok (.aload_n 0, 1) := by decide +kernel
theorem d_M_reckon_39 : decode b_M_reckon 39 = .ok (.getfield 16, 3) := by decide +kernel
theorem d_M_reckon_42 : decode b_M_reckon 42 = .ok (.if_icmp .ge 39, 3) := by decide +kernel
theorem d_M_reckon_45 : decode b_M_reckon 45 = .ok (.aload_n 0, 1) := by decide +kernel
theorem d_M_reckon_46 : decode b_M_reckon 46 = .ok (.getfield 7, 3) := by decide +kernel
theorem d_M_reckon_49 : decode b_M_reckon 49 = .ok (.iload_n 1, 1) := by decide +kernel
theorem d_M_reckon_50 : decode b_M_reckon 50 = .ok (.iaload, 1) := by decide +kernel
theorem d_M_reckon_51 : decode b_M_reckon 51 = .ok (.aload_n 0, 1) := by decide +kernel
theorem d_M_reckon_52 : decode b_M_reckon 52 = .ok (.getfield 7, 3) := by decide +kernel
theorem d_M_reckon_55 : decode b_M_reckon 55 = .ok (.iload_n 2, 1) := by decide +kernel
theorem d_M_reckon_56 : decode b_M_reckon 56 = .ok (.iaload, 1) := by decide +kernel
theorem d_M_reckon_57 : decode b_M_reckon 57 = .ok (.if_icmp .ne 24, 3) := by decide +kernel
theorem d_M_reckon_60 : decode b_M_reckon 60 = .ok (.aload_n 0, 1) := by decide +kernel
theorem d_M_reckon_61 : decode b_M_reckon 61 = .ok (.getfield 13, 3) := by decide +kernel
theorem d_M_reckon_64 : decode b_M_reckon 64 = .ok (.sipush 129, 3) := by decide +kernel
theorem d_M_reckon_67 : decode b_M_reckon 67 = .ok (.iload_n 1, 1) := by decide +kernel
theorem d_M_reckon_68 : decode b_M_reckon 68 = .ok (.iconst 1, 1) := by decide +kernel
theorem d_M_reckon_69 : decode b_M_reckon 69 = .ok (.iadd, 1) := by decide +kernel
theorem d_M_reckon_70 : decode b_M_reckon 70 = .ok (.imul, 1) := by decide +kernel
theorem d_M_reckon_71 : decode b_M_reckon 71 = .ok (.iload_n 2, 1) := by decide +kernel
theorem d_M_reckon_72 : decode b_M_reckon 72 = .ok (.iadd, 1) := by decide +kernel
theorem d_M_reckon_73 : decode b_M_reckon 73 = .ok (.iconst 1, 1) := by decide +kernel
theorem d_M_reckon_74 : decode b_M_reckon 74 = .ok (.iadd, 1) := by decide +kernel
theorem d_M_reckon_75 : decode b_M_reckon 75 = .ok (.iaload, 1) := by decide +kernel
theorem d_M_reckon_76 : decode b_M_reckon 76 = .ok (.iconst 1, 1) := by decide +kernel
theorem d_M_reckon_77 : decode b_M_reckon 77 = .ok (.iadd, 1) := by decide +kernel
theorem d_M_reckon_78 : decode b_M_reckon 78 = .ok (.goto 4, 3) := by decide +kernel
theorem d_M_reckon_81 : decode b_M_reckon 81 = .ok (.iconst 0, 1) := by decide +kernel
theorem d_M_reckon_82 : decode b_M_reckon 82 = .ok (.iastore, 1) := by decide +kernel
theorem d_M_reckon_83 : decode b_M_reckon 83 = .ok (.iinc 2 (-1), 3) := by decide +kernel
theorem d_M_reckon_86 : decode b_M_reckon 86 = .ok (.goto (-72), 3) := by decide +kernel
theorem d_M_reckon_89 : decode b_M_reckon 89 = .ok (.iinc 1 (-1), 3) := by decide +kernel
theorem d_M_reckon_92 : decode b_M_reckon 92 = .ok (.goto (-87), 3) := by decide +kernel
theorem d_M_reckon_95 : decode b_M_reckon 95 = .ok (.return_, 1) := by decide +kernel
theorem d_M_same_0 : decode b_M_same 0 = .ok (.aload_n 0, 1) := by decide +kernel
theorem d_M_same_1 : decode b_M_same 1 = .ok (.getfield 13, 3) := by decide +kernel
theorem d_M_same_4 : decode b_M_same 4 = .ok (.sipush 129, 3) := by decide +kernel
theorem d_M_same_7 : decode b_M_same 7 = .ok (.iload_n 1, 1) := by decide +kernel
theorem d_M_same_8 : decode b_M_same 8 = .ok (.imul, 1) := by decide +kernel
theorem d_M_same_9 : decode b_M_same 9 = .ok (.iload_n 2, 1) := by decide +kernel
theorem d_M_same_10 : decode b_M_same 10 = .ok (.iadd, 1) := by decide +kernel
theorem d_M_same_11 : decode b_M_same 11 = .ok (.iaload, 1) := by decide +kernel
theorem d_M_same_12 : decode b_M_same 12 = .ok (.ireturn, 1) := by decide +kernel
theorem d_M_different_0 : decode b_M_different 0 = .ok (.aload_n 0, 1) := by decide +kernel
theorem d_M_different_1 : decode b_M_different 1 = .ok (.invokevirtual 20, 3) := by decide +kernel
theorem d_M_different_4 : decode b_M_different 4 = .ok (.iconst 0, 1) := by decide +kernel
theorem d_M_different_5 : decode b_M_different 5 = .ok (.istore_n 1, 1) := by decide +kernel
theorem d_M_different_6 : decode b_M_different 6 = .ok (.iconst 0, 1) := by decide +kernel
theorem d_M_different_7 : decode b_M_different 7 = .ok (.istore_n 2, 1) := by decide +kernel
theorem d_M_different_8 : decode b_M_different 8 = .ok (.iload_n 2, 1) := by decide +kernel
theorem d_M_different_9 : decode b_M_different 9 = .ok (.aload_n 0, 1) := by decide +kernel
theorem d_M_different_10 : decode b_M_different 10 = .ok (.getfield 16, 3) := by decide +kernel
theorem d_M_different_13 : decode b_M_different 13 = .ok (.if_icmp .ge 59, 3) := by decide +kernel
theorem d_M_different_16 : decode b_M_different 16 = .ok (.iconst 0, 1) := by decide +kernel
theorem d_M_different_17 : decode b_M_different 17 = .ok (.istore_n 3, 1) := by decide +kernel
theorem d_M_different_18 : decode b_M_different 18 = .ok (.iconst 0, 1) := by decide +kernel
theorem d_M_different_19 : decode b_M_different 19 = .ok (.istore 4, 2) := by decide +kernel
theorem d_M_different_21 : decode b_M_different 21 = .ok (.iload 4, 2) := by decide +kernel
theorem d_M_different_23 : decode b_M_different 23 = .ok (.iload_n 2, 1) := by decide +kernel
theorem d_M_different_24 : decode b_M_different 24 = .ok (.if_icmp .ge 31, 3) := by decide +kernel
theorem d_M_different_27 : decode b_M_different 27 = .ok (.aload_n 0, 1) := by decide +kernel
theorem d_M_different_28 : decode b_M_different 28 = .ok (.iload 4, 2) := by decide +kernel
theorem d_M_different_30 : decode b_M_different 30 = .ok (.iload_n 2, 1) := by decide +kernel
theorem d_M_different_31 : decode b_M_different 31 = .ok (.invokevirtual 23, 3) := by decide +kernel
theorem d_M_different_34 : decode b_M_different 34 = .ok (.istore 5, 2) := by decide +kernel
theorem d_M_different_36 : decode b_M_different 36 = .ok (.iload 5, 2) := by decide +kernel
theorem d_M_different_38 : decode b_M_different 38 = .ok (.iload_n 3, 1) := by decide +kernel
theorem d_M_different_39 : decode b_M_different 39 = .ok (.if_icmp .le 8, 3) := by decide +kernel
theorem d_M_different_42 : decode b_M_different 42 = .ok (.iload 5, 2) := by decide +kernel
theorem d_M_different_44 : decode b_M_different 44 = .ok (.goto 4, 3) := by decide +kernel
theorem d_M_different_47 : decode b_M_different 47 = .ok (.iload_n 3, 1) := by decide +kernel
theorem d_M_different_48 : decode b_M_different 48 = .ok (.istore_n 3, 1) := by decide +kernel
theorem d_M_different_49 : decode b_M_different 49 = .ok (.iinc 4 1, 3) := by decide +kernel
theorem d_M_different_52 : decode b_M_different 52 = .ok (.goto (-31), 3) := by decide +kernel
theorem d_M_different_55 : decode b_M_different 55 = .ok (.iload_n 1, 1) := by decide +kernel
theorem d_M_different_56 : decode b_M_different 56 = .ok (.aload_n 0, 1) := by decide +kernel
theorem d_M_different_57 : decode b_M_different 57 = .ok (.getfield 16, 3) := by decide +kernel
theorem d_M_different_60 : decode b_M_different 60 = .ok (.iadd, 1) := by decide +kernel
theorem d_M_different_61 : decode b_M_different 61 = .ok (.iload_n 2, 1) := by decide +kernel
theorem d_M_different_62 : decode b_M_different 62 = .ok (.isub, 1) := by decide +kernel
theorem d_M_different_63 : decode b_M_different 63 = .ok (.iload_n 3, 1) := by decide +kernel
theorem d_M_different_64 : decode b_M_different 64 = .ok (.isub, 1) := by decide +kernel
theorem d_M_different_65 : decode b_M_different 65 = .ok (.istore_n 1, 1) := by decide +kernel
theorem d_M_different_66 : decode b_M_different 66 = .ok (.iinc 2 1, 3) := by decide +kernel
theorem d_M_different_69 : decode b_M_different 69 = .ok (.goto (-61), 3) := by decide +kernel
theorem d_M_different_72 : decode b_M_different 72 = .ok (.iload_n 1, 1) := by decide +kernel
theorem d_M_different_73 : decode b_M_different 73 = .ok (.ireturn, 1) := by decide +kernel
theorem d_M_longest_0 : decode b_M_longest 0 = .ok (.aload_n 0, 1) := by decide +kernel
theorem d_M_longest_1 : decode b_M_longest 1 = .ok (.invokevirtual 20, 3) := by decide +kernel
theorem d_M_longest_4 : decode b_M_longest 4 = .ok (.iconst 0, 1) := by decide +kernel
theorem d_M_longest_5 : decode b_M_longest 5 = .ok (.istore_n 1, 1) := by decide +kernel
theorem d_M_longest_6 : decode b_M_longest 6 = .ok (.iconst 0, 1) := by decide +kernel
theorem d_M_longest_7 : decode b_M_longest 7 = .ok (.istore_n 2, 1) := by decide +kernel
theorem d_M_longest_8 : decode b_M_longest 8 = .ok (.iload_n 2, 1) := by decide +kernel
theorem d_M_longest_9 : decode b_M_longest 9 = .ok (.aload_n 0, 1) := by decide +kernel
theorem d_M_longest_10 : decode b_M_longest 10 = .ok (.getfield 16, 3) := by decide +kernel
theorem d_M_longest_13 : decode b_M_longest 13 = .ok (.if_icmp .ge 43, 3) := by decide +kernel
theorem d_M_longest_16 : decode b_M_longest 16 = .ok (.iconst 0, 1) := by decide +kernel
theorem d_M_longest_17 : decode b_M_longest 17 = .ok (.istore_n 3, 1) := by decide +kernel
theorem d_M_longest_18 : decode b_M_longest 18 = .ok (.iload_n 3, 1) := by decide +kernel
theorem d_M_longest_19 : decode b_M_longest 19 = .ok (.iload_n 2, 1) := by decide +kernel
theorem d_M_longest_20 : decode b_M_longest 20 = .ok (.if_icmp .ge 30, 3) := by decide +kernel
theorem d_M_longest_23 : decode b_M_longest 23 = .ok (.aload_n 0, 1) := by decide +kernel
theorem d_M_longest_24 : decode b_M_longest 24 = .ok (.iload_n 3, 1) := by decide +kernel
theorem d_M_longest_25 : decode b_M_longest 25 = .ok (.iload_n 2, 1) := by decide +kernel
theorem d_M_longest_26 : decode b_M_longest 26 = .ok (.invokevirtual 23, 3) := by decide +kernel
theorem d_M_longest_29 : decode b_M_longest 29 = .ok (.istore 4, 2) := by decide +kernel
theorem d_M_longest_31 : decode b_M_longest 31 = .ok (.iload 4, 2) := by decide +kernel
theorem d_M_longest_33 : decode b_M_longest 33 = .ok (.iload_n 1, 1) := by decide +kernel
theorem d_M_longest_34 : decode b_M_longest 34 = .ok (.if_icmp .le 8, 3) := by decide +kernel
theorem d_M_longest_37 : decode b_M_longest 37 = .ok (.iload 4, 2) := by decide +kernel
theorem d_M_longest_39 : decode b_M_longest 39 = .ok (.goto 4, 3) := by decide +kernel
theorem d_M_longest_42 : decode b_M_longest 42 = .ok (.iload_n 1, 1) := by decide +kernel
theorem d_M_longest_43 : decode b_M_longest 43 = .ok (.istore_n 1, 1) := by decide +kernel
theorem d_M_longest_44 : decode b_M_longest 44 = .ok (.iinc 3 1, 3) := by decide +kernel
theorem d_M_longest_47 : decode b_M_longest 47 = .ok (.goto (-29), 3) := by decide +kernel
theorem d_M_longest_50 : decode b_M_longest 50 = .ok (.iinc 2 1, 3) := by decide +kernel
theorem d_M_longest_53 : decode b_M_longest 53 = .ok (.goto (-45), 3) := by decide +kernel
theorem d_M_longest_56 : decode b_M_longest 56 = .ok (.iload_n 1, 1) := by decide +kernel
theorem d_M_longest_57 : decode b_M_longest 57 = .ok (.ireturn, 1) := by decide +kernel
theorem d_M_times_0 : decode b_M_times 0 = .ok (.aload_n 0, 1) := by decide +kernel
theorem d_M_times_1 : decode b_M_times 1 = .ok (.getfield 16, 3) := by decide +kernel
theorem d_M_times_4 : decode b_M_times 4 = .ok (.ifCond .ne 5, 3) := by decide +kernel
theorem d_M_times_7 : decode b_M_times 7 = .ok (.iconst 0, 1) := by decide +kernel
theorem d_M_times_8 : decode b_M_times 8 = .ok (.ireturn, 1) := by decide +kernel
theorem d_M_times_9 : decode b_M_times 9 = .ok (.aload_n 0, 1) := by decide +kernel
theorem d_M_times_10 : decode b_M_times 10 = .ok (.invokevirtual 20, 3) := by decide +kernel
theorem d_M_times_13 : decode b_M_times 13 = .ok (.iload_n 1, 1) := by decide +kernel
theorem d_M_times_14 : decode b_M_times 14 = .ok (.ldc 27, 2) := by decide +kernel
theorem d_M_times_16 : decode b_M_times 16 = .ok (.iand, 1) := by decide +kernel
theorem d_M_times_17 : decode b_M_times 17 = .ok (.aload_n 0, 1) := by decide +kernel
theorem d_M_times_18 : decode b_M_times 18 = .ok (.getfield 16, 3) := by decide +kernel
theorem d_M_times_21 : decode b_M_times 21 = .ok (.irem, 1) := by decide +kernel
theorem d_M_times_22 : decode b_M_times 22 = .ok (.istore_n 3, 1) := by decide +kernel
theorem d_M_times_23 : decode b_M_times 23 = .ok (.iconst 1, 1) := by decide +kernel
theorem d_M_times_24 : decode b_M_times 24 = .ok (.iload_n 2, 1) := by decide +kernel
theorem d_M_times_25 : decode b_M_times 25 = .ok (.ldc 27, 2) := by decide +kernel
theorem d_M_times_27 : decode b_M_times 27 = .ok (.iand, 1) := by decide +kernel
theorem d_M_times_28 : decode b_M_times 28 = .ok (.aload_n 0, 1) := by decide +kernel
theorem d_M_times_29 : decode b_M_times 29 = .ok (.getfield 16, 3) := by decide +kernel
theorem d_M_times_32 : decode b_M_times 32 = .ok (.iload_n 3, 1) := by decide +kernel
theorem d_M_times_33 : decode b_M_times 33 = .ok (.isub, 1) := by decide +kernel
theorem d_M_times_34 : decode b_M_times 34 = .ok (.irem, 1) := by decide +kernel
theorem d_M_times_35 : decode b_M_times 35 = .ok (.iadd, 1) := by decide +kernel
theorem d_M_times_36 : decode b_M_times 36 = .ok (.istore 4, 2) := by decide +kernel
theorem d_M_times_38 : decode b_M_times 38 = .ok (.iconst 0, 1) := by decide +kernel
theorem d_M_times_39 : decode b_M_times 39 = .ok (.istore 5, 2) := by decide +kernel
theorem d_M_times_41 : decode b_M_times 41 = .ok (.iconst 0, 1) := by decide +kernel
theorem d_M_times_42 : decode b_M_times 42 = .ok (.istore 6, 2) := by decide +kernel
theorem d_M_times_44 : decode b_M_times 44 = .ok (.iload 6, 2) := by decide +kernel
theorem d_M_times_46 : decode b_M_times 46 = .ok (.iload 4, 2) := by decide +kernel
theorem d_M_times_48 : decode b_M_times 48 = .ok (.iadd, 1) := by decide +kernel
theorem d_M_times_49 : decode b_M_times 49 = .ok (.aload_n 0, 1) := by decide +kernel
theorem d_M_times_50 : decode b_M_times 50 = .ok (.getfield 16, 3) := by decide +kernel
theorem d_M_times_53 : decode b_M_times 53 = .ok (.if_icmp .gt 27, 3) := by decide +kernel
theorem d_M_times_56 : decode b_M_times 56 = .ok (.aload_n 0, 1) := by decide +kernel
theorem d_M_times_57 : decode b_M_times 57 = .ok (.iload 6, 2) := by decide +kernel
theorem d_M_times_59 : decode b_M_times 59 = .ok (.iload_n 3, 1) := by decide +kernel
theorem d_M_times_60 : decode b_M_times 60 = .ok (.invokevirtual 23, 3) := by decide +kernel
theorem d_M_times_63 : decode b_M_times 63 = .ok (.iload 4, 2) := by decide +kernel
theorem d_M_times_65 : decode b_M_times 65 = .ok (.if_icmp .lt 9, 3) := by decide +kernel
theorem d_M_times_68 : decode b_M_times 68 = .ok (.iload 5, 2) := by decide +kernel
theorem d_M_times_70 : decode b_M_times 70 = .ok (.iconst 1, 1) := by decide +kernel
theorem d_M_times_71 : decode b_M_times 71 = .ok (.iadd, 1) := by decide +kernel
theorem d_M_times_72 : decode b_M_times 72 = .ok (.istore 5, 2) := by decide +kernel
theorem d_M_times_74 : decode b_M_times 74 = .ok (.iinc 6 1, 3) := by decide +kernel
theorem d_M_times_77 : decode b_M_times 77 = .ok (.goto (-33), 3) := by decide +kernel
theorem d_M_times_80 : decode b_M_times 80 = .ok (.iload 5, 2) := by decide +kernel
theorem d_M_times_82 : decode b_M_times 82 = .ok (.ireturn, 1) := by decide +kernel
theorem d_M_rank_0 : decode b_M_rank 0 = .ok (.aload_n 0, 1) := by decide +kernel
theorem d_M_rank_1 : decode b_M_rank 1 = .ok (.getfield 16, 3) := by decide +kernel
theorem d_M_rank_4 : decode b_M_rank 4 = .ok (.ifCond .ne 5, 3) := by decide +kernel
theorem d_M_rank_7 : decode b_M_rank 7 = .ok (.iconst (-1), 1) := by decide +kernel
theorem d_M_rank_8 : decode b_M_rank 8 = .ok (.ireturn, 1) := by decide +kernel
theorem d_M_rank_9 : decode b_M_rank 9 = .ok (.aload_n 0, 1) := by decide +kernel
theorem d_M_rank_10 : decode b_M_rank 10 = .ok (.invokevirtual 20, 3) := by decide +kernel
theorem d_M_rank_13 : decode b_M_rank 13 = .ok (.iload_n 1, 1) := by decide +kernel
theorem d_M_rank_14 : decode b_M_rank 14 = .ok (.ldc 27, 2) := by decide +kernel
theorem d_M_rank_16 : decode b_M_rank 16 = .ok (.iand, 1) := by decide +kernel
theorem d_M_rank_17 : decode b_M_rank 17 = .ok (.aload_n 0, 1) := by decide +kernel
theorem d_M_rank_18 : decode b_M_rank 18 = .ok (.getfield 16, 3) := by decide +kernel
theorem d_M_rank_21 : decode b_M_rank 21 = .ok (.irem, 1) := by decide +kernel
theorem d_M_rank_22 : decode b_M_rank 22 = .ok (.istore_n 2, 1) := by decide +kernel
theorem d_M_rank_23 : decode b_M_rank 23 = .ok (.iconst 0, 1) := by decide +kernel
theorem d_M_rank_24 : decode b_M_rank 24 = .ok (.istore_n 3, 1) := by decide +kernel
theorem d_M_rank_25 : decode b_M_rank 25 = .ok (.iconst 0, 1) := by decide +kernel
theorem d_M_rank_26 : decode b_M_rank 26 = .ok (.istore 4, 2) := by decide +kernel
theorem d_M_rank_28 : decode b_M_rank 28 = .ok (.iload 4, 2) := by decide +kernel
theorem d_M_rank_30 : decode b_M_rank 30 = .ok (.aload_n 0, 1) := by decide +kernel
theorem d_M_rank_31 : decode b_M_rank 31 = .ok (.getfield 16, 3) := by decide +kernel
theorem d_M_rank_34 : decode b_M_rank 34 = .ok (.if_icmp .ge 73, 3) := by decide +kernel
theorem d_M_rank_37 : decode b_M_rank 37 = .ok (.iload 4, 2) := by decide +kernel
theorem d_M_rank_39 : decode b_M_rank 39 = .ok (.iload_n 2, 1) := by decide +kernel
theorem d_M_rank_40 : decode b_M_rank 40 = .ok (.if_icmp .eq 61, 3) := by decide +kernel
theorem d_M_rank_43 : decode b_M_rank 43 = .ok (.aload_n 0, 1) := by decide +kernel
theorem d_M_rank_44 : decode b_M_rank 44 = .ok (.iload 4, 2) := by decide +kernel
theorem d_M_rank_46 : decode b_M_rank 46 = .ok (.iload_n 2, 1) := by decide +kernel
theorem d_M_rank_47 : decode b_M_rank 47 = .ok (.invokevirtual 23, 3) := by decide +kernel
theorem d_M_rank_50 : decode b_M_rank 50 = .ok (.istore 5, 2) := by decide +kernel
theorem d_M_rank_52 : decode b_M_rank 52 = .ok (.iload 4, 2) := by decide +kernel
theorem d_M_rank_54 : decode b_M_rank 54 = .ok (.iload 5, 2) := by decide +kernel
theorem d_M_rank_56 : decode b_M_rank 56 = .ok (.iadd, 1) := by decide +kernel
theorem d_M_rank_57 : decode b_M_rank 57 = .ok (.aload_n 0, 1) := by decide +kernel
theorem d_M_rank_58 : decode b_M_rank 58 = .ok (.getfield 16, 3) := by decide +kernel
theorem d_M_rank_61 : decode b_M_rank 61 = .ok (.if_icmp .eq 36, 3) := by decide +kernel
theorem d_M_rank_64 : decode b_M_rank 64 = .ok (.iload_n 2, 1) := by decide +kernel
theorem d_M_rank_65 : decode b_M_rank 65 = .ok (.iload 5, 2) := by decide +kernel
theorem d_M_rank_67 : decode b_M_rank 67 = .ok (.iadd, 1) := by decide +kernel
theorem d_M_rank_68 : decode b_M_rank 68 = .ok (.aload_n 0, 1) := by decide +kernel
theorem d_M_rank_69 : decode b_M_rank 69 = .ok (.getfield 16, 3) := by decide +kernel
theorem d_M_rank_72 : decode b_M_rank 72 = .ok (.if_icmp .ge 29, 3) := by decide +kernel
theorem d_M_rank_75 : decode b_M_rank 75 = .ok (.aload_n 0, 1) := by decide +kernel
theorem d_M_rank_76 : decode b_M_rank 76 = .ok (.getfield 7, 3) := by decide +kernel
theorem d_M_rank_79 : decode b_M_rank 79 = .ok (.iload 4, 2) := by decide +kernel
theorem d_M_rank_81 : decode b_M_rank 81 = .ok (.iload 5, 2) := by decide +kernel
theorem d_M_rank_83 : decode b_M_rank 83 = .ok (.iadd, 1) := by decide +kernel
theorem d_M_rank_84 : decode b_M_rank 84 = .ok (.iaload, 1) := by decide +kernel
theorem d_M_rank_85 : decode b_M_rank 85 = .ok (.aload_n 0, 1) := by decide +kernel
theorem d_M_rank_86 : decode b_M_rank 86 = .ok (.getfield 7, 3) := by decide +kernel
theorem d_M_rank_89 : decode b_M_rank 89 = .ok (.iload_n 2, 1) := by decide +kernel
theorem d_M_rank_90 : decode b_M_rank 90 = .ok (.iload 5, 2) := by decide +kernel
theorem d_M_rank_92 : decode b_M_rank 92 = .ok (.iadd, 1) := by decide +kernel
theorem d_M_rank_93 : decode b_M_rank 93 = .ok (.iaload, 1) := by decide +kernel
theorem d_M_rank_94 : decode b_M_rank 94 = .ok (.if_icmp .ge 7, 3) := by decide +kernel
theorem d_M_rank_97 : decode b_M_rank 97 = .ok (.iload_n 3, 1) := by decide +kernel
theorem d_M_rank_98 : decode b_M_rank 98 = .ok (.iconst 1, 1) := by decide +kernel
theorem d_M_rank_99 : decode b_M_rank 99 = .ok (.iadd, 1) := by decide +kernel
theorem d_M_rank_100 : decode b_M_rank 100 = .ok (.istore_n 3, 1) := by decide +kernel
theorem d_M_rank_101 : decode b_M_rank 101 = .ok (.iinc 4 1, 3) := by decide +kernel
theorem d_M_rank_104 : decode b_M_rank 104 = .ok (.goto (-76), 3) := by decide +kernel
theorem d_M_rank_107 : decode b_M_rank 107 = .ok (.iload_n 3, 1) := by decide +kernel
theorem d_M_rank_108 : decode b_M_rank 108 = .ok (.ireturn, 1) := by decide +kernel
theorem d_M_period_0 : decode b_M_period 0 = .ok (.aload_n 0, 1) := by decide +kernel
theorem d_M_period_1 : decode b_M_period 1 = .ok (.invokevirtual 20, 3) := by decide +kernel
theorem d_M_period_4 : decode b_M_period 4 = .ok (.iconst 1, 1) := by decide +kernel
theorem d_M_period_5 : decode b_M_period 5 = .ok (.istore_n 1, 1) := by decide +kernel
theorem d_M_period_6 : decode b_M_period 6 = .ok (.iload_n 1, 1) := by decide +kernel
theorem d_M_period_7 : decode b_M_period 7 = .ok (.aload_n 0, 1) := by decide +kernel
theorem d_M_period_8 : decode b_M_period 8 = .ok (.getfield 16, 3) := by decide +kernel
theorem d_M_period_11 : decode b_M_period 11 = .ok (.if_icmp .ge 26, 3) := by decide +kernel
theorem d_M_period_14 : decode b_M_period 14 = .ok (.aload_n 0, 1) := by decide +kernel
theorem d_M_period_15 : decode b_M_period 15 = .ok (.iconst 0, 1) := by decide +kernel
theorem d_M_period_16 : decode b_M_period 16 = .ok (.iload_n 1, 1) := by decide +kernel
theorem d_M_period_17 : decode b_M_period 17 = .ok (.invokevirtual 23, 3) := by decide +kernel
theorem d_M_period_20 : decode b_M_period 20 = .ok (.aload_n 0, 1) := by decide +kernel
theorem d_M_period_21 : decode b_M_period 21 = .ok (.getfield 16, 3) := by decide +kernel
theorem d_M_period_24 : decode b_M_period 24 = .ok (.iload_n 1, 1) := by decide +kernel
theorem d_M_period_25 : decode b_M_period 25 = .ok (.isub, 1) := by decide +kernel
theorem d_M_period_26 : decode b_M_period 26 = .ok (.if_icmp .ne 5, 3) := by decide +kernel
theorem d_M_period_29 : decode b_M_period 29 = .ok (.iload_n 1, 1) := by decide +kernel
theorem d_M_period_30 : decode b_M_period 30 = .ok (.ireturn, 1) := by decide +kernel
theorem d_M_period_31 : decode b_M_period 31 = .ok (.iinc 1 1, 3) := by decide +kernel
theorem d_M_period_34 : decode b_M_period 34 = .ok (.goto (-28), 3) := by decide +kernel
theorem d_M_period_37 : decode b_M_period 37 = .ok (.aload_n 0, 1) := by decide +kernel
theorem d_M_period_38 : decode b_M_period 38 = .ok (.getfield 16, 3) := by decide +kernel
theorem d_M_period_41 : decode b_M_period 41 = .ok (.ireturn, 1) := by decide +kernel
theorem d_M_mirror_0 : decode b_M_mirror 0 = .ok (.iconst 0, 1) := by decide +kernel
theorem d_M_mirror_1 : decode b_M_mirror 1 = .ok (.istore_n 1, 1) := by decide +kernel
theorem d_M_mirror_2 : decode b_M_mirror 2 = .ok (.iconst 0, 1) := by decide +kernel
theorem d_M_mirror_3 : decode b_M_mirror 3 = .ok (.istore_n 2, 1) := by decide +kernel
theorem d_M_mirror_4 : decode b_M_mirror 4 = .ok (.iload_n 2, 1) := by decide +kernel
theorem d_M_mirror_5 : decode b_M_mirror 5 = .ok (.aload_n 0, 1) := by decide +kernel
theorem d_M_mirror_6 : decode b_M_mirror 6 = .ok (.getfield 16, 3) := by decide +kernel
theorem d_M_mirror_9 : decode b_M_mirror 9 = .ok (.if_icmp .ge 95, 3) := by decide +kernel
theorem d_M_mirror_12 : decode b_M_mirror 12 = .ok (.iconst 0, 1) := by decide +kernel
theorem d_M_mirror_13 : decode b_M_mirror 13 = .ok (.istore_n 3, 1) := by decide +kernel
theorem d_M_mirror_14 : decode b_M_mirror 14 = .ok (.iload_n 3, 1) := by decide +kernel
theorem d_M_mirror_15 : decode b_M_mirror 15 = .ok (.iconst 2, 1) := by decide +kernel
theorem d_M_mirror_16 : decode b_M_mirror 16 = .ok (.if_icmp .ge 82, 3) := by decide +kernel
theorem d_M_mirror_19 : decode b_M_mirror 19 = .ok (.iload_n 2, 1) := by decide +kernel
theorem d_M_mirror_20 : decode b_M_mirror 20 = .ok (.istore 4, 2) := by decide +kernel
theorem d_M_mirror_22 : decode b_M_mirror 22 = .ok (.iload_n 2, 1) := by decide +kernel
theorem d_M_mirror_23 : decode b_M_mirror 23 = .ok (.iload_n 3, 1) := by decide +kernel
theorem d_M_mirror_24 : decode b_M_mirror 24 = .ok (.iadd, 1) := by decide +kernel
theorem d_M_mirror_25 : decode b_M_mirror 25 = .ok (.istore 5, 2) := by decide +kernel
theorem d_M_mirror_27 : decode b_M_mirror 27 = .ok (.iload 4, 2) := by decide +kernel
theorem d_M_mirror_29 : decode b_M_mirror 29 = .ok (.ifCond .lt 63, 3) := by decide +kernel
theorem d_M_mirror_32 : decode b_M_mirror 32 = .ok (.iload 5, 2) := by decide +kernel
theorem d_M_mirror_34 : decode b_M_mirror 34 = .ok (.aload_n 0, 1) := by decide +kernel
theorem d_M_mirror_35 : decode b_M_mirror 35 = .ok (.getfield 16, 3) := by decide +kernel
theorem d_M_mirror_38 : decode b_M_mirror 38 = .ok (.if_icmp .ge 54, 3) := by decide +kernel
theorem d_M_mirror_41 : decode b_M_mirror 41 = .ok (.aload_n 0, 1) := by decide +kernel
theorem d_M_mirror_42 : decode b_M_mirror 42 = .ok (.getfield 7, 3) := by decide +kernel
theorem d_M_mirror_45 : decode b_M_mirror 45 = .ok (.iload 4, 2) := by decide +kernel
theorem d_M_mirror_47 : decode b_M_mirror 47 = .ok (.iaload, 1) := by decide +kernel
theorem d_M_mirror_48 : decode b_M_mirror 48 = .ok (.aload_n 0, 1) := by decide +kernel
theorem d_M_mirror_49 : decode b_M_mirror 49 = .ok (.getfield 7, 3) := by decide +kernel
theorem d_M_mirror_52 : decode b_M_mirror 52 = .ok (.iload 5, 2) := by decide +kernel
theorem d_M_mirror_54 : decode b_M_mirror 54 = .ok (.iaload, 1) := by decide +kernel
theorem d_M_mirror_55 : decode b_M_mirror 55 = .ok (.if_icmp .ne 37, 3) := by decide +kernel
theorem d_M_mirror_58 : decode b_M_mirror 58 = .ok (.iload 5, 2) := by decide +kernel
theorem d_M_mirror_60 : decode b_M_mirror 60 = .ok (.iload 4, 2) := by decide +kernel
theorem d_M_mirror_62 : decode b_M_mirror 62 = .ok (.isub, 1) := by decide +kernel
theorem d_M_mirror_63 : decode b_M_mirror 63 = .ok (.iconst 1, 1) := by decide +kernel
theorem d_M_mirror_64 : decode b_M_mirror 64 = .ok (.iadd, 1) := by decide +kernel
theorem d_M_mirror_65 : decode b_M_mirror 65 = .ok (.iload_n 1, 1) := by decide +kernel
theorem d_M_mirror_66 : decode b_M_mirror 66 = .ok (.if_icmp .le 11, 3) := by decide +kernel
theorem d_M_mirror_69 : decode b_M_mirror 69 = .ok (.iload 5, 2) := by decide +kernel
theorem d_M_mirror_71 : decode b_M_mirror 71 = .ok (.iload 4, 2) := by decide +kernel
theorem d_M_mirror_73 : decode b_M_mirror 73 = .ok (.isub, 1) := by decide +kernel
theorem d_M_mirror_74 : decode b_M_mirror 74 = .ok (.iconst 1, 1) := by decide +kernel
theorem d_M_mirror_75 : decode b_M_mirror 75 = .ok (.iadd, 1) := by decide +kernel
theorem d_M_mirror_76 : decode b_M_mirror 76 = .ok (.istore_n 1, 1) := by decide +kernel
theorem d_M_mirror_77 : decode b_M_mirror 77 = .ok (.iload 4, 2) := by decide +kernel
theorem d_M_mirror_79 : decode b_M_mirror 79 = .ok (.iconst 1, 1) := by decide +kernel
theorem d_M_mirror_80 : decode b_M_mirror 80 = .ok (.isub, 1) := by decide +kernel
theorem d_M_mirror_81 : decode b_M_mirror 81 = .ok (.istore 4, 2) := by decide +kernel
theorem d_M_mirror_83 : decode b_M_mirror 83 = .ok (.iload 5, 2) := by decide +kernel
theorem d_M_mirror_85 : decode b_M_mirror 85 = .ok (.iconst 1, 1) := by decide +kernel
theorem d_M_mirror_86 : decode b_M_mirror 86 = .ok (.iadd, 1) := by decide +kernel
theorem d_M_mirror_87 : decode b_M_mirror 87 = .ok (.istore 5, 2) := by decide +kernel
theorem d_M_mirror_89 : decode b_M_mirror 89 = .ok (.goto (-62), 3) := by decide +kernel
theorem d_M_mirror_92 : decode b_M_mirror 92 = .ok (.iinc 3 1, 3) := by decide +kernel
theorem d_M_mirror_95 : decode b_M_mirror 95 = .ok (.goto (-81), 3) := by decide +kernel
theorem d_M_mirror_98 : decode b_M_mirror 98 = .ok (.iinc 2 1, 3) := by decide +kernel
theorem d_M_mirror_101 : decode b_M_mirror 101 = .ok (.goto (-97), 3) := by decide +kernel
theorem d_M_mirror_104 : decode b_M_mirror 104 = .ok (.iload_n 1, 1) := by decide +kernel
theorem d_M_mirror_105 : decode b_M_mirror 105 = .ok (.ireturn, 1) := by decide +kernel
end
section
theorem d_L_law_0 : decode code 0 = .ok (.new 7, 3) := by decide +kernel
theorem d_L_law_3 : decode code 3 = .ok (.dup, 1) := by decide +kernel
theorem d_L_law_4 : decode code 4 = .ok (.invokespecial 9, 3) := by decide +kernel
theorem d_L_law_7 : decode code 7 = .ok (.astore_n 1, 1) := by decide +kernel
theorem d_L_law_8 : decode code 8 = .ok (.new 10, 3) := by decide +kernel
theorem d_L_law_11 : decode code 11 = .ok (.dup, 1) := by decide +kernel
theorem d_L_law_12 : decode code 12 = .ok (.invokespecial 12, 3) := by decide +kernel
theorem d_L_law_15 : decode code 15 = .ok (.astore_n 2, 1) := by decide +kernel
theorem d_L_law_16 : decode code 16 = .ok (.iconst 0, 1) := by decide +kernel
theorem d_L_law_17 : decode code 17 = .ok (.istore_n 3, 1) := by decide +kernel
theorem d_L_law_18 : decode code 18 = .ok (.iload_n 3, 1) := by decide +kernel
theorem d_L_law_19 : decode code 19 = .ok (.aload_n 0, 1) := by decide +kernel
theorem d_L_law_20 : decode code 20 = .ok (.arraylength, 1) := by decide +kernel
theorem d_L_law_21 : decode code 21 = .ok (.iconst 5, 1) := by decide +kernel
theorem d_L_law_22 : decode code 22 = .ok (.isub, 1) := by decide +kernel
theorem d_L_law_23 : decode code 23 = .ok (.if_icmp .gt 281, 3) := by decide +kernel
theorem d_L_law_26 : decode code 26 = .ok (.aload_n 0, 1) := by decide +kernel
theorem d_L_law_27 : decode code 27 = .ok (.iload_n 3, 1) := by decide +kernel
theorem d_L_law_28 : decode code 28 = .ok (.iaload, 1) := by decide +kernel
theorem d_L_law_29 : decode code 29 = .ok (.bipush 15, 2) := by decide +kernel
theorem d_L_law_31 : decode code 31 = .ok (.iand, 1) := by decide +kernel
theorem d_L_law_32 : decode code 32 = .ok (.tableswitch 266 0 9 #[56, 109, 132, 145, 158, 171, 184, 217, 240, 253], 56) := by decide +kernel
theorem d_L_law_88 : decode code 88 = .ok (.aload_n 1, 1) := by decide +kernel
theorem d_L_law_89 : decode code 89 = .ok (.aload_n 0, 1) := by decide +kernel
theorem d_L_law_90 : decode code 90 = .ok (.iload_n 3, 1) := by decide +kernel
theorem d_L_law_91 : decode code 91 = .ok (.iconst 1, 1) := by decide +kernel
theorem d_L_law_92 : decode code 92 = .ok (.iadd, 1) := by decide +kernel
theorem d_L_law_93 : decode code 93 = .ok (.iaload, 1) := by decide +kernel
theorem d_L_law_94 : decode code 94 = .ok (.aload_n 0, 1) := by decide +kernel
theorem d_L_law_95 : decode code 95 = .ok (.iload_n 3, 1) := by decide +kernel
theorem d_L_law_96 : decode code 96 = .ok (.iconst 2, 1) := by decide +kernel
theorem d_L_law_97 : decode code 97 = .ok (.iadd, 1) := by decide +kernel
theorem d_L_law_98 : decode code 98 = .ok (.iaload, 1) := by decide +kernel
theorem d_L_law_99 : decode code 99 = .ok (.aload_n 0, 1) := by decide +kernel
theorem d_L_law_100 : decode code 100 = .ok (.iload_n 3, 1) := by decide +kernel
theorem d_L_law_101 : decode code 101 = .ok (.iconst 3, 1) := by decide +kernel
theorem d_L_law_102 : decode code 102 = .ok (.iadd, 1) := by decide +kernel
theorem d_L_law_103 : decode code 103 = .ok (.iaload, 1) := by decide +kernel
theorem d_L_law_104 : decode code 104 = .ok (.aload_n 0, 1) := by decide +kernel
theorem d_L_law_105 : decode code 105 = .ok (.iload_n 3, 1) := by decide +kernel
theorem d_L_law_106 : decode code 106 = .ok (.iconst 4, 1) := by decide +kernel
theorem d_L_law_107 : decode code 107 = .ok (.iadd, 1) := by decide +kernel
theorem d_L_law_108 : decode code 108 = .ok (.iaload, 1) := by decide +kernel
theorem d_L_law_109 : decode code 109 = .ok (.invokevirtual 13, 3) := by decide +kernel
theorem d_L_law_112 : decode code 112 = .ok (.aload_n 2, 1) := by decide +kernel
theorem d_L_law_113 : decode code 113 = .ok (.aload_n 0, 1) := by decide +kernel
theorem d_L_law_114 : decode code 114 = .ok (.iload_n 3, 1) := by decide +kernel
theorem d_L_law_115 : decode code 115 = .ok (.iconst 1, 1) := by decide +kernel
theorem d_L_law_116 : decode code 116 = .ok (.iadd, 1) := by decide +kernel
theorem d_L_law_117 : decode code 117 = .ok (.iaload, 1) := by decide +kernel
theorem d_L_law_118 : decode code 118 = .ok (.aload_n 0, 1) := by decide +kernel
theorem d_L_law_119 : decode code 119 = .ok (.iload_n 3, 1) := by decide +kernel
theorem d_L_law_120 : decode code 120 = .ok (.iconst 2, 1) := by decide +kernel
theorem d_L_law_121 : decode code 121 = .ok (.iadd, 1) := by decide +kernel
theorem d_L_law_122 : decode code 122 = .ok (.iaload, 1) := by decide +kernel
theorem d_L_law_123 : decode code 123 = .ok (.aload_n 0, 1) := by decide +kernel
theorem d_L_law_124 : decode code 124 = .ok (.iload_n 3, 1) := by decide +kernel
theorem d_L_law_125 : decode code 125 = .ok (.iconst 3, 1) := by decide +kernel
theorem d_L_law_126 : decode code 126 = .ok (.iadd, 1) := by decide +kernel
theorem d_L_law_127 : decode code 127 = .ok (.iaload, 1) := by decide +kernel
theorem d_L_law_128 : decode code 128 = .ok (.aload_n 0, 1) := by decide +kernel
theorem d_L_law_129 : decode code 129 = .ok (.iload_n 3, 1) := by decide +kernel
theorem d_L_law_130 : decode code 130 = .ok (.iconst 4, 1) := by decide +kernel
theorem d_L_law_131 : decode code 131 = .ok (.iadd, 1) := by decide +kernel
theorem d_L_law_132 : decode code 132 = .ok (.iaload, 1) := by decide +kernel
theorem d_L_law_133 : decode code 133 = .ok (.invokevirtual 17, 3) := by decide +kernel
theorem d_L_law_136 : decode code 136 = .ok (.if_icmp .eq 162, 3) := by decide +kernel
theorem d_L_law_139 : decode code 139 = .ok (.iconst 0, 1) := by decide +kernel
theorem d_L_law_140 : decode code 140 = .ok (.ireturn, 1) := by decide +kernel
theorem d_L_law_141 : decode code 141 = .ok (.aload_n 1, 1) := by decide +kernel
theorem d_L_law_142 : decode code 142 = .ok (.aload_n 0, 1) := by decide +kernel
theorem d_L_law_143 : decode code 143 = .ok (.iload_n 3, 1) := by decide +kernel
theorem d_L_law_144 : decode code 144 = .ok (.iconst 1, 1) := by decide +kernel
theorem d_L_law_145 : decode code 145 = .ok (.iadd, 1) := by decide +kernel
theorem d_L_law_146 : decode code 146 = .ok (.iaload, 1) := by decide +kernel
theorem d_L_law_147 : decode code 147 = .ok (.invokevirtual 18, 3) := by decide +kernel
theorem d_L_law_150 : decode code 150 = .ok (.aload_n 2, 1) := by decide +kernel
theorem d_L_law_151 : decode code 151 = .ok (.aload_n 0, 1) := by decide +kernel
theorem d_L_law_152 : decode code 152 = .ok (.iload_n 3, 1) := by decide +kernel
theorem d_L_law_153 : decode code 153 = .ok (.iconst 1, 1) := by decide +kernel
theorem d_L_law_154 : decode code 154 = .ok (.iadd, 1) := by decide +kernel
theorem d_L_law_155 : decode code 155 = .ok (.iaload, 1) := by decide +kernel
theorem d_L_law_156 : decode code 156 = .ok (.invokevirtual 22, 3) := by decide +kernel
theorem d_L_law_159 : decode code 159 = .ok (.if_icmp .eq 139, 3) := by decide +kernel
theorem d_L_law_162 : decode code 162 = .ok (.iconst 0, 1) := by decide +kernel
theorem d_L_law_163 : decode code 163 = .ok (.ireturn, 1) := by decide +kernel
theorem d_L_law_164 : decode code 164 = .ok (.aload_n 1, 1) := by decide +kernel
theorem d_L_law_165 : decode code 165 = .ok (.invokevirtual 23, 3) := by decide +kernel
theorem d_L_law_168 : decode code 168 = .ok (.aload_n 2, 1) := by decide +kernel
theorem d_L_law_169 : decode code 169 = .ok (.invokevirtual 27, 3) := by decide +kernel
theorem d_L_law_172 : decode code 172 = .ok (.if_icmp .eq 126, 3) := by decide +kernel
theorem d_L_law_175 : decode code 175 = .ok (.iconst 0, 1) := by decide +kernel
theorem d_L_law_176 : decode code 176 = .ok (.ireturn, 1) := by decide +kernel
theorem d_L_law_177 : decode code 177 = .ok (.aload_n 1, 1) := by decide +kernel
theorem d_L_law_178 : decode code 178 = .ok (.invokevirtual 28, 3) := by decide +kernel
theorem d_L_law_181 : decode code 181 = .ok (.aload_n 2, 1) := by decide +kernel
theorem d_L_law_182 : decode code 182 = .ok (.invokevirtual 32, 3) := by decide +kernel
theorem d_L_law_185 : decode code 185 = .ok (.if_icmp .eq 113, 3) := by decide +kernel
theorem d_L_law_188 : decode code 188 = .ok (.iconst 0, 1) := by decide +kernel
theorem d_L_law_189 : decode code 189 = .ok (.ireturn, 1) := by decide +kernel
theorem d_L_law_190 : decode code 190 = .ok (.aload_n 1, 1) := by decide +kernel
theorem d_L_law_191 : decode code 191 = .ok (.invokevirtual 33, 3) := by decide +kernel
theorem d_L_law_194 : decode code 194 = .ok (.aload_n 2, 1) := by decide +kernel
theorem d_L_law_195 : decode code 195 = .ok (.invokevirtual 36, 3) := by decide +kernel
theorem d_L_law_198 : decode code 198 = .ok (.if_icmp .eq 100, 3) := by decide +kernel
theorem d_L_law_201 : decode code 201 = .ok (.iconst 0, 1) := by decide +kernel
theorem d_L_law_202 : decode code 202 = .ok (.ireturn, 1) := by decide +kernel
theorem d_L_law_203 : decode code 203 = .ok (.aload_n 1, 1) := by decide +kernel
theorem d_L_law_204 : decode code 204 = .ok (.invokevirtual 37, 3) := by decide +kernel
theorem d_L_law_207 : decode code 207 = .ok (.aload_n 2, 1) := by decide +kernel
theorem d_L_law_208 : decode code 208 = .ok (.invokevirtual 40, 3) := by decide +kernel
theorem d_L_law_211 : decode code 211 = .ok (.if_icmp .eq 87, 3) := by decide +kernel
theorem d_L_law_214 : decode code 214 = .ok (.iconst 0, 1) := by decide +kernel
theorem d_L_law_215 : decode code 215 = .ok (.ireturn, 1) := by decide +kernel
theorem d_L_law_216 : decode code 216 = .ok (.aload_n 1, 1) := by decide +kernel
theorem d_L_law_217 : decode code 217 = .ok (.aload_n 0, 1) := by decide +kernel
theorem d_L_law_218 : decode code 218 = .ok (.iload_n 3, 1) := by decide +kernel
theorem d_L_law_219 : decode code 219 = .ok (.iconst 1, 1) := by decide +kernel
theorem d_L_law_220 : decode code 220 = .ok (.iadd, 1) := by decide +kernel
theorem d_L_law_221 : decode code 221 = .ok (.iaload, 1) := by decide +kernel
theorem d_L_law_222 : decode code 222 = .ok (.aload_n 0, 1) := by decide +kernel
theorem d_L_law_223 : decode code 223 = .ok (.iload_n 3, 1) := by decide +kernel
theorem d_L_law_224 : decode code 224 = .ok (.iconst 2, 1) := by decide +kernel
theorem d_L_law_225 : decode code 225 = .ok (.iadd, 1) := by decide +kernel
theorem d_L_law_226 : decode code 226 = .ok (.iaload, 1) := by decide +kernel
theorem d_L_law_227 : decode code 227 = .ok (.invokevirtual 41, 3) := by decide +kernel
theorem d_L_law_230 : decode code 230 = .ok (.aload_n 2, 1) := by decide +kernel
theorem d_L_law_231 : decode code 231 = .ok (.aload_n 0, 1) := by decide +kernel
theorem d_L_law_232 : decode code 232 = .ok (.iload_n 3, 1) := by decide +kernel
theorem d_L_law_233 : decode code 233 = .ok (.iconst 1, 1) := by decide +kernel
theorem d_L_law_234 : decode code 234 = .ok (.iadd, 1) := by decide +kernel
theorem d_L_law_235 : decode code 235 = .ok (.iaload, 1) := by decide +kernel
theorem d_L_law_236 : decode code 236 = .ok (.aload_n 0, 1) := by decide +kernel
theorem d_L_law_237 : decode code 237 = .ok (.iload_n 3, 1) := by decide +kernel
theorem d_L_law_238 : decode code 238 = .ok (.iconst 2, 1) := by decide +kernel
theorem d_L_law_239 : decode code 239 = .ok (.iadd, 1) := by decide +kernel
theorem d_L_law_240 : decode code 240 = .ok (.iaload, 1) := by decide +kernel
theorem d_L_law_241 : decode code 241 = .ok (.invokevirtual 45, 3) := by decide +kernel
theorem d_L_law_244 : decode code 244 = .ok (.if_icmp .eq 54, 3) := by decide +kernel
theorem d_L_law_247 : decode code 247 = .ok (.iconst 0, 1) := by decide +kernel
theorem d_L_law_248 : decode code 248 = .ok (.ireturn, 1) := by decide +kernel
theorem d_L_law_249 : decode code 249 = .ok (.aload_n 1, 1) := by decide +kernel
theorem d_L_law_250 : decode code 250 = .ok (.aload_n 0, 1) := by decide +kernel
theorem d_L_law_251 : decode code 251 = .ok (.iload_n 3, 1) := by decide +kernel
theorem d_L_law_252 : decode code 252 = .ok (.iconst 1, 1) := by decide +kernel
theorem d_L_law_253 : decode code 253 = .ok (.iadd, 1) := by decide +kernel
theorem d_L_law_254 : decode code 254 = .ok (.iaload, 1) := by decide +kernel
theorem d_L_law_255 : decode code 255 = .ok (.invokevirtual 46, 3) := by decide +kernel
theorem d_L_law_258 : decode code 258 = .ok (.aload_n 2, 1) := by decide +kernel
theorem d_L_law_259 : decode code 259 = .ok (.aload_n 0, 1) := by decide +kernel
theorem d_L_law_260 : decode code 260 = .ok (.iload_n 3, 1) := by decide +kernel
theorem d_L_law_261 : decode code 261 = .ok (.iconst 1, 1) := by decide +kernel
theorem d_L_law_262 : decode code 262 = .ok (.iadd, 1) := by decide +kernel
theorem d_L_law_263 : decode code 263 = .ok (.iaload, 1) := by decide +kernel
theorem d_L_law_264 : decode code 264 = .ok (.invokevirtual 50, 3) := by decide +kernel
theorem d_L_law_267 : decode code 267 = .ok (.if_icmp .eq 31, 3) := by decide +kernel
theorem d_L_law_270 : decode code 270 = .ok (.iconst 0, 1) := by decide +kernel
theorem d_L_law_271 : decode code 271 = .ok (.ireturn, 1) := by decide +kernel
theorem d_L_law_272 : decode code 272 = .ok (.aload_n 1, 1) := by decide +kernel
theorem d_L_law_273 : decode code 273 = .ok (.invokevirtual 51, 3) := by decide +kernel
theorem d_L_law_276 : decode code 276 = .ok (.aload_n 2, 1) := by decide +kernel
theorem d_L_law_277 : decode code 277 = .ok (.invokevirtual 54, 3) := by decide +kernel
theorem d_L_law_280 : decode code 280 = .ok (.if_icmp .eq 18, 3) := by decide +kernel
theorem d_L_law_283 : decode code 283 = .ok (.iconst 0, 1) := by decide +kernel
theorem d_L_law_284 : decode code 284 = .ok (.ireturn, 1) := by decide +kernel
theorem d_L_law_285 : decode code 285 = .ok (.aload_n 1, 1) := by decide +kernel
theorem d_L_law_286 : decode code 286 = .ok (.invokevirtual 55, 3) := by decide +kernel
theorem d_L_law_289 : decode code 289 = .ok (.aload_n 2, 1) := by decide +kernel
theorem d_L_law_290 : decode code 290 = .ok (.invokevirtual 58, 3) := by decide +kernel
theorem d_L_law_293 : decode code 293 = .ok (.if_icmp .eq 5, 3) := by decide +kernel
theorem d_L_law_296 : decode code 296 = .ok (.iconst 0, 1) := by decide +kernel
theorem d_L_law_297 : decode code 297 = .ok (.ireturn, 1) := by decide +kernel
theorem d_L_law_298 : decode code 298 = .ok (.iinc 3 5, 3) := by decide +kernel
theorem d_L_law_301 : decode code 301 = .ok (.goto (-283), 3) := by decide +kernel
theorem d_L_law_304 : decode code 304 = .ok (.iconst 1, 1) := by decide +kernel
theorem d_L_law_305 : decode code 305 = .ok (.ireturn, 1) := by decide +kernel
end
section
/-! rows over whole numbers: an int is nI of a number, an int array is aI of a function; the machine's facts in Mx, the heap's in Hd; contracts Ci, Cv -/
def aI (f : Nat → Nat) : Nat → Int32 := fun j => nI (f j)
theorem aI_up {f : Nat → Nat} {i x : Nat} (hi : i < 2 ^ 31) : upd (aI f) (nI i).toNatClampNeg (nI x) = aI (va_up f i x) := by
  rw [nI_clamp hi]
  funext j
  show (if j = i then nI x else nI (f j)) = nI (if j = i then x else f j)
  split <;> rfl
theorem up_s {f : Nat → Nat} {k x : Nat} : va_up f k x k = x := if_pos rfl
theorem up_n {f : Nat → Nat} {k x j : Nat} (h : j ≠ k) : va_up f k x j = f j := if_neg h
abbrev wd (a : Nat → Nat) (cA : Nat → ClassId) (n md my gs : Nat) (tx bo re od pl co gr th se ct : Nat → Nat) : va_W :=
  [(a 0, .inr (1, [.ref (a 1), .ref (a 2), .ref (a 3), .ref (a 4), .int (nI n), .int (nI md)])), (a 1, .inl (cA 0, 128, .inl (aI tx))), (a 2, .inl (cA 1, 129, .inl (aI bo))), (a 3, .inl (cA 2, 257, .inl (aI re))),
   (a 4, .inr (0, [.ref (a 5), .ref (a 6), .ref (a 7), .ref (a 8), .ref (a 9), .ref (a 10), .ref (a 11), .int (nI my), .int (nI gs)])), (a 5, .inl (cA 3, 128, .inl (aI od))), (a 6, .inl (cA 4, 128, .inl (aI pl))), (a 7, .inl (cA 5, 128, .inl (aI co))),
   (a 8, .inl (cA 6, 128, .inl (aI gr))), (a 9, .inl (cA 7, 128, .inl (aI th))), (a 10, .inl (cA 8, 128, .inl (aI se))), (a 11, .inl (cA 9, 129, .inl (aI ct)))]
abbrev tyD (cA : Nat → ClassId) : List (ClassId × FieldType) := [(cA 0, .int), (cA 1, .int), (cA 2, .int), (cA 3, .int), (cA 4, .int), (cA 5, .int), (cA 6, .int), (cA 7, .int), (cA 8, .int), (cA 9, .int)]
abbrev wm (b : Nat → Nat) (cB : Nat → ClassId) (n : Nat) (tx cm : Nat → Nat) : va_W :=
  [(b 0, .inr (2, [.ref (b 1), .int (nI n), .ref (b 2)])), (b 1, .inl (cB 0, 128, .inl (aI tx))), (b 2, .inl (cB 1, 16641, .inl (aI cm)))]
abbrev tyM (cB : Nat → ClassId) : List (ClassId × FieldType) := [(cB 0, .int), (cB 1, .int)]
/-- the machine at a method of the class 'own' with the bytes cc -/
def Mx (cc : ByteArray) (own : String) (nL : Nat) (rt : Option FieldType) (p : Program) (s : State) (m : MethodId) (meth : Method) (c : Code) (args : Array Value) : Prop :=
  p.tables.exec = Jvm.exec ∧ c.code = cc ∧ meth.sig.returnType = rt ∧ c.maxLocals = nL ∧ s.vm.findClass own = some m.cls ∧ (∀ w ∈ std, w.before args s = true) ∧ meth.locks = false
/-- the heap H holds the cells ws, since the method's start nothing outside A has changed -/
def Hd (A : Nat → Prop) (D : va_G) (tys : List (ClassId × FieldType)) (s : State) (ws : va_W) (H : Heap) (locs : List Loc) : Prop :=
  va_P D classes ws H ∧ va_D A ws ∧ va_S A s.heap H locs ∧ va_K D classes tys s ∧ (∀ q, s.heap.size ≤ q → A q)
def Ci (l : Launch) (y : MethodName) (yb : ByteArray) (yn : Nat) (yr : Option FieldType) (fr lo : Nat) (D : va_G) (tyc : List (ClassId × FieldType)) (av : List Value) (wc : va_W) (S : Type) (post : Int32 → S → Prop) (w1 : S → va_W) : Prop :=
  ∀ sz : Nat, Met l y (Cond.code y yb yn yr :: std) { frames := fr, cells := 0, slots := 0, locals := lo } (va_Pc av (fun U => U.heap.size = sz ∧ va_P D classes wc U.heap ∧ va_K D classes tyc U ∧ va_D (fun _ => True) wc)) (va_Qi post (fun u t => va_P D classes (w1 u) t.heap ∧ va_K D classes tyc t ∧ va_D (va_A wc sz) (w1 u)) (va_A wc sz)) 0 0 (va_A wc sz)
def Cv (l : Launch) (y : MethodName) (yb : ByteArray) (yn : Nat) (fr lo : Nat) (D : va_G) (tyc : List (ClassId × FieldType)) (av : List Value) (wc : va_W) (S : Type) (post : S → Prop) (w1 : S → va_W) : Prop :=
  ∀ sz : Nat, Met l y (Cond.code y yb yn none :: std) { frames := fr, cells := 0, slots := 0, locals := lo } (va_Pc av (fun U => U.heap.size = sz ∧ va_P D classes wc U.heap ∧ va_K D classes tyc U ∧ va_D (fun _ => True) wc)) (va_Qv post (fun u t => va_P D classes (w1 u) t.heap ∧ va_K D classes tyc t ∧ va_D (va_A wc sz) (w1 u)) (va_A wc sz)) 0 0 (va_A wc sz)
section
variable {p : Program} {l : Launch} {e : Env} {R : Room} {s : State} {m : MethodId} {args : Array Value} {below : List Frame} {meth : Method} {c : Code} {H : Heap} {locs : List Loc} {cells slots : Nat} {Q : State → Prop} {cc : ByteArray} {own : String} {nL : Nat} {rt : Option FieldType} {pc : Nat} {ls : Array Slot} {rest : List Value} {A : Nat → Prop} {D : va_G} {tys : List (ClassId × FieldType)} {ws : va_W}
theorem pd_iconst (M : Mx cc own nL rt p s m meth c args) {n : Int} {k : Nat} (hdg : decode cc pc = .ok (.iconst n, 1)) (hv : Int32.ofInt n = nI k) (kk : W p l e R s m args below meth c H locs cells slots Q (F0 m (pc + 1) ls (.int (nI k) :: rest))) : W p l e R s m args below meth c H locs cells slots Q (F0 m pc ls rest) := lv_iconst M.1 M.2.1 hdg hv kk
theorem pd_bipush (M : Mx cc own nL rt p s m meth c args) {n : Int} {k : Nat} (hdg : decode cc pc = .ok (.bipush n, 2)) (hv : (Int8.ofInt n).toInt32 = nI k) (kk : W p l e R s m args below meth c H locs cells slots Q (F0 m (pc + 2) ls (.int (nI k) :: rest))) : W p l e R s m args below meth c H locs cells slots Q (F0 m pc ls rest) := lv_bipush M.1 M.2.1 hdg hv kk
theorem pd_sipush (M : Mx cc own nL rt p s m meth c args) {n : Int} {k : Nat} (hdg : decode cc pc = .ok (.sipush n, 3)) (hv : (Int16.ofInt n).toInt32 = nI k) (kk : W p l e R s m args below meth c H locs cells slots Q (F0 m (pc + 3) ls (.int (nI k) :: rest))) : W p l e R s m args below meth c H locs cells slots Q (F0 m pc ls rest) := lv_sipush M.1 M.2.1 hdg hv kk
theorem pd_ldc (M : Mx cc own nL rt p s m meth c args) {idx : Nat} {v : Int32} (hk : Cond.constant own idx v ∈ std) (hdg : decode cc pc = .ok (.ldc idx, 2)) (kk : W p l e R s m args below meth c H locs cells slots Q (F0 m (pc + 2) ls (.int v :: rest))) : W p l e R s m args below meth c H locs cells slots Q (F0 m pc ls rest) := lv_ldc M.1 M.2.1 M.2.2.2.2.1 (M.2.2.2.2.2.1 _ hk) hdg kk
theorem pd_iadd (M : Mx cc own nL rt p s m meth c args) {a b : Nat} (hdg : decode cc pc = .ok (.iadd, 1)) (kk : W p l e R s m args below meth c H locs cells slots Q (F0 m (pc + 1) ls (.int (nI (a + b)) :: rest))) : W p l e R s m args below meth c H locs cells slots Q (F0 m pc ls (.int (nI b) :: .int (nI a) :: rest)) := lv_iadd M.1 M.2.1 hdg (by rw [nI_add]; exact kk)
theorem pd_isub (M : Mx cc own nL rt p s m meth c args) {a b : Nat} (hdg : decode cc pc = .ok (.isub, 1)) (h : b ≤ a) (kk : W p l e R s m args below meth c H locs cells slots Q (F0 m (pc + 1) ls (.int (nI (a - b)) :: rest))) : W p l e R s m args below meth c H locs cells slots Q (F0 m pc ls (.int (nI b) :: .int (nI a) :: rest)) := lv_isub M.1 M.2.1 hdg (by rw [pk_sub h]; exact kk)
theorem pd_imul (M : Mx cc own nL rt p s m meth c args) {a b : Nat} (hdg : decode cc pc = .ok (.imul, 1)) (kk : W p l e R s m args below meth c H locs cells slots Q (F0 m (pc + 1) ls (.int (nI (a * b)) :: rest))) : W p l e R s m args below meth c H locs cells slots Q (F0 m pc ls (.int (nI b) :: .int (nI a) :: rest)) := lv_imul M.1 M.2.1 hdg (by rw [pk_mul]; exact kk)
theorem pd_idiv (M : Mx cc own nL rt p s m meth c args) {a b : Nat} (hdg : decode cc pc = .ok (.idiv, 1)) (ha : a < 2 ^ 31) (h0 : 0 < b) (hb : b < 2 ^ 31) (kk : W p l e R s m args below meth c H locs cells slots Q (F0 m (pc + 1) ls (.int (nI (a / b)) :: rest))) : W p l e R s m args below meth c H locs cells slots Q (F0 m pc ls (.int (nI b) :: .int (nI a) :: rest)) := lv_idiv M.1 M.2.1 hdg (nI_ne0 h0 hb) (by rw [pk_div ha h0 hb]; exact kk)
theorem pd_irem (M : Mx cc own nL rt p s m meth c args) {a b : Nat} (hdg : decode cc pc = .ok (.irem, 1)) (ha : a < 2 ^ 31) (h0 : 0 < b) (hb : b < 2 ^ 31) (kk : W p l e R s m args below meth c H locs cells slots Q (F0 m (pc + 1) ls (.int (nI (a % b)) :: rest))) : W p l e R s m args below meth c H locs cells slots Q (F0 m pc ls (.int (nI b) :: .int (nI a) :: rest)) := lv_irem M.1 M.2.1 hdg (nI_ne0 h0 hb) (by rw [pk_rem ha h0 hb]; exact kk)
theorem pd_iand (M : Mx cc own nL rt p s m meth c args) {x y : Int32} (k : Nat) (hdg : decode cc pc = .ok (.iand, 1)) (hm : y.toBitVec.toNat = 2 ^ k - 1) (kk : W p l e R s m args below meth c H locs cells slots Q (F0 m (pc + 1) ls (.int (nI (x.toBitVec.toNat % 2 ^ k)) :: rest))) : W p l e R s m args below meth c H locs cells slots Q (F0 m pc ls (.int y :: .int x :: rest)) := lv_iand M.1 M.2.1 hdg (by rw [pk_and x k hm]; exact kk)
theorem pd_iinc (M : Mx cc own nL rt p s m meth c args) {i mL k x : Nat} {n : Int} {j : Nat} {lv lv' : List (Nat × Value)} (hdg : decode cc pc = .ok (.iinc i n, 3)) (h : lv_has ls mL lv) (hk : lv[k]? = some (i, .int (nI x))) (hv : Int32.ofInt n = nI j) (hn : i < mL) (hl : (i, Value.int (nI (x + j))) :: lv.filter (fun q => !(q.1 == i) && !(q.1 + 1 == i && q.2.category == 2)) = lv')
    (kk : ∀ ls' : Array Slot, lv_has ls' mL lv' → W p l e R s m args below meth c H locs cells slots Q (F0 m (pc + 3) ls' rest)) : W p l e R s m args below meth c H locs cells slots Q (F0 m pc ls rest) := lv_iinc M.1 M.2.1 hdg h hk (by rw [hv, nI_add]) hn hl kk
theorem pd_idec (M : Mx cc own nL rt p s m meth c args) {i mL k x : Nat} {n : Int} {lv lv' : List (Nat × Value)} (hdg : decode cc pc = .ok (.iinc i n, 3)) (h : lv_has ls mL lv) (hk : lv[k]? = some (i, .int (nI x))) (hv : Int32.ofInt n = -1) (hx : 0 < x) (hn : i < mL) (hl : (i, Value.int (nI (x - 1))) :: lv.filter (fun q => !(q.1 == i) && !(q.1 + 1 == i && q.2.category == 2)) = lv')
    (kk : ∀ ls' : Array Slot, lv_has ls' mL lv' → W p l e R s m args below meth c H locs cells slots Q (F0 m (pc + 3) ls' rest)) : W p l e R s m args below meth c H locs cells slots Q (F0 m pc ls rest) := lv_iinc M.1 M.2.1 hdg h hk (by rw [hv]; exact sb_m1 hx) hn hl kk
theorem pd_top {a b : Nat} (h : a = b) (kk : W p l e R s m args below meth c H locs cells slots Q (F0 m pc ls (.int (nI b) :: rest))) : W p l e R s m args below meth c H locs cells slots Q (F0 m pc ls (.int (nI a) :: rest)) := by rw [h]; exact kk
theorem pd_topi {a b : Int32} (h : a = b) (kk : W p l e R s m args below meth c H locs cells slots Q (F0 m pc ls (.int b :: rest))) : W p l e R s m args below meth c H locs cells slots Q (F0 m pc ls (.int a :: rest)) := by rw [h]; exact kk
-- compares of two whole numbers
theorem pd_cge (M : Mx cc own nL rt p s m meth c args) {a b : Nat} {off : Int} {tgt : Nat} (hdg : decode cc pc = .ok (.if_icmp .ge off, 3)) (ht : (pc : Int) + off = (tgt : Int)) (ha : a < 2 ^ 31) (hb : b < 2 ^ 31) (kt : b ≤ a → W p l e R s m args below meth c H locs cells slots Q (F0 m tgt ls rest)) (kf : a < b → W p l e R s m args below meth c H locs cells slots Q (F0 m (pc + 3) ls rest)) : W p l e R s m args below meth c H locs cells slots Q (F0 m pc ls (.int (nI b) :: .int (nI a) :: rest)) := lv_icmp_ge M.1 M.2.1 hdg ht (fun h => kt ((nI_leI hb ha).mp h)) (fun h => kf (Nat.lt_of_not_le (fun q => h ((nI_leI hb ha).mpr q))))
theorem pd_cgt (M : Mx cc own nL rt p s m meth c args) {a b : Nat} {off : Int} {tgt : Nat} (hdg : decode cc pc = .ok (.if_icmp .gt off, 3)) (ht : (pc : Int) + off = (tgt : Int)) (ha : a < 2 ^ 31) (hb : b < 2 ^ 31) (kt : b < a → W p l e R s m args below meth c H locs cells slots Q (F0 m tgt ls rest)) (kf : a ≤ b → W p l e R s m args below meth c H locs cells slots Q (F0 m (pc + 3) ls rest)) : W p l e R s m args below meth c H locs cells slots Q (F0 m pc ls (.int (nI b) :: .int (nI a) :: rest)) := lv_icmp_gt M.1 M.2.1 hdg ht (fun h => kt ((nI_ltI hb ha).mp h)) (fun h => kf (Nat.le_of_not_lt (fun q => h ((nI_ltI hb ha).mpr q))))
theorem pd_clt (M : Mx cc own nL rt p s m meth c args) {a b : Nat} {off : Int} {tgt : Nat} (hdg : decode cc pc = .ok (.if_icmp .lt off, 3)) (ht : (pc : Int) + off = (tgt : Int)) (ha : a < 2 ^ 31) (hb : b < 2 ^ 31) (kt : a < b → W p l e R s m args below meth c H locs cells slots Q (F0 m tgt ls rest)) (kf : b ≤ a → W p l e R s m args below meth c H locs cells slots Q (F0 m (pc + 3) ls rest)) : W p l e R s m args below meth c H locs cells slots Q (F0 m pc ls (.int (nI b) :: .int (nI a) :: rest)) := lv_icmp_lt M.1 M.2.1 hdg ht (fun h => kt ((nI_ltI ha hb).mp h)) (fun h => kf (Nat.le_of_not_lt (fun q => h ((nI_ltI ha hb).mpr q))))
theorem pd_cle (M : Mx cc own nL rt p s m meth c args) {a b : Nat} {off : Int} {tgt : Nat} (hdg : decode cc pc = .ok (.if_icmp .le off, 3)) (ht : (pc : Int) + off = (tgt : Int)) (ha : a < 2 ^ 31) (hb : b < 2 ^ 31) (kt : a ≤ b → W p l e R s m args below meth c H locs cells slots Q (F0 m tgt ls rest)) (kf : b < a → W p l e R s m args below meth c H locs cells slots Q (F0 m (pc + 3) ls rest)) : W p l e R s m args below meth c H locs cells slots Q (F0 m pc ls (.int (nI b) :: .int (nI a) :: rest)) := lv_icmp_le M.1 M.2.1 hdg ht (fun h => kt ((nI_leI ha hb).mp h)) (fun h => kf (Nat.lt_of_not_le (fun q => h ((nI_leI ha hb).mpr q))))
theorem pd_cne (M : Mx cc own nL rt p s m meth c args) {a b : Nat} {off : Int} {tgt : Nat} (hdg : decode cc pc = .ok (.if_icmp .ne off, 3)) (ht : (pc : Int) + off = (tgt : Int)) (ha : a < 2 ^ 31) (hb : b < 2 ^ 31) (kt : a ≠ b → W p l e R s m args below meth c H locs cells slots Q (F0 m tgt ls rest)) (kf : a = b → W p l e R s m args below meth c H locs cells slots Q (F0 m (pc + 3) ls rest)) : W p l e R s m args below meth c H locs cells slots Q (F0 m pc ls (.int (nI b) :: .int (nI a) :: rest)) := lv_icmp_ne M.1 M.2.1 hdg ht (fun h => kt (fun q => h ((nI_eq ha hb).mpr q))) (fun h => kf ((nI_eq ha hb).mp h))
theorem pd_ceq (M : Mx cc own nL rt p s m meth c args) {a b : Nat} {off : Int} {tgt : Nat} (hdg : decode cc pc = .ok (.if_icmp .eq off, 3)) (ht : (pc : Int) + off = (tgt : Int)) (ha : a < 2 ^ 31) (hb : b < 2 ^ 31) (kt : a = b → W p l e R s m args below meth c H locs cells slots Q (F0 m tgt ls rest)) (kf : a ≠ b → W p l e R s m args below meth c H locs cells slots Q (F0 m (pc + 3) ls rest)) : W p l e R s m args below meth c H locs cells slots Q (F0 m pc ls (.int (nI b) :: .int (nI a) :: rest)) := lv_icmp_eq M.1 M.2.1 hdg ht (fun h => kt ((nI_eq ha hb).mp h)) (fun h => kf (fun q => h ((nI_eq ha hb).mpr q)))
-- a whole number against nought
theorem pd_ine (M : Mx cc own nL rt p s m meth c args) {a : Nat} {off : Int} {tgt : Nat} (hdg : decode cc pc = .ok (.ifCond .ne off, 3)) (ht : (pc : Int) + off = (tgt : Int)) (ha : a < 2 ^ 31) (kt : 0 < a → W p l e R s m args below meth c H locs cells slots Q (F0 m tgt ls rest)) (kf : a = 0 → W p l e R s m args below meth c H locs cells slots Q (F0 m (pc + 3) ls rest)) : W p l e R s m args below meth c H locs cells slots Q (F0 m pc ls (.int (nI a) :: rest)) := lv_if_ne M.1 M.2.1 hdg ht (fun h => kt (Nat.pos_of_ne_zero (fun q => h (by rw [q]; exact nI_0)))) (fun h => kf (by rcases Nat.eq_zero_or_pos a with q | q; exact q; exact absurd h (nI_ne0 q ha)))
theorem pd_ieq (M : Mx cc own nL rt p s m meth c args) {a : Nat} {off : Int} {tgt : Nat} (hdg : decode cc pc = .ok (.ifCond .eq off, 3)) (ht : (pc : Int) + off = (tgt : Int)) (ha : a < 2 ^ 31) (kt : a = 0 → W p l e R s m args below meth c H locs cells slots Q (F0 m tgt ls rest)) (kf : 0 < a → W p l e R s m args below meth c H locs cells slots Q (F0 m (pc + 3) ls rest)) : W p l e R s m args below meth c H locs cells slots Q (F0 m pc ls (.int (nI a) :: rest)) := lv_if_eq M.1 M.2.1 hdg ht (fun h => kt (by rcases Nat.eq_zero_or_pos a with q | q; exact q; exact absurd h (nI_ne0 q ha))) (fun h => kf (Nat.pos_of_ne_zero (fun q => h (by rw [q]; exact nI_0))))
theorem pd_ile (M : Mx cc own nL rt p s m meth c args) {a : Nat} {off : Int} {tgt : Nat} (hdg : decode cc pc = .ok (.ifCond .le off, 3)) (ht : (pc : Int) + off = (tgt : Int)) (ha : a < 2 ^ 31) (kt : a = 0 → W p l e R s m args below meth c H locs cells slots Q (F0 m tgt ls rest)) (kf : 0 < a → W p l e R s m args below meth c H locs cells slots Q (F0 m (pc + 3) ls rest)) : W p l e R s m args below meth c H locs cells slots Q (F0 m pc ls (.int (nI a) :: rest)) := lv_if_le M.1 M.2.1 hdg ht (fun h => kt (by rcases Nat.eq_zero_or_pos a with q | q; exact q; exact absurd h (nI_nle q ha))) (fun h => kf (Nat.pos_of_ne_zero (fun q => h (by rw [q]; exact Int32.le_refl _))))
theorem pd_ilt (M : Mx cc own nL rt p s m meth c args) {a : Nat} {off : Int} {tgt : Nat} (hdg : decode cc pc = .ok (.ifCond .lt off, 3)) (ht : (pc : Int) + off = (tgt : Int)) (ha : a < 2 ^ 31) (kf : W p l e R s m args below meth c H locs cells slots Q (F0 m (pc + 3) ls rest)) : W p l e R s m args below meth c H locs cells slots Q (F0 m pc ls (.int (nI a) :: rest)) := lv_if_lt M.1 M.2.1 hdg ht (fun h => absurd h (nI_pos ha)) (fun _ => kf)
-- arrays
theorem pd_ald (M : Mx cc own nL rt p s m meth c args) (hw : Hd A D tys s ws H locs) (q0 t0 : Nat) {a : Nat} {cA : ClassId} {n : Nat} {f : Nat → Nat} (ha : ws[q0]? = some (a, .inl (cA, n, .inl (aI f)))) (ht : tys[t0]? = some (cA, .int)) {i : Nat} (hi : i < n) (hn : n < 2 ^ 31) (hdg : decode cc pc = .ok (.iaload, 1))
    (kk : W p l e R s m args below meth c H locs cells slots Q (F0 m (pc + 1) ls (.int (nI (f i)) :: rest))) : W p l e R s m args below meth c H locs cells slots Q (F0 m pc ls (.int (nI i) :: .ref a :: rest)) :=
  va_iald M.1 M.2.1 hw.2.2.2.1 hw.1 q0 t0 ha ht (vp_in_nI hi hn) hdg (by
    have e1 : aI f (nI i).toNatClampNeg = nI (f i) := by rw [nI_clamp (Nat.lt_trans hi hn)]; rfl
    rw [e1]; exact kk)
theorem pd_ast (M : Mx cc own nL rt p s m meth c args) (hw : Hd A D tys s ws H locs) (q0 t0 : Nat) {a : Nat} {cA : ClassId} {n : Nat} {f : Nat → Nat} (ha : ws[q0]? = some (a, .inl (cA, n, .inl (aI f)))) (ht : tys[t0]? = some (cA, .int)) {i x : Nat} (hi : i < n) (hn : n < 2 ^ 31) (hdg : decode cc pc = .ok (.iastore, 1))
    (kk : ∀ (H : Heap) (locs : List Loc), Hd A D tys s (ws.set q0 (a, .inl (cA, n, .inl (aI (va_up f i x))))) H locs → W p l e R s m args below meth c H locs cells slots Q (F0 m (pc + 1) ls rest)) : W p l e R s m args below meth c H locs cells slots Q (F0 m pc ls (.int (nI x) :: .int (nI i) :: .ref a :: rest)) :=
  va_iast M.1 M.2.1 hw.2.2.2.1 hw.1 hw.2.1 hw.2.2.1 q0 t0 ha ht (vp_in_nI hi hn) hdg (fun H1 locs1 hP hD hS => by
    rw [aI_up (Nat.lt_trans hi hn)] at hP hD
    exact kk H1 locs1 ⟨hP, hD, hS, hw.2.2.2.1, hw.2.2.2.2⟩)
-- fields
theorem pd_get {ci : Nat} {C : String} {T : u_T} {N : Nat} (M : Mx cc own nL rt p s m meth c args) (hw : Hd A D tys s ws H locs) (hc : classes[ci]? = some (C, T, N)) (hin : ∀ w ∈ u_ws C T N, w ∈ std) (q0 k : Nat) {a : Nat} {fs : List Value} {v : Value} {idx : Nat} (he : ws[q0]? = some (a, .inr (ci, fs))) (hk : k < N) (hlink : Cond.fieldLink own idx (T k).1 (T k).2.1 (T k).2.2.1 ∈ std) (hv : fs[k]? = some v) (hdg : decode cc pc = .ok (.getfield idx, 3))
    (kk : W p l e R s m args below meth c H locs cells slots Q (F0 m (pc + 3) ls (v :: rest))) : W p l e R s m args below meth c H locs cells slots Q (F0 m pc ls (.ref a :: rest)) :=
  va_get M.1 M.2.1 M.2.2.2.2.2.1 hin M.2.2.2.2.1 hw.2.2.2.1 hw.1 q0 he hc k hk (M.2.2.2.2.2.1 _ hlink) (fun _ h => h) hv hdg kk
theorem pd_put {ci : Nat} {C : String} {T : u_T} {N : Nat} {ty0 : Nat → FieldType} (M : Mx cc own nL rt p s m meth c args) (hw : Hd A D tys s ws H locs) (hc : classes[ci]? = some (C, T, N)) (hin : ∀ w ∈ u_ws C T N, w ∈ std) (hty : ∀ k, k < N → parseFieldDescriptor (T k).2.2.1 = some (ty0 k)) (hnm : ∀ a, a < N → ∀ b, b < N → a ≠ b → (T a).2.1 ≠ (T b).2.1) (q0 k : Nat) {a : Nat} {fs : List Value} {v : Value} {idx : Nat} (he : ws[q0]? = some (a, .inr (ci, fs))) (hk : k < N) (hlink : Cond.fieldLink own idx (T k).1 (T k).2.1 (T k).2.2.1 ∈ std) (hfin : (T k).2.2.2 = false) (hn : narrow (ty0 k) v = v) (hfit : fits (ty0 k) v = true) (hl : k < fs.length) (hdg : decode cc pc = .ok (.putfield idx, 3))
    (kk : ∀ (H : Heap) (locs : List Loc), Hd A D tys s (ws.set q0 (a, .inr (ci, fs.set k v))) H locs → W p l e R s m args below meth c H locs cells slots Q (F0 m (pc + 3) ls rest)) : W p l e R s m args below meth c H locs cells slots Q (F0 m pc ls (v :: .ref a :: rest)) :=
  va_put M.1 M.2.1 M.2.2.2.2.2.1 hin ty0 hty hnm M.2.2.2.2.1 hw.2.2.2.1 hw.1 hw.2.1 hw.2.2.1 q0 he hc k hk (M.2.2.2.2.2.1 _ hlink) (fun _ h => h) hfin (hty k hk) hn hfit hl hdg (fun H1 locs1 hP hD hS => kk H1 locs1 ⟨hP, hD, hS, hw.2.2.2.1, hw.2.2.2.2⟩)
theorem pd_putF {ci : Nat} {C : String} {T : u_T} {N : Nat} {ty0 : Nat → FieldType} (M : Mx cc own nL rt p s m meth c args) (hin2 : meth.name = "<init>") (hw : Hd A D tys s ws H locs) (hc : classes[ci]? = some (C, T, N)) (hin : ∀ w ∈ u_ws C T N, w ∈ std) (hty : ∀ k, k < N → parseFieldDescriptor (T k).2.2.1 = some (ty0 k)) (hnm : ∀ a, a < N → ∀ b, b < N → a ≠ b → (T a).2.1 ≠ (T b).2.1) (q0 k : Nat) {a : Nat} {fs : List Value} {v : Value} {idx : Nat} (he : ws[q0]? = some (a, .inr (ci, fs))) (hk : k < N) (hlink : Cond.fieldLink own idx (T k).1 (T k).2.1 (T k).2.2.1 ∈ std) (hfin : (T k).2.2.2 = true) (hdc : (T k).1 = own) (hn : narrow (ty0 k) v = v) (hfit : fits (ty0 k) v = true) (hl : k < fs.length) (hdg : decode cc pc = .ok (.putfield idx, 3))
    (kk : ∀ (H : Heap) (locs : List Loc), Hd A D tys s (ws.set q0 (a, .inr (ci, fs.set k v))) H locs → W p l e R s m args below meth c H locs cells slots Q (F0 m (pc + 3) ls rest)) : W p l e R s m args below meth c H locs cells slots Q (F0 m pc ls (v :: .ref a :: rest)) :=
  va_putF M.1 M.2.1 M.2.2.2.2.2.1 hin ty0 hty hnm M.2.2.2.2.1 hw.2.2.2.1 hw.1 hw.2.1 hw.2.2.1 q0 he hc k hk (M.2.2.2.2.2.1 _ hlink) (fun _ h => h) hfin hin2 hdc (hty k hk) hn hfit hl hdg (fun H1 locs1 hP hD hS => kk H1 locs1 ⟨hP, hD, hS, hw.2.2.2.1, hw.2.2.2.2⟩)
theorem pd_gE (M : Mx cc own nL rt p s m meth c args) (hw : Hd A D tys s ws H locs) (q0 k : Nat) {a : Nat} {fs : List Value} {v : Value} {idx : Nat} (he : ws[q0]? = some (a, .inr (0, fs))) (hk : k < 9) (hlink : Cond.fieldLink own idx (F_E k).1 (F_E k).2.1 (F_E k).2.2.1 ∈ std) (hv : fs[k]? = some v) (hdg : decode cc pc = .ok (.getfield idx, 3))
    (kk : W p l e R s m args below meth c H locs cells slots Q (F0 m (pc + 3) ls (v :: rest))) : W p l e R s m args below meth c H locs cells slots Q (F0 m pc ls (.ref a :: rest)) := pd_get (ci := 0) M hw rfl i_E q0 k he hk hlink hv hdg kk
theorem pd_gD (M : Mx cc own nL rt p s m meth c args) (hw : Hd A D tys s ws H locs) (q0 k : Nat) {a : Nat} {fs : List Value} {v : Value} {idx : Nat} (he : ws[q0]? = some (a, .inr (1, fs))) (hk : k < 6) (hlink : Cond.fieldLink own idx (F_D k).1 (F_D k).2.1 (F_D k).2.2.1 ∈ std) (hv : fs[k]? = some v) (hdg : decode cc pc = .ok (.getfield idx, 3))
    (kk : W p l e R s m args below meth c H locs cells slots Q (F0 m (pc + 3) ls (v :: rest))) : W p l e R s m args below meth c H locs cells slots Q (F0 m pc ls (.ref a :: rest)) := pd_get (ci := 1) M hw rfl i_D q0 k he hk hlink hv hdg kk
theorem pd_gM (M : Mx cc own nL rt p s m meth c args) (hw : Hd A D tys s ws H locs) (q0 k : Nat) {a : Nat} {fs : List Value} {v : Value} {idx : Nat} (he : ws[q0]? = some (a, .inr (2, fs))) (hk : k < 3) (hlink : Cond.fieldLink own idx (F_M k).1 (F_M k).2.1 (F_M k).2.2.1 ∈ std) (hv : fs[k]? = some v) (hdg : decode cc pc = .ok (.getfield idx, 3))
    (kk : W p l e R s m args below meth c H locs cells slots Q (F0 m (pc + 3) ls (v :: rest))) : W p l e R s m args below meth c H locs cells slots Q (F0 m pc ls (.ref a :: rest)) := pd_get (ci := 2) M hw rfl i_M q0 k he hk hlink hv hdg kk
theorem pd_pE (M : Mx cc own nL rt p s m meth c args) (hw : Hd A D tys s ws H locs) (q0 k : Nat) {a : Nat} {fs : List Value} {v : Value} {idx : Nat} (he : ws[q0]? = some (a, .inr (0, fs))) (hk : k < 9) (hlink : Cond.fieldLink own idx (F_E k).1 (F_E k).2.1 (F_E k).2.2.1 ∈ std) (hfin : (F_E k).2.2.2 = false) (hn : narrow (t_E k) v = v) (hfit : fits (t_E k) v = true) (hl : k < fs.length) (hdg : decode cc pc = .ok (.putfield idx, 3))
    (kk : ∀ (H : Heap) (locs : List Loc), Hd A D tys s (ws.set q0 (a, .inr (0, fs.set k v))) H locs → W p l e R s m args below meth c H locs cells slots Q (F0 m (pc + 3) ls rest)) : W p l e R s m args below meth c H locs cells slots Q (F0 m pc ls (v :: .ref a :: rest)) := pd_put (ci := 0) M hw rfl i_E t_E_ok n_E q0 k he hk hlink hfin hn hfit hl hdg kk
theorem pd_pD (M : Mx cc own nL rt p s m meth c args) (hw : Hd A D tys s ws H locs) (q0 k : Nat) {a : Nat} {fs : List Value} {v : Value} {idx : Nat} (he : ws[q0]? = some (a, .inr (1, fs))) (hk : k < 6) (hlink : Cond.fieldLink own idx (F_D k).1 (F_D k).2.1 (F_D k).2.2.1 ∈ std) (hfin : (F_D k).2.2.2 = false) (hn : narrow (t_D k) v = v) (hfit : fits (t_D k) v = true) (hl : k < fs.length) (hdg : decode cc pc = .ok (.putfield idx, 3))
    (kk : ∀ (H : Heap) (locs : List Loc), Hd A D tys s (ws.set q0 (a, .inr (1, fs.set k v))) H locs → W p l e R s m args below meth c H locs cells slots Q (F0 m (pc + 3) ls rest)) : W p l e R s m args below meth c H locs cells slots Q (F0 m pc ls (v :: .ref a :: rest)) := pd_put (ci := 1) M hw rfl i_D t_D_ok n_D q0 k he hk hlink hfin hn hfit hl hdg kk
theorem pd_pM (M : Mx cc own nL rt p s m meth c args) (hw : Hd A D tys s ws H locs) (q0 k : Nat) {a : Nat} {fs : List Value} {v : Value} {idx : Nat} (he : ws[q0]? = some (a, .inr (2, fs))) (hk : k < 3) (hlink : Cond.fieldLink own idx (F_M k).1 (F_M k).2.1 (F_M k).2.2.1 ∈ std) (hfin : (F_M k).2.2.2 = false) (hn : narrow (t_M k) v = v) (hfit : fits (t_M k) v = true) (hl : k < fs.length) (hdg : decode cc pc = .ok (.putfield idx, 3))
    (kk : ∀ (H : Heap) (locs : List Loc), Hd A D tys s (ws.set q0 (a, .inr (2, fs.set k v))) H locs → W p l e R s m args below meth c H locs cells slots Q (F0 m (pc + 3) ls rest)) : W p l e R s m args below meth c H locs cells slots Q (F0 m pc ls (v :: .ref a :: rest)) := pd_put (ci := 2) M hw rfl i_M t_M_ok n_M q0 k he hk hlink hfin hn hfit hl hdg kk
theorem pd_newa (M : Mx cc own nL rt p s m meth c args) (hw : Hd A D tys s ws H locs) {N : Nat} (hN : N < 2 ^ 31) (hby : N * 4 ≤ 536870912) (hcells : cells + 1 ≤ R.cells) (hslots : slots + N ≤ R.slots) (hdg : decode cc pc = .ok (.newarray .int, 2))
    (kk : ∀ (q : Nat) (cA : ClassId) (H1 : Heap), Hd A D (tys ++ [(cA, .int)]) s (ws ++ [(q, .inl (cA, N, .inl (aI (fun _ => 0))))]) H1 locs → W p l e R s m args below meth c H1 locs (cells + 1) (slots + N) Q (F0 m (pc + 2) ls (.ref q :: rest))) : W p l e R s m args below meth c H locs cells slots Q (F0 m pc ls (.int (nI N) :: rest)) :=
  va_newa (a0 := (N, .inl (aI (fun _ => 0)))) M.1 M.2.1 (atype := .int) (M.2.2.2.2.2.1 _ k_arr) (ty := .int) rfl hw.2.2.2.1 hw.1 hw.2.1 hw.2.2.1 hw.2.2.2.2 (fun _ => rfl) (nI_pos hN) (nI_clamp hN) hby hcells hslots hdg (fun q cA H1 hK hP hD hS => kk q cA H1 ⟨hP, hD, hS, hK, hw.2.2.2.2⟩)
theorem pd_max (M : Mx cc own nL rt p s m meth c args) (hsz : ls.size = nL) {idx : Nat} (hlink : Cond.methodLink own idx Lib.Math.max.name ∈ std) (hf : 1 ≤ R.frames) (hlo : (rest.map fun v => v.category).sum + 13 ≤ R.locals) (hc : cells ≤ R.cells) (hs : slots ≤ R.slots) {a b : Nat} (ha : a < 2 ^ 31) (hb : b < 2 ^ 31) (hdg : decode cc pc = .ok (.invokestatic idx, 3))
    (kk : W p l e R s m args below meth c H locs cells slots Q (F0 m (pc + 3) ls (.int (nI (max a b)) :: rest))) : W p l e R s m args below meth c H locs cells slots Q (F0 m pc ls (.int (nI b) :: .int (nI a) :: rest)) :=
  va_mmax M.1 M.2.1 (M.2.2.2.1.trans hsz.symm) M.2.2.2.2.1 (M.2.2.2.2.2.1 _ hlink) (M.2.2.2.2.2.1 _ k_st_Math_max) (M.2.2.2.2.2.1 _ k_in_Math) (M.2.2.2.2.2.1 _ k_c_Math_max) hf hlo hc hs hdg (by
    have e1 : (if nI a < nI b then nI b else nI a) = nI (max a b) := by
      by_cases q : a < b
      · rw [if_pos ((nI_ltI ha hb).mpr q), Nat.max_eq_right (Nat.le_of_lt q)]
      · rw [if_neg (fun z => q ((nI_ltI ha hb).mp z)), Nat.max_eq_left (Nat.le_of_not_lt q)]
    rw [e1]; exact kk)
theorem pd_min (M : Mx cc own nL rt p s m meth c args) (hsz : ls.size = nL) {idx : Nat} (hlink : Cond.methodLink own idx Lib.Math.min.name ∈ std) (hf : 1 ≤ R.frames) (hlo : (rest.map fun v => v.category).sum + 13 ≤ R.locals) (hc : cells ≤ R.cells) (hs : slots ≤ R.slots) {a b : Nat} (ha : a < 2 ^ 31) (hb : b < 2 ^ 31) (hdg : decode cc pc = .ok (.invokestatic idx, 3))
    (kk : W p l e R s m args below meth c H locs cells slots Q (F0 m (pc + 3) ls (.int (nI (min a b)) :: rest))) : W p l e R s m args below meth c H locs cells slots Q (F0 m pc ls (.int (nI b) :: .int (nI a) :: rest)) :=
  va_mmin M.1 M.2.1 (M.2.2.2.1.trans hsz.symm) M.2.2.2.2.1 (M.2.2.2.2.2.1 _ hlink) (M.2.2.2.2.2.1 _ k_st_Math_min) (M.2.2.2.2.2.1 _ k_in_Math) (M.2.2.2.2.2.1 _ k_c_Math_min) hf hlo hc hs hdg (by
    have e1 : (if nI b < nI a then nI b else nI a) = nI (min a b) := by
      by_cases q : b < a
      · rw [if_pos ((nI_ltI hb ha).mpr q), Nat.min_eq_right (Nat.le_of_lt q)]
      · rw [if_neg (fun z => q ((nI_ltI hb ha).mp z)), Nat.min_eq_left (Nat.le_of_not_lt q)]
    rw [e1]; exact kk)
theorem Hd.sub {ws' : va_W} (h : Hd A D tys s ws H locs) (is : List Nat) (hn : va_nd is = true) (h1 : is.filterMap (fun i => ws[i]?) = ws') (h2 : is.map (fun i => ws[i]?) = ws'.map some) : Hd A D tys s ws' H locs :=
  ⟨h.1.sub is h1, h.2.1.sub is hn h2, h.2.2.1, h.2.2.2.1, h.2.2.2.2⟩
theorem pd_fm {α : Type} (is : List Nat) (f : Nat → Option α) (l : List α) (h : is.map f = l.map some) : is.filterMap f = l := by
  induction is generalizing l with
  | nil =>
    cases l with
    | nil => rfl
    | cons x l => simp at h
  | cons i is ih =>
    cases l with
    | nil => simp at h
    | cons x l =>
      simp only [List.map_cons, List.cons.injEq] at h
      rw [List.filterMap_cons, h.1]
      simp only [ih l h.2]
theorem pd_blind {av : List Value} {sz : Nat} {wc : va_W} {tyc : List (ClassId × FieldType)} : FrameBlind (va_Pc av (fun U => U.heap.size = sz ∧ va_P D classes wc U.heap ∧ va_K D classes tyc U ∧ va_D (fun _ => True) wc)) := fun a U g mk q => by
  obtain ⟨q0, q1, qP, qK, qD⟩ := q
  exact ⟨q0, q1, qP, va_K.moved (u := U) (U := U.calling g mk a) (Vm.Alike.refl U.vm) qK, qD⟩
/-- a virtual call that answers an int -/
theorem pd_calli {y : MethodName} {yb : ByteArray} {yn : Nat} {yr : Option FieldType} {fr lo idx : Nat} {tyc : List (ClassId × FieldType)} {As st0 : List Value} {b : Nat} {wc wr : va_W} {S : Type} {post : Int32 → S → Prop} {w1 : S → va_W} {ci N : Nat} {T : u_T} {fs : List Value}
    (M : Mx cc own nL rt p s m meth c args) (hw : Hd A D tys s ws H locs) (hM : Ci l y yb yn yr fr lo D tyc (.ref b :: As) wc S post w1)
    (hl : Cond.methodLink own idx y ∈ std) (hi : Cond.instanceMethod y ∈ std) (hs : Cond.selects y.cls y y ∈ std) (hin : Cond.initialized y.cls ∈ std) (hcd : Cond.code y yb yn yr ∈ std)
    (hd : y.cls ≠ "java/lang/invoke/MethodHandle" ∧ y.cls ≠ "java/lang/invoke/VarHandle" ∧ (parseMethodDescriptor y.desc).map (fun d => d.parameters.length) = some As.length)
    (hR : fr + 1 ≤ R.frames ∧ 8 + (yn + 11) + lo ≤ R.locals) (hcr : cells ≤ R.cells ∧ slots ≤ R.slots)
    (isC isR isT : List Nat) (hC : isC.map (fun i => ws[i]?) = wc.map some) (hRr : isR.map (fun i => ws[i]?) = wr.map some) (hnC : va_nd isC = true) (hnR : va_nd isR = true) (hdis : ∀ i ∈ isR, i ∉ isC) (hT : isT.filterMap (fun i => tys[i]?) = tyc)
    (hrc : classes[ci]? = some (y.cls, T, N)) (q0 : Nat) (he : wc[q0]? = some (b, .inr (ci, fs)))
    (hsz : ls.size = nL) (hrm : (rest.map fun v => v.category).sum ≤ 8) (hst : st0 = As.reverse ++ .ref b :: rest) (hdg : decode cc pc = .ok (.invokevirtual idx, 3))
    (kk : ∀ (r : Int32) (u : S) (H1 : Heap) (locs1 : List Loc), post r u → Hd A D tys s (wr ++ w1 u) H1 locs1 → W p l e R s m args below meth c H1 locs1 cells slots Q (F0 m (pc + 3) ls (.int r :: rest))) : W p l e R s m args below meth c H locs cells slots Q (F0 m pc ls st0) := by
  obtain ⟨hx, hb, hrt, hml, hown, hts, hlk⟩ := id M
  obtain ⟨hP, hD, hS, hK, hA⟩ := id hw
  have hPc : va_P D classes wc H := hP.sub isC (pd_fm _ _ _ hC)
  have hDc : va_D A wc := hD.sub isC hnC hC
  have hKc : va_K D classes tyc s := hK.sub isT hT
  have hFc := va_free hD hS hA isC hC
  have cw : CallW R s args own y.cls idx y yb yn yr (Cond.code y yb yn yr :: std) { frames := fr, cells := 0, slots := 0, locals := lo } 0 0 As.length :=
    ⟨callB_of As.length hts (std_in _ hcd) rfl rfl rfl (hts _ hin) (hts _ hl) hd hR, hts _ hi, hts _ hs⟩
  refine va_calli (va_runV (As := As) (rest := rest) ⟨hx, hb, hml, hown, hts⟩ (hM H.size) cw ⟨pd_blind, va_recv hKc hPc hrc he, fun U hU hW => ⟨rfl, by rw [hU], by rw [hU]; exact hPc, va_K.moved hW.alike hKc, hDc.weaken (fun _ _ _ _ => trivial)⟩⟩ rfl rfl hsz hst (lv_room hrm) hdg hcr) hS (fun q _ h => hFc q h) hFc (fun r u t H1 locs1 ht hvm hpo hB hz1 hk1 hS1 => ?_)
  obtain ⟨hP1, hK1, hD1⟩ := hB
  rw [ht] at hP1
  obtain ⟨hP2, hD2⟩ := va_join hP hD isC isR hC hRr hnR hdis hk1 hFc hP1 hD1
  exact kk r u H1 locs1 hpo ⟨hP2, hD2, hS1, hK, hA⟩
/-- a virtual call that answers nothing -/
theorem pd_callv {y : MethodName} {yb : ByteArray} {yn : Nat} {fr lo idx : Nat} {tyc : List (ClassId × FieldType)} {As st0 : List Value} {b : Nat} {wc wr : va_W} {S : Type} {post : S → Prop} {w1 : S → va_W} {ci N : Nat} {T : u_T} {fs : List Value}
    (M : Mx cc own nL rt p s m meth c args) (hw : Hd A D tys s ws H locs) (hM : Cv l y yb yn fr lo D tyc (.ref b :: As) wc S post w1)
    (hl : Cond.methodLink own idx y ∈ std) (hi : Cond.instanceMethod y ∈ std) (hs : Cond.selects y.cls y y ∈ std) (hin : Cond.initialized y.cls ∈ std) (hcd : Cond.code y yb yn none ∈ std)
    (hd : y.cls ≠ "java/lang/invoke/MethodHandle" ∧ y.cls ≠ "java/lang/invoke/VarHandle" ∧ (parseMethodDescriptor y.desc).map (fun d => d.parameters.length) = some As.length)
    (hR : fr + 1 ≤ R.frames ∧ 8 + (yn + 11) + lo ≤ R.locals) (hcr : cells ≤ R.cells ∧ slots ≤ R.slots)
    (isC isR isT : List Nat) (hC : isC.map (fun i => ws[i]?) = wc.map some) (hRr : isR.map (fun i => ws[i]?) = wr.map some) (hnC : va_nd isC = true) (hnR : va_nd isR = true) (hdis : ∀ i ∈ isR, i ∉ isC) (hT : isT.filterMap (fun i => tys[i]?) = tyc)
    (hrc : classes[ci]? = some (y.cls, T, N)) (q0 : Nat) (he : wc[q0]? = some (b, .inr (ci, fs)))
    (hsz : ls.size = nL) (hrm : (rest.map fun v => v.category).sum ≤ 8) (hst : st0 = As.reverse ++ .ref b :: rest) (hdg : decode cc pc = .ok (.invokevirtual idx, 3))
    (kk : ∀ (u : S) (H1 : Heap) (locs1 : List Loc), post u → Hd A D tys s (wr ++ w1 u) H1 locs1 → W p l e R s m args below meth c H1 locs1 cells slots Q (F0 m (pc + 3) ls rest)) : W p l e R s m args below meth c H locs cells slots Q (F0 m pc ls st0) := by
  obtain ⟨hx, hb, hrt, hml, hown, hts, hlk⟩ := id M
  obtain ⟨hP, hD, hS, hK, hA⟩ := id hw
  have hPc : va_P D classes wc H := hP.sub isC (pd_fm _ _ _ hC)
  have hDc : va_D A wc := hD.sub isC hnC hC
  have hKc : va_K D classes tyc s := hK.sub isT hT
  have hFc := va_free hD hS hA isC hC
  have cw : CallW R s args own y.cls idx y yb yn none (Cond.code y yb yn none :: std) { frames := fr, cells := 0, slots := 0, locals := lo } 0 0 As.length :=
    ⟨callB_of As.length hts (std_in _ hcd) rfl rfl rfl (hts _ hin) (hts _ hl) hd hR, hts _ hi, hts _ hs⟩
  refine va_callv (va_runV (As := As) (rest := rest) ⟨hx, hb, hml, hown, hts⟩ (hM H.size) cw ⟨pd_blind, va_recv hKc hPc hrc he, fun U hU hW => ⟨rfl, by rw [hU], by rw [hU]; exact hPc, va_K.moved hW.alike hKc, hDc.weaken (fun _ _ _ _ => trivial)⟩⟩ rfl rfl hsz hst (lv_room hrm) hdg hcr) hS (fun q _ h => hFc q h) hFc (fun u t H1 locs1 ht hvm hpo hB hz1 hk1 hS1 => ?_)
  obtain ⟨hP1, hK1, hD1⟩ := hB
  rw [ht] at hP1
  obtain ⟨hP2, hD2⟩ := va_join hP hD isC isR hC hRr hnR hdis hk1 hFc hP1 hD1
  exact kk u H1 locs1 hpo ⟨hP2, hD2, hS1, hK, hA⟩
/-- a static call that answers an int and touches no cell -/
theorem pd_calls {y : MethodName} {yb : ByteArray} {yn : Nat} {yr : Option FieldType} {fr lo idx : Nat} {As st0 : List Value} {S : Type} {post : Int32 → S → Prop}
    (M : Mx cc own nL rt p s m meth c args) (hw : Hd A D tys s ws H locs) (hM : Ci l y yb yn yr fr lo D [] As [] S post (fun _ => []))
    (hl : Cond.methodLink own idx y ∈ std) (hi : Cond.static y ∈ std) (hin : Cond.initialized y.cls ∈ std) (hcd : Cond.code y yb yn yr ∈ std)
    (hd : y.cls ≠ "java/lang/invoke/MethodHandle" ∧ y.cls ≠ "java/lang/invoke/VarHandle" ∧ (parseMethodDescriptor y.desc).map (fun d => d.parameters.length) = some As.length)
    (hR : fr + 1 ≤ R.frames ∧ 8 + (yn + 11) + lo ≤ R.locals) (hcr : cells ≤ R.cells ∧ slots ≤ R.slots)
    (hsz : ls.size = nL) (hrm : (rest.map fun v => v.category).sum ≤ 8) (hst : st0 = As.reverse ++ rest) (hdg : decode cc pc = .ok (.invokestatic idx, 3))
    (kk : ∀ (r : Int32) (u : S) (H1 : Heap) (locs1 : List Loc), post r u → Hd A D tys s ws H1 locs1 → W p l e R s m args below meth c H1 locs1 cells slots Q (F0 m (pc + 3) ls (.int r :: rest))) : W p l e R s m args below meth c H locs cells slots Q (F0 m pc ls st0) := by
  obtain ⟨hx, hb, hrt, hml, hown, hts, hlk⟩ := id M
  obtain ⟨hP, hD, hS, hK, hA⟩ := id hw
  have hKc : va_K D classes [] s := hK.sub [] rfl
  have hPc : va_P D classes [] H := fun k q h => by simp at h
  have hDc : va_D A [] := ⟨fun i j p q h => by simp at h, fun k q h => by simp at h⟩
  have hFc : ∀ q, va_A [] H.size q → A q := fun q h => by
    rcases h with ⟨k, e1, h1⟩ | h1
    · simp at h1
    · exact hA q (Nat.le_trans hS.1 h1)
  have cw : CallB R s args own idx y yb yn yr (Cond.code y yb yn yr :: std) { frames := fr, cells := 0, slots := 0, locals := lo } 0 0 As.length ∧ (Cond.static y).before args s = true :=
    ⟨callB_of As.length hts (std_in _ hcd) rfl rfl rfl (hts _ hin) (hts _ hl) hd hR, hts _ hi⟩
  refine va_calli (va_runS (As := As) (rest := rest) ⟨hx, hb, hml, hown, hts⟩ (hM H.size) cw ⟨pd_blind, fun U hU hW => ⟨rfl, by rw [hU], by rw [hU]; exact hPc, va_K.moved hW.alike hKc, hDc.weaken (fun _ _ _ _ => trivial)⟩⟩ rfl rfl hsz hst (lv_room hrm) hdg hcr) hS (fun q _ h => hFc q h) hFc (fun r u t H1 locs1 ht hvm hpo hB hz1 hk1 hS1 => ?_)
  have hP2 : va_P D classes ws H1 := hP.kept (fun k q hk => hk1 q.1 (hP k q hk).lt (fun z => by
    rcases z with ⟨k2, e1, h1⟩ | h1
    · simp at h1
    · exact absurd (hP k q hk).lt (Nat.not_lt.mpr h1)))
  exact kk r u H1 locs1 hpo ⟨hP2, hD, hS1, hK, hA⟩
/-- what a method with an int's answer comes to -/
def pd_Qi (below : List Frame) (args : Array Value) (s : State) (A : Nat → Prop) (D : va_G) (tyc : List (ClassId × FieldType)) (S : Type) (post : Int32 → S → Prop) (w1 : S → va_W) : State → Prop :=
  MQ below (va_Qi post (fun u t => va_P D classes (w1 u) t.heap ∧ va_K D classes tyc t ∧ va_D A (w1 u)) A) args s 0 0 A
def pd_Qv (below : List Frame) (args : Array Value) (s : State) (A : Nat → Prop) (D : va_G) (tyc : List (ClassId × FieldType)) (S : Type) (post : S → Prop) (w1 : S → va_W) : State → Prop :=
  MQ below (va_Qv post (fun u t => va_P D classes (w1 u) t.heap ∧ va_K D classes tyc t ∧ va_D A (w1 u)) A) args s 0 0 A
theorem pd_ret {ty : FieldType} {S : Type} {post : Int32 → S → Prop} {w1 : S → va_W} {v : Int32} (M : Mx cc own nL (some ty) p s m meth c args) (u : S) (hw : Hd A D tys s (w1 u) H locs) (hn : narrow ty (.int v) = .int v) (hp : post v u) (hdg : decode cc pc = .ok (.ireturn, 1)) :
    W p l e R s m args below meth c H locs 0 0 (pd_Qi below args s A D tys S post w1) (F0 m pc ls [.int v]) :=
  W.zret M.1 M.2.1 M.2.2.1 hn (fun t ht hW => ⟨⟨v, u, rfl, hp, by rw [ht]; exact hw.1, va_K.moved hW.alike hw.2.2.2.1, hw.2.1⟩, hw.2.2.1.F ht⟩) hw.2.2.1.2.2 hdg M.2.2.2.2.2.2
theorem pd_vret {S : Type} {post : S → Prop} {w1 : S → va_W} (M : Mx cc own nL none p s m meth c args) (u : S) (hw : Hd A D tys s (w1 u) H locs) (hp : post u) (hdg : decode cc pc = .ok (.return_, 1)) :
    W p l e R s m args below meth c H locs 0 0 (pd_Qv below args s A D tys S post w1) (F0 m pc ls []) :=
  W.vret M.1 M.2.1 M.2.2.1 (fun t ht hW => ⟨⟨u, rfl, hp, by rw [ht]; exact hw.1, va_K.moved hW.alike hw.2.2.2.1, hw.2.1⟩, hw.2.2.1.F ht⟩) hw.2.2.1.2.2 hdg M.2.2.2.2.2.2
theorem Ci_of {y : MethodName} {yb : ByteArray} {yn : Nat} {yr : Option FieldType} {fr lo : Nat} {tyc : List (ClassId × FieldType)} {av : List Value} {wc : va_W} {S : Type} {post : Int32 → S → Prop} {w1 : S → va_W} (hy : plainName y.cls = true) (hlen : (lg_sl av).length ≤ yn)
    (body : ∀ (p : Program) (e : Env) (s : State) (m : MethodId) (below : List Frame) (meth : Method) (c : Code) (A : Nat → Prop) (ls : Array Slot), Mx yb y.cls yn yr p s m meth c av.toArray → Hd A D tyc s wc s.heap [] → lv_has ls yn (lv_args 0 av) →
      W p l e { frames := fr, cells := 0, slots := 0, locals := lo } s m av.toArray below meth c s.heap [] 0 0 (pd_Qi below av.toArray s A D tyc S post w1) (F0 m 0 ls [])) : Ci l y yb yn yr fr lo D tyc av wc S post w1 := by
  intro sz
  refine Met.ofW (cc := yb) (maxL := yn) (ret := yr) hy rfl ?_
  intro p e s m args below meth c s₁ B hml hv
  obtain ⟨rfl, hsz, hP, hK, hD0⟩ := hv
  subst hsz
  have hts := atoms_spec (ws := Cond.code y yb yn yr :: std) B.pre
  have M : Mx yb y.cls yn yr p s m meth c av.toArray := ⟨B.exec, B.bytes, B.returns, hml, findClass_of_methodNamed B.named, fun w hw => hts w (List.mem_cons_of_mem _ hw), B.notSynchronized⟩
  rw [lg_entry_eq]
  exact body p e s m below meth c (va_A wc s.heap.size) _ M ⟨hP, hD0.self, va_S.rf, hK, fun q h => Or.inr h⟩ (lv_entry av hlen)
theorem Cv_of {y : MethodName} {yb : ByteArray} {yn : Nat} {fr lo : Nat} {tyc : List (ClassId × FieldType)} {av : List Value} {wc : va_W} {S : Type} {post : S → Prop} {w1 : S → va_W} (hy : plainName y.cls = true) (hlen : (lg_sl av).length ≤ yn)
    (body : ∀ (p : Program) (e : Env) (s : State) (m : MethodId) (below : List Frame) (meth : Method) (c : Code) (A : Nat → Prop) (ls : Array Slot), Mx yb y.cls yn none p s m meth c av.toArray → Hd A D tyc s wc s.heap [] → lv_has ls yn (lv_args 0 av) →
      W p l e { frames := fr, cells := 0, slots := 0, locals := lo } s m av.toArray below meth c s.heap [] 0 0 (pd_Qv below av.toArray s A D tyc S post w1) (F0 m 0 ls [])) : Cv l y yb yn fr lo D tyc av wc S post w1 := by
  intro sz
  refine Met.ofW (cc := yb) (maxL := yn) (ret := none) hy rfl ?_
  intro p e s m args below meth c s₁ B hml hv
  obtain ⟨rfl, hsz, hP, hK, hD0⟩ := hv
  subst hsz
  have hts := atoms_spec (ws := Cond.code y yb yn none :: std) B.pre
  have M : Mx yb y.cls yn none p s m meth c av.toArray := ⟨B.exec, B.bytes, B.returns, hml, findClass_of_methodNamed B.named, fun w hw => hts w (List.mem_cons_of_mem _ hw), B.notSynchronized⟩
  rw [lg_entry_eq]
  exact body p e s m below meth c (va_A wc s.heap.size) _ M ⟨hP, hD0.self, va_S.rf, hK, fun q h => Or.inr h⟩ (lv_entry av hlen)
end
end
section
/-! plain laws 1: letters in common (lc), the order of ends (slt), counts, sums, permutations -/
def lcF (t : Nat → Nat) (n : Nat) : Nat → Nat → Nat → Nat
  | 0, _, _ => 0
  | f + 1, i, j => if i < n ∧ j < n ∧ t i = t j then lcF t n f (i + 1) (j + 1) + 1 else 0
def lc (t : Nat → Nat) (n i j : Nat) : Nat := lcF t n (n - i) i j
theorem lc_eq (t : Nat → Nat) (n i j : Nat) : lc t n i j = if i < n ∧ j < n ∧ t i = t j then lc t n (i + 1) (j + 1) + 1 else 0 := by
  by_cases h : i < n
  · have e : n - i = (n - (i + 1)) + 1 := by omega
    show lcF t n (n - i) i j = _
    rw [e]
    rfl
  · have e : n - i = 0 := by omega
    show lcF t n (n - i) i j = _
    rw [e, if_neg (fun q => h q.1)]
    rfl
theorem lc_all {t : Nat → Nat} {n : Nat} : ∀ (d i j : Nat), d < lc t n i j → i + d < n ∧ j + d < n ∧ t (i + d) = t (j + d)
  | 0, i, j, h => by
    rw [lc_eq] at h
    split at h
    · rename_i q
      exact q
    · omega
  | d + 1, i, j, h => by
    rw [lc_eq] at h
    split at h
    · have q := lc_all (t := t) (n := n) d (i + 1) (j + 1) (by omega)
      rw [show i + (d + 1) = i + 1 + d by omega, show j + (d + 1) = j + 1 + d by omega]
      exact q
    · omega
theorem lc_end (t : Nat → Nat) (n i j : Nat) : ¬ (i + lc t n i j < n ∧ j + lc t n i j < n ∧ t (i + lc t n i j) = t (j + lc t n i j)) := by
  suffices H : ∀ (L i j : Nat), lc t n i j = L → ¬ (i + L < n ∧ j + L < n ∧ t (i + L) = t (j + L)) from H _ i j rfl
  intro L
  induction L with
  | zero =>
    intro i j h q
    rw [lc_eq, if_pos (show i < n ∧ j < n ∧ t i = t j from q)] at h
    omega
  | succ L ih =>
    intro i j h
    rw [lc_eq] at h
    split at h
    · have q := ih (i + 1) (j + 1) (by omega)
      rw [show i + (L + 1) = i + 1 + L by omega, show j + (L + 1) = j + 1 + L by omega]
      exact q
    · omega
theorem lc_ge {t : Nat → Nat} {n i j L : Nat} (h : ∀ d, d < L → i + d < n ∧ j + d < n ∧ t (i + d) = t (j + d)) : L ≤ lc t n i j := by
  rcases Nat.lt_or_ge (lc t n i j) L with q | q
  · exact absurd (h _ q) (lc_end t n i j)
  · exact q
theorem lc_n {t : Nat → Nat} {n i j : Nat} (hi : i ≤ n) : i + lc t n i j ≤ n := by
  rcases Nat.eq_zero_or_pos (lc t n i j) with q | q
  · omega
  · have := lc_all (t := t) (n := n) (lc t n i j - 1) i j (by omega)
    omega
theorem lc_n2 {t : Nat → Nat} {n i j : Nat} (hj : j ≤ n) : j + lc t n i j ≤ n := by
  rcases Nat.eq_zero_or_pos (lc t n i j) with q | q
  · omega
  · have := lc_all (t := t) (n := n) (lc t n i j - 1) i j (by omega)
    omega
theorem lc_comm (t : Nat → Nat) (n i j : Nat) : lc t n i j = lc t n j i :=
  Nat.le_antisymm (lc_ge fun d hd => ⟨(lc_all d i j hd).2.1, (lc_all d i j hd).1, (lc_all d i j hd).2.2.symm⟩) (lc_ge fun d hd => ⟨(lc_all d j i hd).2.1, (lc_all d j i hd).1, (lc_all d j i hd).2.2.symm⟩)
theorem lc_self {t : Nat → Nat} {n i : Nat} (hi : i ≤ n) : lc t n i i = n - i := by
  have h1 := lc_n (t := t) (j := i) hi
  have h2 : n - i ≤ lc t n i i := lc_ge fun d hd => ⟨by omega, by omega, rfl⟩
  omega
theorem lc_tri (t : Nat → Nat) (n i j k : Nat) : min (lc t n i j) (lc t n j k) ≤ lc t n i k := lc_ge fun d hd => by
  have h1 := lc_all (t := t) (n := n) d i j (by omega)
  have h2 := lc_all (t := t) (n := n) d j k (by omega)
  exact ⟨h1.1, h2.2.1, h1.2.2.trans h2.2.2⟩
theorem lc_sh {t : Nat → Nat} {n i j L : Nat} (h : L ≤ lc t n i j) : lc t n (i + L) (j + L) = lc t n i j - L := by
  have h1 : L + lc t n (i + L) (j + L) ≤ lc t n i j := lc_ge fun d hd => by
    rcases Nat.lt_or_ge d L with q | q
    · exact lc_all d i j (by omega)
    · have r := lc_all (t := t) (n := n) (d - L) (i + L) (j + L) (by omega)
      rw [show i + L + (d - L) = i + d by omega, show j + L + (d - L) = j + d by omega] at r
      exact r
  have h2 : lc t n i j - L ≤ lc t n (i + L) (j + L) := lc_ge fun d hd => by
    have r := lc_all (t := t) (n := n) (L + d) i j (by omega)
    rw [show i + (L + d) = i + L + d by omega, show j + (L + d) = j + L + d by omega] at r
    exact r
  omega
theorem lc_pos {t : Nat → Nat} {n i j : Nat} (hi : i < n) (hj : j < n) : 1 ≤ lc t n i j ↔ t i = t j := by
  rw [lc_eq]
  split
  · rename_i q
    exact ⟨fun _ => q.2.2, fun _ => by omega⟩
  · rename_i q
    exact ⟨fun h => absurd h (by omega), fun h => absurd ⟨hi, hj, h⟩ q⟩
/-- the end at i comes before the end at j -/
def slt (t : Nat → Nat) (n i j : Nat) : Prop := i ≠ j ∧ (i + lc t n i j = n ∨ (j + lc t n i j < n ∧ t (i + lc t n i j) < t (j + lc t n i j)))
theorem slt_tot {t : Nat → Nat} {n i j : Nat} (hi : i < n) (hj : j < n) (h : i ≠ j) : slt t n i j ∨ slt t n j i := by
  have e := lc_end t n i j
  have h1 := lc_n (t := t) (n := n) (i := i) (j := j) (by omega)
  have h2 := lc_n2 (t := t) (n := n) (i := i) (j := j) (by omega)
  have hc := lc_comm t n i j
  by_cases q1 : i + lc t n i j = n
  · exact Or.inl ⟨h, Or.inl q1⟩
  · by_cases q2 : j + lc t n i j = n
    · exact Or.inr ⟨fun z => h z.symm, Or.inl (by rw [← hc]; exact q2)⟩
    · have q3 : t (i + lc t n i j) ≠ t (j + lc t n i j) := fun z => e ⟨by omega, by omega, z⟩
      rcases Nat.lt_or_gt_of_ne q3 with q | q
      · exact Or.inl ⟨h, Or.inr ⟨by omega, q⟩⟩
      · exact Or.inr ⟨fun z => h z.symm, Or.inr ⟨by rw [← hc]; omega, by rw [← hc]; exact q⟩⟩
theorem slt_asym {t : Nat → Nat} {n i j : Nat} (h1 : slt t n i j) (h2 : slt t n j i) : False := by
  have hc := lc_comm t n i j
  obtain ⟨a, b⟩ := h1
  obtain ⟨a2, b2⟩ := h2
  rw [← hc] at b2
  rcases b with b | ⟨b, b3⟩ <;> rcases b2 with b2 | ⟨b2, b4⟩ <;> omega
theorem slt_sh {t : Nat → Nat} {n i j L : Nat} (h : L ≤ lc t n i j) : slt t n (i + L) (j + L) ↔ slt t n i j := by
  unfold slt
  rw [lc_sh h, show i + L + (lc t n i j - L) = i + lc t n i j by omega, show j + L + (lc t n i j - L) = j + lc t n i j by omega]
  constructor
  · intro q
    exact ⟨fun z => q.1 (by rw [z]), q.2⟩
  · intro q
    exact ⟨fun z => q.1 (by omega), q.2⟩
theorem slt_mono {t : Nat → Nat} {n x y z : Nat} (h1 : slt t n x y) (h2 : slt t n y z) : lc t n x z ≤ lc t n y z ∧ lc t n x z ≤ lc t n x y := by
  constructor
  · rcases Nat.lt_or_ge (lc t n y z) (lc t n x z) with q | q
    · exfalso
      have a := lc_all (t := t) (n := n) _ x z q
      have b := h2.2
      have c1 : lc t n y z ≤ lc t n x y := lc_ge fun d hd => by
        have r1 := lc_all (t := t) (n := n) d x z (by omega)
        have r2 := lc_all (t := t) (n := n) d y z hd
        exact ⟨r1.1, r2.1, r1.2.2.trans r2.2.2.symm⟩
      have c2 : lc t n x y = lc t n y z := by
        rcases Nat.lt_or_ge (lc t n y z) (lc t n x y) with w | w
        · exfalso
          have r := lc_all (t := t) (n := n) _ x y w
          rcases b with b | b <;> omega
        · omega
      have d := h1.2
      rw [c2] at d
      rcases b with b | b <;> rcases d with d | d <;> omega
    · exact q
  · rcases Nat.lt_or_ge (lc t n x y) (lc t n x z) with q | q
    · exfalso
      have a := lc_all (t := t) (n := n) _ x z q
      have b := h1.2
      have c1 : lc t n x y ≤ lc t n y z := lc_ge fun d hd => by
        have r1 := lc_all (t := t) (n := n) d x z (by omega)
        have r2 := lc_all (t := t) (n := n) d x y hd
        exact ⟨r2.2.1, r1.2.1, r2.2.2.symm.trans r1.2.2⟩
      have c2 : lc t n y z = lc t n x y := by
        rcases Nat.lt_or_ge (lc t n x y) (lc t n y z) with w | w
        · exfalso
          have r := lc_all (t := t) (n := n) _ y z w
          rcases b with b | b <;> omega
        · omega
      have d := h2.2
      rw [c2] at d
      rcases b with b | b <;> rcases d with d | d <;> omega
    · exact q
-- counts
noncomputable def cnt (P : Nat → Prop) : Nat → Nat
  | 0 => 0
  | k + 1 => cnt P k + @ite Nat (P k) (Classical.propDecidable (P k)) 1 0
theorem cnt_0 (P : Nat → Prop) : cnt P 0 = 0 := rfl
theorem cnt_t {P : Nat → Prop} {k : Nat} (h : P k) : cnt P (k + 1) = cnt P k + 1 := by
  show cnt P k + @ite Nat (P k) (Classical.propDecidable (P k)) 1 0 = _
  rw [if_pos h]
theorem cnt_f {P : Nat → Prop} {k : Nat} (h : ¬ P k) : cnt P (k + 1) = cnt P k := by
  show cnt P k + @ite Nat (P k) (Classical.propDecidable (P k)) 1 0 = _
  rw [if_neg h, Nat.add_zero]
theorem cnt_s (P : Nat → Prop) (k : Nat) : cnt P k ≤ cnt P (k + 1) ∧ cnt P (k + 1) ≤ cnt P k + 1 := by
  by_cases h : P k
  · rw [cnt_t h]; omega
  · rw [cnt_f h]; omega
theorem cnt_le (P : Nat → Prop) (n : Nat) : cnt P n ≤ n := by
  induction n with
  | zero => exact Nat.le_refl 0
  | succ n ih => have := cnt_s P n; omega
theorem cnt_mono (P : Nat → Prop) {a b : Nat} (h : a ≤ b) : cnt P a ≤ cnt P b := by
  induction h with
  | refl => exact Nat.le_refl _
  | step h ih => exact Nat.le_trans ih (cnt_s P _).1
theorem cnt_lt {P : Nat → Prop} {a b : Nat} (h : a < b) (hp : P a) : cnt P a < cnt P b := by
  have h1 := cnt_t hp
  have h2 := cnt_mono P (show a + 1 ≤ b from h)
  omega
theorem cnt_congr {P R : Nat → Prop} {n : Nat} (h : ∀ i, i < n → (P i ↔ R i)) : cnt P n = cnt R n := by
  induction n with
  | zero => rfl
  | succ n ih =>
    have h1 := ih (fun i hi => h i (by omega))
    by_cases q : P n
    · rw [cnt_t q, cnt_t ((h n (by omega)).mp q), h1]
    · rw [cnt_f q, cnt_f (fun z => q ((h n (by omega)).mpr z)), h1]
theorem cnt_all {P : Nat → Prop} {n : Nat} (h : ∀ i, i < n → P i) : cnt P n = n := by
  induction n with
  | zero => rfl
  | succ n ih => rw [cnt_t (h n (by omega)), ih (fun i hi => h i (by omega))]
theorem cnt_none {P : Nat → Prop} {a b : Nat} (h : a ≤ b) (hn : ∀ i, a ≤ i → i < b → ¬ P i) : cnt P b = cnt P a := by
  induction h with
  | refl => rfl
  | step h ih =>
    rw [cnt_f (hn _ h (by omega))]
    exact ih (fun i h1 h2 => hn i h1 (by omega))
theorem cnt_or {P R U : Nat → Prop} {n : Nat} (h : ∀ i, i < n → (U i ↔ P i ∨ R i)) (hd : ∀ i, i < n → P i → ¬ R i) : cnt P n + cnt R n = cnt U n := by
  induction n with
  | zero => rfl
  | succ n ih =>
    have h1 := ih (fun i hi => h i (by omega)) (fun i hi => hd i (by omega))
    have h2 := h n (by omega)
    have h3 := hd n (by omega)
    by_cases q : P n
    · rw [cnt_t q, cnt_f (h3 q), cnt_t (h2.mpr (Or.inl q))]; omega
    · by_cases r : R n
      · rw [cnt_f q, cnt_t r, cnt_t (h2.mpr (Or.inr r))]; omega
      · rw [cnt_f q, cnt_f r, cnt_f (fun z => (h2.mp z).elim q r)]; omega
theorem cnt_from (h n : Nat) (hn : h ≤ n) : cnt (fun i => h ≤ i) n = n - h := by
  induction n with
  | zero => show 0 = 0 - h; omega
  | succ n ih =>
    rcases Nat.lt_or_ge n h with q | q
    · have e : h = n + 1 := by omega
      have : cnt (fun i => h ≤ i) (n + 1) = cnt (fun i => h ≤ i) 0 := cnt_none (Nat.zero_le _) (fun i _ hi => by show ¬ h ≤ i; omega)
      rw [this, cnt_0]; omega
    · rw [cnt_t (P := fun i => h ≤ i) q, ih q]; omega
theorem cnt_itv {lo hi n : Nat} (h1 : lo ≤ hi) (h2 : hi < n) : cnt (fun q => lo ≤ q ∧ q ≤ hi) n = hi - lo + 1 := by
  have e1 : cnt (fun q => lo ≤ q ∧ q ≤ hi) n = cnt (fun q => lo ≤ q ∧ q ≤ hi) (hi + 1) := cnt_none h2 (fun i a _ z => by omega)
  have e2 : cnt (fun q => lo ≤ q ∧ q ≤ hi) (hi + 1) = cnt (fun i => lo ≤ i) (hi + 1) := cnt_congr (fun i a => ⟨fun z => z.1, fun z => ⟨z, by omega⟩⟩)
  rw [e1, e2, cnt_from lo (hi + 1) (by omega)]; omega
theorem cnt_below {m n : Nat} (h : m ≤ n) : cnt (fun q => q < m) n = m := by
  have e1 : cnt (fun q => q < m) n = cnt (fun q => q < m) m := cnt_none h (fun i a _ z => by omega)
  rw [e1, cnt_all (fun i a => a)]
-- sums
def smm (g : Nat → Nat) : Nat → Nat
  | 0 => 0
  | k + 1 => smm g k + g k
theorem smm_congr {f g : Nat → Nat} {n : Nat} (h : ∀ i, i < n → f i = g i) : smm f n = smm g n := by
  induction n with
  | zero => rfl
  | succ n ih =>
    show smm f n + f n = smm g n + g n
    rw [ih (fun i hi => h i (by omega)), h n (by omega)]
theorem smm_add (f g : Nat → Nat) (n : Nat) : smm (fun i => f i + g i) n = smm f n + smm g n := by
  induction n with
  | zero => rfl
  | succ n ih =>
    show smm (fun i => f i + g i) n + (f n + g n) = smm f n + f n + (smm g n + g n)
    omega
theorem smm_le {f : Nat → Nat} {n B : Nat} (h : ∀ i, i < n → f i ≤ B) : smm f n ≤ n * B := by
  induction n with
  | zero => exact Nat.zero_le _
  | succ n ih =>
    have h1 := ih (fun i hi => h i (by omega))
    have h2 := h n (by omega)
    show smm f n + f n ≤ (n + 1) * B
    rw [Nat.succ_mul]; omega
-- permutations of the first n numbers
def Inj (n : Nat) (f : Nat → Nat) : Prop := (∀ i, i < n → f i < n) ∧ ∀ i j, i < n → j < n → f i = f j → i = j
theorem Inj.sur : ∀ (n : Nat) (f : Nat → Nat), Inj n f → ∀ y, y < n → ∃ i, i < n ∧ f i = y := by
  intro n
  induction n with
  | zero => intro f _ y hy; omega
  | succ n ih =>
    intro f h y hy
    have hinj := h.2
    have hn := h.1 n (by omega)
    have h2 : Inj n (fun k => if f k = n then f n else f k) := by
      refine ⟨fun k hk => ?_, fun i j hi hj hij => ?_⟩
      · have hk1 := h.1 k (by omega)
        show (if f k = n then f n else f k) < n
        split
        · rename_i q
          have : f n ≠ n := fun z => by
            have := hinj k n (by omega) (by omega) (q.trans z.symm)
            omega
          omega
        · omega
      · have hij : (if f i = n then f n else f i) = (if f j = n then f n else f j) := hij
        by_cases q1 : f i = n
        · by_cases q2 : f j = n
          · exact hinj i j (by omega) (by omega) (q1.trans q2.symm)
          · rw [if_pos q1, if_neg q2] at hij
            have := hinj n j (by omega) (by omega) hij
            omega
        · by_cases q2 : f j = n
          · rw [if_neg q1, if_pos q2] at hij
            have := hinj i n (by omega) (by omega) hij
            omega
          · rw [if_neg q1, if_neg q2] at hij
            exact hinj i j (by omega) (by omega) hij
    by_cases e1 : y = f n
    · exact ⟨n, by omega, e1.symm⟩
    · by_cases e2 : y = n
      · obtain ⟨i, hi, hf⟩ := ih _ h2 (f n) (by omega)
        have hf : (if f i = n then f n else f i) = f n := hf
        by_cases q : f i = n
        · exact ⟨i, by omega, by omega⟩
        · rw [if_neg q] at hf
          have := hinj i n (by omega) (by omega) hf
          omega
      · obtain ⟨i, hi, hf⟩ := ih _ h2 y (by omega)
        have hf : (if f i = n then f n else f i) = y := hf
        by_cases q : f i = n
        · rw [if_pos q] at hf
          omega
        · rw [if_neg q] at hf
          exact ⟨i, by omega, hf⟩
def lst (f : Nat → Nat) : Nat → List Nat
  | 0 => []
  | k + 1 => f k :: lst f k
theorem mem_lst {f : Nat → Nat} {n y : Nat} : y ∈ lst f n ↔ ∃ i, i < n ∧ f i = y := by
  induction n with
  | zero => exact ⟨fun h => absurd h List.not_mem_nil, fun h => by obtain ⟨i, h, -⟩ := h; omega⟩
  | succ n ih =>
    show y ∈ f n :: lst f n ↔ _
    rw [List.mem_cons, ih]
    constructor
    · rintro (h | ⟨i, hi, h⟩)
      · exact ⟨n, by omega, h.symm⟩
      · exact ⟨i, by omega, h⟩
    · rintro ⟨i, hi, h⟩
      by_cases q : i = n
      · exact Or.inl (by rw [← q]; exact h.symm)
      · exact Or.inr ⟨i, by omega, h⟩
theorem nodup_lst {f : Nat → Nat} {n : Nat} (h : ∀ i j, i < n → j < n → f i = f j → i = j) : (lst f n).Nodup := by
  induction n with
  | zero => exact List.nodup_nil
  | succ n ih =>
    show (f n :: lst f n).Nodup
    rw [List.nodup_cons]
    refine ⟨fun q => ?_, ih (fun i j hi hj => h i j (by omega) (by omega))⟩
    obtain ⟨i, hi, hf⟩ := mem_lst.mp q
    have := h i n (by omega) (by omega) hf
    omega
theorem Inj.perm {n : Nat} {f : Nat → Nat} (h : Inj n f) : (lst f n).Perm (lst (fun i => i) n) := by
  rw [List.perm_ext_iff_of_nodup (nodup_lst h.2) (nodup_lst (fun i j _ _ e => e))]
  intro y
  rw [mem_lst, mem_lst]
  constructor
  · rintro ⟨i, hi, e⟩
    exact ⟨y, by rw [← e]; exact h.1 i hi, rfl⟩
  · rintro ⟨i, hi, e⟩
    exact h.sur n f y (by omega)
def sml (g : Nat → Nat) : List Nat → Nat
  | [] => 0
  | x :: l => sml g l + g x
theorem sml_perm {g : Nat → Nat} {l1 l2 : List Nat} (h : l1.Perm l2) : sml g l1 = sml g l2 := by
  induction h with
  | nil => rfl
  | cons x _ ih => simp only [sml, ih]
  | swap x y l => simp only [sml]; omega
  | trans _ _ i1 i2 => exact i1.trans i2
theorem sml_lst (g f : Nat → Nat) (n : Nat) : sml g (lst f n) = smm (fun k => g (f k)) n := by
  induction n with
  | zero => rfl
  | succ n ih =>
    show sml g (lst f n) + g (f n) = smm (fun k => g (f k)) n + g (f n)
    rw [ih]
theorem smm_perm {n : Nat} {f : Nat → Nat} (h : Inj n f) (g : Nat → Nat) : smm (fun k => g (f k)) n = smm g n := by
  rw [← sml_lst g f n, sml_perm h.perm, sml_lst]
theorem cnt_smm (P : Nat → Prop) (n : Nat) : cnt P n = smm (fun k => @ite Nat (P k) (Classical.propDecidable (P k)) 1 0) n := by
  induction n with
  | zero => rfl
  | succ n ih =>
    show cnt P n + @ite Nat (P n) (Classical.propDecidable (P n)) 1 0 = _ + _
    rw [ih]
theorem cnt_perm {n : Nat} {f : Nat → Nat} (h : Inj n f) (P : Nat → Prop) : cnt (fun k => P (f k)) n = cnt P n := by
  rw [cnt_smm, cnt_smm]
  exact smm_perm h (fun k => @ite Nat (P k) (Classical.propDecidable (P k)) 1 0)
-- letters in common with those of a list; the sum of them; all independent of the order
def mxl (t : Nat → Nat) (n x : Nat) : List Nat → Nat
  | [] => 0
  | y :: l => max (mxl t n x l) (lc t n x y)
def fsl (t : Nat → Nat) (n : Nat) : List Nat → Nat
  | [] => 0
  | x :: l => fsl t n l + mxl t n x l
def mpl (t : Nat → Nat) (n : Nat) : List Nat → Nat
  | [] => 0
  | x :: l => max (mpl t n l) (mxl t n x l)
theorem mxl_perm {t : Nat → Nat} {n x : Nat} {l1 l2 : List Nat} (h : l1.Perm l2) : mxl t n x l1 = mxl t n x l2 := by
  induction h with
  | nil => rfl
  | cons x _ ih => simp only [mxl, ih]
  | swap x y l => simp only [mxl]; omega
  | trans _ _ i1 i2 => exact i1.trans i2
theorem mxl_tri (t : Nat → Nat) (n x y : Nat) (l : List Nat) : min (mxl t n x l) (lc t n x y) ≤ mxl t n y l := by
  induction l with
  | nil => simp [mxl]
  | cons z l ih =>
    have h1 := lc_tri t n y x z
    have h2 := lc_comm t n x y
    simp only [mxl]
    omega
theorem fsl_perm {t : Nat → Nat} {n : Nat} {l1 l2 : List Nat} (h : l1.Perm l2) : fsl t n l1 = fsl t n l2 := by
  induction h with
  | nil => rfl
  | cons x hp ih => simp only [fsl, ih, mxl_perm hp]
  | swap x y l =>
    have h1 := mxl_tri t n x y l
    have h2 := mxl_tri t n y x l
    have h3 := lc_comm t n x y
    simp only [fsl, mxl]
    omega
  | trans _ _ i1 i2 => exact i1.trans i2
theorem mpl_perm {t : Nat → Nat} {n : Nat} {l1 l2 : List Nat} (h : l1.Perm l2) : mpl t n l1 = mpl t n l2 := by
  induction h with
  | nil => rfl
  | cons x hp ih => simp only [mpl, ih, mxl_perm hp]
  | swap x y l =>
    have h3 := lc_comm t n x y
    simp only [mpl, mxl]
    omega
  | trans _ _ i1 i2 => exact i1.trans i2
end
section
/-! plain laws 2: what the model's questions answer; the same out of the ends in order (SA) -/
def mr (t : Nat → Nat) (n i : Nat) : Nat → Nat
  | 0 => 0
  | k + 1 => max (mr t n i k) (lc t n k i)
def ml (t : Nat → Nat) (n : Nat) : Nat → Nat
  | 0 => 0
  | i + 1 => max (ml t n i) (mr t n i i)
def dif (t : Nat → Nat) (n : Nat) : Nat := smm (fun i => n - i - mr t n i i) n
noncomputable def tms (t : Nat → Nat) (n f m : Nat) : Nat := cnt (fun i => m ≤ lc t n i f) n
noncomputable def rnk (t : Nat → Nat) (n f : Nat) : Nat := cnt (fun i => slt t n i f) n
theorem mr_le {t : Nat → Nat} {n i : Nat} (hi : i ≤ n) (k : Nat) : mr t n i k ≤ n - i := by
  induction k with
  | zero => exact Nat.zero_le _
  | succ k ih =>
    have := lc_n2 (t := t) (n := n) (i := k) (j := i) hi
    show max (mr t n i k) (lc t n k i) ≤ n - i
    omega
theorem mr_mxl (t : Nat → Nat) (n i k : Nat) : mr t n i k = mxl t n i (lst (fun j => j) k) := by
  induction k with
  | zero => rfl
  | succ k ih =>
    show max (mr t n i k) (lc t n k i) = max (mxl t n i (lst (fun j => j) k)) (lc t n i k)
    rw [ih, lc_comm]
theorem ml_mpl (t : Nat → Nat) (n k : Nat) : ml t n k = mpl t n (lst (fun j => j) k) := by
  induction k with
  | zero => rfl
  | succ k ih =>
    show max (ml t n k) (mr t n k k) = max (mpl t n (lst (fun j => j) k)) (mxl t n k (lst (fun j => j) k))
    rw [ih, mr_mxl]
theorem ml_le (t : Nat → Nat) (n k : Nat) (hk : k ≤ n) : ml t n k ≤ n := by
  induction k with
  | zero => exact Nat.zero_le _
  | succ k ih =>
    have h1 := ih (by omega)
    have h2 := mr_le (t := t) (n := n) (i := k) (by omega) k
    show max (ml t n k) (mr t n k k) ≤ n
    omega
theorem tms_cut {t : Nat → Nat} {n f m : Nat} (hm : 0 < m) (h : m ≤ n) : cnt (fun i => m ≤ lc t n i f) (n - m + 1) = tms t n f m := by
  refine (cnt_none (by omega) (fun i h1 h2 h3 => ?_)).symm
  have := lc_n (t := t) (n := n) (i := i) (j := f) (by omega)
  omega
/-- the ends in order: od; the place of each: pl; letters in common with the one before: co -/
def SA (t : Nat → Nat) (n : Nat) (od pl co : Nat → Nat) : Prop :=
  Inj n od ∧ (∀ k l, k < l → l < n → slt t n (od k) (od l)) ∧ (∀ k, k < n → pl (od k) = k) ∧ (∀ k, k < n → k ≠ 0 → co k = lc t n (od k) (od (k - 1))) ∧ (0 < n → co 0 = 0)
section
variable {t : Nat → Nat} {n : Nat} {od pl co : Nat → Nat}
theorem SA.at_ (h : SA t n od pl co) {f : Nat} (hf : f < n) : pl f < n ∧ od (pl f) = f := by
  obtain ⟨k, hk, e⟩ := h.1.sur n od f hf
  have := h.2.2.1 k hk
  rw [← e, this]
  exact ⟨hk, rfl⟩
theorem SA.near (h : SA t n od pl co) {j k l : Nat} (hjk : j < k) (hkl : k < l) (hl : l < n) : lc t n (od j) (od l) ≤ lc t n (od k) (od l) ∧ lc t n (od j) (od l) ≤ lc t n (od j) (od k) :=
  slt_mono (h.2.1 j k hjk (by omega)) (h.2.1 k l hkl hl)
theorem SA.mx (h : SA t n od pl co) {k : Nat} (hk : k < n) : mxl t n (od k) (lst od k) = co k := by
  rcases Nat.eq_zero_or_pos k with q | q
  · subst q
    exact (h.2.2.2.2 hk).symm
  · have e := h.2.2.2.1 k hk (by omega)
    obtain ⟨j, rfl⟩ : ∃ j, k = j + 1 := ⟨k - 1, by omega⟩
    rw [e]
    show max (mxl t n (od (j + 1)) (lst od j)) (lc t n (od (j + 1)) (od j)) = lc t n (od (j + 1)) (od j)
    suffices H : ∀ i, i ≤ j → mxl t n (od (j + 1)) (lst od i) ≤ lc t n (od (j + 1)) (od j) from Nat.max_eq_right (H j (Nat.le_refl j))
    intro i
    induction i with
    | zero => intro _; exact Nat.zero_le _
    | succ i ih =>
      intro hi
      have h1 := ih (by omega)
      have h2 := (h.near (j := i) (k := j) (l := j + 1) (by omega) (by omega) hk).1
      rw [lc_comm t n (od i), lc_comm t n (od j)] at h2
      show max (mxl t n (od (j + 1)) (lst od i)) (lc t n (od (j + 1)) (od i)) ≤ lc t n (od (j + 1)) (od j)
      omega
theorem SA.co_le (h : SA t n od pl co) {k : Nat} (hk : k < n) : od k + co k ≤ n := by
  rcases Nat.eq_zero_or_pos k with q | q
  · subst q
    have := h.1.1 0 hk
    have := h.2.2.2.2 hk
    omega
  · have e := h.2.2.2.1 k hk (by omega)
    have := h.1.1 k hk
    have := lc_n (t := t) (n := n) (i := od k) (j := od (k - 1)) (by omega)
    omega
theorem SA.fs (h : SA t n od pl co) : ∀ k, k ≤ n → fsl t n (lst od k) = smm co k := by
  intro k
  induction k with
  | zero => intro _; rfl
  | succ k ih =>
    intro hk
    show fsl t n (lst od k) + mxl t n (od k) (lst od k) = smm co k + co k
    rw [ih (by omega), h.mx (by omega)]
theorem fs_id (t : Nat → Nat) (n : Nat) : ∀ k, fsl t n (lst (fun i => i) k) = smm (fun i => mr t n i i) k := by
  intro k
  induction k with
  | zero => rfl
  | succ k ih =>
    show fsl t n (lst (fun i => i) k) + mxl t n k (lst (fun i => i) k) = smm (fun i => mr t n i i) k + mr t n k k
    rw [ih, mr_mxl]
theorem SA.dif (h : SA t n od pl co) : smm (fun k => n - od k - co k) n = dif t n := by
  have h1 : smm (fun k => n - od k - co k) n + smm co n = smm (fun k => n - od k) n := by
    rw [← smm_add]
    exact smm_congr (fun k hk => by have := h.co_le hk; show n - od k - co k + co k = n - od k; omega)
  have h3 : smm (fun i => n - i - mr t n i i) n + smm (fun i => mr t n i i) n = smm (fun i => n - i) n := by
    rw [← smm_add]
    exact smm_congr (fun i hi => by have := mr_le (t := t) (n := n) (i := i) (by omega) i; show n - i - mr t n i i + mr t n i i = n - i; omega)
  have h4 : smm (fun k => n - od k) n = smm (fun i => n - i) n := smm_perm h.1 (fun i => n - i)
  have h5 : smm co n = smm (fun i => mr t n i i) n := by
    rw [← h.fs n (Nat.le_refl n), ← fs_id, fsl_perm h.1.perm]
  show _ = smm (fun i => n - i - mr t n i i) n
  omega
def mc (co : Nat → Nat) : Nat → Nat
  | 0 => 0
  | k + 1 => max (mc co k) (co k)
theorem SA.lg (h : SA t n od pl co) : mc co n = ml t n n := by
  rw [ml_mpl, ← mpl_perm h.1.perm]
  suffices H : ∀ k, k ≤ n → mc co k = mpl t n (lst od k) from H n (Nat.le_refl n)
  intro k
  induction k with
  | zero => intro _; rfl
  | succ k ih =>
    intro hk
    show max (mc co k) (co k) = max (mpl t n (lst od k)) (mxl t n (od k) (lst od k))
    rw [ih (by omega), h.mx (by omega)]
theorem SA.rk (h : SA t n od pl co) {f : Nat} (hf : f < n) : pl f = rnk t n f := by
  obtain ⟨h1, h2⟩ := h.at_ hf
  show _ = cnt (fun i => slt t n i f) n
  rw [← cnt_perm h.1 (fun i => slt t n i f)]
  have e : cnt (fun k => slt t n (od k) f) n = cnt (fun k => k < pl f) n := cnt_congr (fun k hk => by
    constructor
    · intro z
      rcases Nat.lt_or_ge k (pl f) with q | q
      · exact q
      · exfalso
        rcases Nat.lt_or_ge (pl f) k with r | r
        · have := h.2.1 (pl f) k r hk
          rw [h2] at this
          exact slt_asym z this
        · have r2 : k = pl f := by omega
          rw [r2, h2] at z
          exact z.1 rfl
    · intro z
      have := h.2.1 k (pl f) z h1
      rw [h2] at this
      exact this)
  rw [e, cnt_below (by omega)]
theorem SA.chain (h : SA t n od pl co) {m : Nat} : ∀ d k, k + d < n → (∀ q, k < q → q ≤ k + d → m ≤ co q) → m ≤ n - od k → m ≤ lc t n (od k) (od (k + d)) := by
  intro d
  induction d with
  | zero =>
    intro k hk _ h2
    have := h.1.1 k (by omega)
    show m ≤ lc t n (od k) (od k)
    rw [lc_self (by omega)]
    exact h2
  | succ d ih =>
    intro k hk h1 h2
    have a := ih k (by omega) (fun q x y => h1 q x (by omega)) h2
    have b := h1 (k + (d + 1)) (by omega) (Nat.le_refl _)
    rw [h.2.2.2.1 (k + (d + 1)) hk (by omega), show k + (d + 1) - 1 = k + d by omega, lc_comm] at b
    have := lc_tri t n (od k) (od (k + d)) (od (k + (d + 1)))
    omega
theorem SA.wide (h : SA t n od pl co) {m k l q : Nat} (hl : l < n) (h1 : k < q) (h2 : q ≤ l) (h3 : m ≤ lc t n (od k) (od l)) : m ≤ co q := by
  rw [h.2.2.2.1 q (by omega) (by omega)]
  have a : lc t n (od k) (od l) ≤ lc t n (od k) (od q) := by
    rcases Nat.lt_or_ge q l with z | z
    · exact (h.near h1 z hl).2
    · rw [show q = l by omega]; exact Nat.le_refl _
  have b : lc t n (od k) (od q) ≤ lc t n (od (q - 1)) (od q) := by
    rcases Nat.lt_or_ge k (q - 1) with z | z
    · exact (h.near z (by omega) (by omega)).1
    · rw [show q - 1 = k by omega]; exact Nat.le_refl _
  rw [lc_comm t n (od q)]
  omega
theorem SA.tm (h : SA t n od pl co) {f m lo hi : Nat} (hf : f < n) (hm : m ≤ n - f) (h1 : lo ≤ pl f) (h2 : pl f ≤ hi) (h3 : hi < n) (h4 : ∀ q, lo < q → q ≤ pl f → m ≤ co q) (h5 : ∀ q, pl f < q → q ≤ hi → m ≤ co q) (h6 : lo = 0 ∨ co lo < m) (h7 : n ≤ hi + 1 ∨ co (hi + 1) < m) : hi - lo + 1 = tms t n f m := by
  obtain ⟨a1, a2⟩ := h.at_ hf
  show _ = cnt (fun i => m ≤ lc t n i f) n
  rw [← cnt_perm h.1 (fun i => m ≤ lc t n i f), ← cnt_itv (show lo ≤ hi by omega) h3]
  refine cnt_congr (fun q hq => ?_)
  show lo ≤ q ∧ q ≤ hi ↔ m ≤ lc t n (od q) f
  constructor
  · rintro ⟨b1, b2⟩
    rcases Nat.lt_or_ge (pl f) q with z | z
    · have := h.chain (m := m) (q - pl f) (pl f) (by omega) (fun x y w => h5 x y (by omega)) (by rw [a2]; exact hm)
      rw [show pl f + (q - pl f) = q by omega, a2, lc_comm] at this
      exact this
    · rcases Nat.lt_or_ge q (pl f) with z2 | z2
      · have hco := h4 (q + 1) (by omega) (by omega)
        rw [h.2.2.2.1 (q + 1) (by omega) (by omega)] at hco
        have hq2 := h.1.1 q hq
        have hx := lc_n2 (t := t) (n := n) (i := od (q + 1)) (j := od (q + 1 - 1)) (by show od q ≤ n; omega)
        rw [show q + 1 - 1 = q by omega] at hx hco
        have := h.chain (m := m) (pl f - q) q (by omega) (fun x y w => h4 x (by omega) (by omega)) (by omega)
        rw [show q + (pl f - q) = pl f by omega, a2] at this
        exact this
      · rw [show q = pl f by omega, a2, lc_self (by omega)]
        exact hm
  · intro b
    constructor
    · rcases Nat.lt_or_ge q lo with z | z
      · exfalso
        have := h.wide (m := m) (k := q) (l := pl f) (q := lo) a1 z h1 (by rw [a2]; exact b)
        rcases h6 with w | w <;> omega
      · exact z
    · rcases Nat.lt_or_ge hi q with z | z
      · exfalso
        have := h.wide (m := m) (k := pl f) (l := q) (q := hi + 1) hq (by omega) (by omega) (by rw [a2, lc_comm]; exact b)
        rcases h7 with w | w <;> omega
      · exact z
end
end
section
/-! plain laws 3: periods (borders), mirrors (centers and how far they reach) -/
def isPer (t : Nat → Nat) (n r : Nat) : Prop := (r = n ∨ (1 ≤ r ∧ r < n ∧ lc t n 0 r = n - r)) ∧ ∀ q, 1 ≤ q → q < r → q < n → lc t n 0 q ≠ n - q
theorem isPer_one {t : Nat → Nat} {n r r2 : Nat} (h1 : isPer t n r) (h2 : isPer t n r2) : r = r2 := by
  have a : ∀ {r r2 : Nat}, isPer t n r → isPer t n r2 → ¬ r < r2 := by
    intro r r2 h1 h2 h
    have b : r2 ≤ n := by rcases h2.1 with q | q <;> omega
    rcases h1.1 with q | q
    · omega
    · exact h2.2 r q.1 h q.2.1 q.2.2
  have := a h1 h2
  have := a h2 h1
  omega
def brd (t : Nat → Nat) (m b : Nat) : Prop := b ≤ m ∧ ∀ d, d < b → t d = t (m - b + d)
/-- bo holds the longest borders of the beginnings of 1 to k letters -/
def kmI (t : Nat → Nat) (k : Nat) (bo : Nat → Nat) : Prop := ∀ j, 1 ≤ j → j ≤ k → bo j < j ∧ brd t j (bo j) ∧ ∀ b, b < j → brd t j b → b ≤ bo j
def kmJ (t : Nat → Nat) (k b : Nat) : Prop := b < k ∧ brd t k b ∧ ∀ b2, b2 < k → brd t k b2 → t b2 = t k → b2 ≤ b
theorem brd_0 (t : Nat → Nat) (m : Nat) : brd t m 0 := ⟨Nat.zero_le _, fun d h => by omega⟩
theorem kmI_1 {t bo : Nat → Nat} (h : bo 1 = 0) : kmI t 1 bo := fun j h1 h2 => by
  have e : j = 1 := by omega
  rw [e, h]
  exact ⟨by omega, brd_0 t 1, fun b hb _ => by omega⟩
theorem kmJ_of {t bo : Nat → Nat} {k : Nat} (h : kmI t k bo) (hk : 1 ≤ k) : kmJ t k (bo k) :=
  ⟨(h k hk (Nat.le_refl k)).1, (h k hk (Nat.le_refl k)).2.1, fun b2 h1 h2 _ => (h k hk (Nat.le_refl k)).2.2 b2 h1 h2⟩
theorem kmJ_back {t bo : Nat → Nat} {k b : Nat} (hI : kmI t k bo) (h : kmJ t k b) (h0 : 0 < b) (hne : t b ≠ t k) : kmJ t k (bo b) ∧ bo b < b := by
  obtain ⟨a1, a2, a3⟩ := h
  obtain ⟨b1, b2, b3⟩ := hI b h0 (by omega)
  refine ⟨⟨by omega, ⟨by omega, fun d hd => ?_⟩, fun x hx hb he => ?_⟩, b1⟩
  · have e1 := b2.2 d hd
    have e2 := a2.2 (b - bo b + d) (by omega)
    rw [show k - b + (b - bo b + d) = k - bo b + d by omega] at e2
    exact e1.trans e2
  · have hle := a3 x hx hb he
    have hxb : x ≠ b := fun z => hne (by rw [← z]; exact he)
    refine b3 x (by omega) ⟨by omega, fun d hd => ?_⟩
    have e1 := hb.2 d hd
    have e2 := a2.2 (b - x + d) (by omega)
    rw [show k - b + (b - x + d) = k - x + d by omega] at e2
    exact e1.trans e2.symm
theorem brd_up {t : Nat → Nat} {k b : Nat} (h : brd t k b) (hb : b < k) (he : t b = t k) : brd t (k + 1) (b + 1) := by
  refine ⟨by omega, fun d hd => ?_⟩
  rw [show k + 1 - (b + 1) + d = k - b + d by omega]
  rcases Nat.lt_or_ge d b with q | q
  · exact h.2 d q
  · rw [show d = b by omega, show k - b + b = k by omega]
    exact he
theorem brd_dn {t : Nat → Nat} {k b : Nat} (h : brd t (k + 1) (b + 1)) : brd t k b ∧ t b = t k := by
  have h1 := h.1
  refine ⟨⟨by omega, fun d hd => ?_⟩, ?_⟩
  · have := h.2 d (by omega)
    rw [show k + 1 - (b + 1) + d = k - b + d by omega] at this
    exact this
  · have := h.2 b (by omega)
    rw [show k + 1 - (b + 1) + b = k by omega] at this
    exact this
theorem kmI_keep {t bo : Nat → Nat} {k v : Nat} (h : kmI t k bo) (hv : v < k + 1 ∧ brd t (k + 1) v ∧ ∀ b, b < k + 1 → brd t (k + 1) b → b ≤ v) : kmI t (k + 1) (va_up bo (k + 1) v) := by
  intro j h1 h2
  by_cases e : j = k + 1
  · rw [e, up_s]
    exact hv
  · rw [up_n e]
    exact h j h1 (by omega)
theorem kmI_yes {t bo : Nat → Nat} {k b : Nat} (hI : kmI t k bo) (h : kmJ t k b) (he : t b = t k) : kmI t (k + 1) (va_up bo (k + 1) (b + 1)) := by
  refine kmI_keep hI ⟨by have := h.1; omega, brd_up h.2.1 h.1 he, fun x hx hb => ?_⟩
  cases x with
  | zero => omega
  | succ x =>
    obtain ⟨c1, c2⟩ := brd_dn hb
    have := h.2.2 x (by omega) c1 c2
    omega
theorem kmI_no {t bo : Nat → Nat} {k : Nat} (hI : kmI t k bo) (h : kmJ t k 0) (he : t 0 ≠ t k) : kmI t (k + 1) (va_up bo (k + 1) 0) := by
  refine kmI_keep hI ⟨by omega, brd_0 t _, fun x hx hb => ?_⟩
  cases x with
  | zero => omega
  | succ x =>
    obtain ⟨c1, c2⟩ := brd_dn hb
    have := h.2.2 x (by omega) c1 c2
    have e : x = 0 := by omega
    rw [e] at c2
    exact absurd c2 he
theorem kmI_per {t bo : Nat → Nat} {n : Nat} (hn : 1 ≤ n) (h : kmI t n bo) : isPer t n (n - bo n) := by
  obtain ⟨a1, a2, a3⟩ := h n hn (Nat.le_refl n)
  constructor
  · rcases Nat.eq_zero_or_pos (bo n) with q | q
    · exact Or.inl (by omega)
    · refine Or.inr ⟨by omega, by omega, ?_⟩
      have b1 : bo n ≤ lc t n 0 (n - bo n) := lc_ge (fun d hd => ⟨by omega, by omega, by rw [Nat.zero_add]; exact a2.2 d hd⟩)
      have b2 := lc_n2 (t := t) (n := n) (i := 0) (j := n - bo n) (by omega)
      omega
  · intro q h1 h2 h3 he
    have hb : brd t n (n - q) := ⟨by omega, fun d hd => by
      have := (lc_all (t := t) (n := n) d 0 q (by omega)).2.2
      rw [Nat.zero_add] at this
      rw [show n - (n - q) + d = q + d by omega]
      exact this⟩
    have := a3 (n - q) (by omega) hb
    omega
-- mirrors
def ext (t : Nat → Nat) (n c r : Nat) : Prop := r < c ∧ c + r < 2 * n ∧ ((c + r) % 2 = 1 ∨ t ((c - r) / 2 - 1) = t ((c + r) / 2))
def radP (t : Nat → Nat) (n c r : Nat) : Prop := (∀ x, x < r → ext t n c x) ∧ ¬ ext t n c r
theorem rad_ex (t : Nat → Nat) (n c : Nat) : ∃ r, radP t n c r := by
  obtain ⟨k, h1, h2⟩ := pk_least (fun r => ¬ ext t n c r) ⟨c, fun h => Nat.lt_irrefl c h.1⟩
  exact ⟨k, fun x hx => Classical.not_not.mp (h2 x hx), h1⟩
noncomputable def rad (t : Nat → Nat) (n c : Nat) : Nat := Classical.choose (rad_ex t n c)
theorem rad_sp (t : Nat → Nat) (n c : Nat) : radP t n c (rad t n c) := Classical.choose_spec (rad_ex t n c)
theorem rad_eq {t : Nat → Nat} {n c r : Nat} (h : radP t n c r) : r = rad t n c := by
  have k := rad_sp t n c
  rcases Nat.lt_trichotomy r (rad t n c) with q | q | q
  · exact absurd (k.1 r q) h.2
  · exact q
  · exact absurd (h.1 _ q) k.2
theorem rad_ge {t : Nat → Nat} {n c r : Nat} (h : ∀ x, x < r → ext t n c x) : r ≤ rad t n c := by
  rcases Nat.lt_or_ge (rad t n c) r with q | q
  · exact absurd (h _ q) (rad_sp t n c).2
  · exact q
theorem rad_le (t : Nat → Nat) (n c : Nat) : rad t n c ≤ c ∧ (c ≤ 2 * n → c + rad t n c ≤ 2 * n) := by
  rcases Nat.eq_zero_or_pos (rad t n c) with q | q
  · rw [q]; omega
  · have := (rad_sp t n c).1 (rad t n c - 1) (by omega)
    obtain ⟨a, b, -⟩ := this
    omega
theorem rad_0 (t : Nat → Nat) (n : Nat) : rad t n 0 = 0 := by
  have := (rad_le t n 0).1
  omega
def mxs (g : Nat → Nat) : Nat → Nat
  | 0 => 0
  | k + 1 => max (mxs g k) (g k)
theorem mxs_le {g : Nat → Nat} {B : Nat} : ∀ k, (∀ c, c < k → g c ≤ B) → mxs g k ≤ B := by
  intro k
  induction k with
  | zero => intro _; exact Nat.zero_le _
  | succ k ih =>
    intro h
    have h1 := ih (fun c hc => h c (by omega))
    have h2 := h k (by omega)
    show max (mxs g k) (g k) ≤ B
    omega
theorem man {t : Nat → Nat} {n q c : Nat} (h1 : q < c) (h2 : c < q + rad t n q) (h3 : q ≤ 2 * n) : ∀ x, x < min (q + rad t n q - c) (rad t n (2 * q - c)) → ext t n c x := by
  intro x hx
  have hq := rad_sp t n q
  obtain ⟨r1, r2⟩ := rad_le t n q
  have r2 := r2 h3
  have hm := (rad_sp t n (2 * q - c)).1 x (by omega)
  obtain ⟨m1, m2, m3⟩ := hm
  refine ⟨by omega, by omega, ?_⟩
  rcases Nat.mod_two_eq_zero_or_one (c + x) with ev | od
  · refine Or.inr ?_
    have m4 : t ((2 * q - c - x) / 2 - 1) = t ((2 * q - c + x) / 2) := by
      rcases m3 with z | z
      · exfalso; omega
      · exact z
    have y1 := (hq.1 (c - q + x) (by omega)).2.2
    have y1 : t ((q - (c - q + x)) / 2 - 1) = t ((q + (c - q + x)) / 2) := by
      rcases y1 with z | z
      · exfalso; omega
      · exact z
    rw [show q - (c - q + x) = 2 * q - c - x by omega, show q + (c - q + x) = c + x by omega] at y1
    have key : t ((c - x) / 2 - 1) = t ((2 * q - c + x) / 2) := by
      rcases Nat.lt_or_ge x (c - q) with z | z
      · by_cases e : x + 1 = c - q
        · rw [show (c - x) / 2 - 1 = (2 * q - c + x) / 2 by omega]
        · have y2 := (hq.1 (c - q - x - 2) (by omega)).2.2
          have y2 : t ((q - (c - q - x - 2)) / 2 - 1) = t ((q + (c - q - x - 2)) / 2) := by
            rcases y2 with z | z
            · exfalso; omega
            · exact z
          rw [show (q - (c - q - x - 2)) / 2 - 1 = (2 * q - c + x) / 2 by omega, show (q + (c - q - x - 2)) / 2 = (c - x) / 2 - 1 by omega] at y2
          exact y2.symm
      · have y2 := (hq.1 (x - (c - q)) (by omega)).2.2
        have y2 : t ((q - (x - (c - q))) / 2 - 1) = t ((q + (x - (c - q))) / 2) := by
          rcases y2 with z | z
          · exfalso; omega
          · exact z
        rw [show q - (x - (c - q)) = c - x by omega, show q + (x - (c - q)) = 2 * q - c + x by omega] at y2
        exact y2
    rw [key, ← m4, y1]
  · exact Or.inl od
theorem ext_up {t : Nat → Nat} {n c r : Nat} (h : ∀ x, x < r → ext t n c x) (h1 : ext t n c r) : ∀ x, x < r + 1 → ext t n c x := fun x hx => by
  by_cases e : x = r
  · rw [e]; exact h1
  · exact h x (by omega)
/-- the model's walk outwards: (a - 1, b) are to be compared, of the center a + b -/
def miI (t : Nat → Nat) (n c a b : Nat) : Prop := a + b = c ∧ b ≤ n ∧ (a ≤ b ∨ (a = b + 1 ∧ b < n)) ∧ ∀ x, x < b - a → ext t n c x
theorem miI_step {t : Nat → Nat} {n c a b : Nat} (h : miI t n c (a + 1) b) (hb : b < n) (he : t a = t b) : miI t n c a (b + 1) := by
  obtain ⟨h1, h2, h3, h4⟩ := h
  refine ⟨by omega, by omega, by omega, fun x hx => ?_⟩
  rcases Nat.lt_or_ge x (b - (a + 1)) with q | q
  · exact h4 x q
  · rcases Nat.mod_two_eq_zero_or_one (c + x) with ev | od
    · refine ⟨by omega, by omega, Or.inr ?_⟩
      rw [show (c - x) / 2 - 1 = a by omega, show (c + x) / 2 = b by omega]
      exact he
    · exact ⟨by omega, by omega, Or.inl od⟩
theorem miI_end {t : Nat → Nat} {n c a b : Nat} (h : miI t n c a b) (hab : a ≤ b) (hx : a = 0 ∨ n ≤ b ∨ t (a - 1) ≠ t b) : b - a = rad t n c := by
  obtain ⟨h1, h2, h3, h4⟩ := h
  refine rad_eq ⟨h4, fun z => ?_⟩
  obtain ⟨z1, z2, z3⟩ := z
  rcases hx with q | q | q
  · omega
  · omega
  · rcases z3 with z | z
    · omega
    · rw [show (c - (b - a)) / 2 - 1 = a - 1 by omega, show (c + (b - a)) / 2 = b by omega] at z
      exact q z
end
section
/-! plain laws 4: groups by the first h letters (GI), by letters, doubled -/
def bhI (g : Nat → Nat) (n h i : Nat) : Int32 := if i + h < n then nI (g (i + h)) else -1
def bh (g : Nat → Nat) (n h i : Nat) : Nat := if i + h < n then g (i + h) + 1 else 0
theorem bhI_eq {g : Nat → Nat} {n h i j : Nat} (hg : ∀ k, k < n → g k < 2 ^ 31) : bhI g n h i = bhI g n h j ↔ bh g n h i = bh g n h j := by
  unfold bhI bh
  have hm : ∀ k, k < 2 ^ 31 → ¬ nI k = -1 := fun k hk z => by
    have h1 := nI_pos hk
    rw [z] at h1
    exact h1 (by decide)
  by_cases q1 : i + h < n
  · by_cases q2 : j + h < n
    · rw [if_pos q1, if_pos q2, if_pos q1, if_pos q2, nI_eq (hg _ q1) (hg _ q2)]
      omega
    · rw [if_pos q1, if_neg q2, if_pos q1, if_neg q2]
      exact ⟨fun z => absurd z (hm _ (hg _ q1)), fun z => by omega⟩
  · by_cases q2 : j + h < n
    · rw [if_neg q1, if_pos q2, if_neg q1, if_pos q2]
      exact ⟨fun z => absurd z.symm (hm _ (hg _ q2)), fun z => by omega⟩
    · rw [if_neg q1, if_neg q2, if_neg q1, if_neg q2]
      exact ⟨fun _ => rfl, fun _ => rfl⟩
/-- ends in groups by their first h letters: g the group of each, od their order by groups, gs how many groups -/
def GI (t : Nat → Nat) (n h : Nat) (g od : Nat → Nat) (gs : Nat) : Prop :=
  Inj n od ∧ (∀ i j, i < n → j < n → (g i = g j ↔ (i = j ∨ h ≤ lc t n i j))) ∧ (∀ i j, i < n → j < n → (g i < g j ↔ (i ≠ j ∧ lc t n i j < h ∧ slt t n i j))) ∧
  (0 < n → g (od 0) = 0 ∧ gs = g (od (n - 1)) + 1) ∧ (∀ k, k + 1 < n → g (od k) ≤ g (od (k + 1)) ∧ g (od (k + 1)) ≤ g (od k) + 1) ∧ (n = 0 → gs = 0)
section
variable {t : Nat → Nat} {n h gs : Nat} {g od : Nat → Nat}
theorem GI.mono (H : GI t n h g od gs) : ∀ d k, k + d < n → g (od k) ≤ g (od (k + d)) := by
  intro d
  induction d with
  | zero => intro k _; exact Nat.le_refl _
  | succ d ih =>
    intro k hk
    have h1 := ih k (by omega)
    have h2 := (H.2.2.2.2.1 (k + d) (by omega)).1
    exact Nat.le_trans h1 h2
theorem GI.mono' (H : GI t n h g od gs) {k l : Nat} (hkl : k ≤ l) (hl : l < n) : g (od k) ≤ g (od l) := by
  have := H.mono (l - k) k (by omega)
  rw [show k + (l - k) = l by omega] at this
  exact this
theorem GI.le (H : GI t n h g od gs) : ∀ k, k < n → g (od k) ≤ k := by
  intro k
  induction k with
  | zero => intro hk; have := (H.2.2.2.1 hk).1; omega
  | succ k ih =>
    intro hk
    have h1 := ih (by omega)
    have h2 := (H.2.2.2.2.1 k hk).2
    omega
theorem GI.gs_le (H : GI t n h g od gs) : gs ≤ n := by
  rcases Nat.eq_zero_or_pos n with q | q
  · have := H.2.2.2.2.2 q
    omega
  · have := (H.2.2.2.1 q).2
    have := H.le (n - 1) (by omega)
    omega
theorem GI.lt (H : GI t n h g od gs) {i : Nat} (hi : i < n) : g i < gs := by
  obtain ⟨k, hk, e⟩ := H.1.sur n od i hi
  have h1 := H.mono' (k := k) (l := n - 1) (by omega) (by omega)
  have h2 := (H.2.2.2.1 (by omega)).2
  rw [e] at h1
  omega
theorem GI.done (H : GI t n h g od gs) (hgs : n ≤ gs) : ∀ k l, k < l → l < n → slt t n (od k) (od l) := by
  have key : ∀ d, d < n → g (od (n - 1 - d)) + d ≥ n - 1 := by
    intro d
    induction d with
    | zero => intro hd; have := (H.2.2.2.1 hd).2; show g (od (n - 1)) + 0 ≥ n - 1; omega
    | succ d ih =>
      intro hd
      have h1 := ih (by omega)
      have h2 := (H.2.2.2.2.1 (n - 1 - (d + 1)) (by omega)).2
      rw [show n - 1 - (d + 1) + 1 = n - 1 - d by omega] at h2
      omega
  have gk : ∀ k, k < n → g (od k) = k := by
    intro k hk
    have h1 := key (n - 1 - k) (by omega)
    rw [show n - 1 - (n - 1 - k) = k by omega] at h1
    have h2 := H.le k hk
    omega
  intro k l hkl hl
  exact ((H.2.2.1 (od k) (od l) (H.1.1 k (by omega)) (H.1.1 l hl)).mp (by rw [gk k (by omega), gk l hl]; exact hkl)).2.2
theorem GI.more (H : GI t n h g od gs) (hgs : gs < n) : h < n := by
  have ex : ∃ k, k + 1 < n ∧ g (od k) = g (od (k + 1)) := by
    rcases Classical.em (∃ k, k + 1 < n ∧ g (od k) = g (od (k + 1))) with q | q
    · exact q
    · exfalso
      have key : ∀ k, k < n → k ≤ g (od k) := by
        intro k
        induction k with
        | zero => intro _; exact Nat.zero_le _
        | succ k ih =>
          intro hk
          have h1 := ih (by omega)
          have h2 := (H.2.2.2.2.1 k hk).1
          have h3 : g (od k) ≠ g (od (k + 1)) := fun z => q ⟨k, hk, z⟩
          omega
      have h1 := key (n - 1) (by omega)
      have h2 := (H.2.2.2.1 (by omega)).2
      omega
  obtain ⟨k, hk, e⟩ := ex
  have a1 := H.1.1 k (by omega)
  have a2 := H.1.1 (k + 1) hk
  have b1 := lc_n (t := t) (n := n) (i := od k) (j := od (k + 1)) (by omega)
  have b2 := lc_n2 (t := t) (n := n) (i := od k) (j := od (k + 1)) (by omega)
  rcases (H.2.1 _ _ a1 a2).mp e with q | q
  · have := H.1.2 k (k + 1) (by omega) hk q
    omega
  · have hne : od k ≠ od (k + 1) := fun z => by
      have := H.1.2 k (k + 1) (by omega) hk z
      omega
    omega
theorem GI_congr {g2 : Nat → Nat} (H : GI t n h g od gs) (e : ∀ i, i < n → g2 i = g i) : GI t n h g2 od gs := by
  obtain ⟨h1, h2, h3, h4, h5, h6⟩ := H
  refine ⟨h1, fun i j hi hj => ?_, fun i j hi hj => ?_, fun hn => ?_, fun k hk => ?_, h6⟩
  · rw [e i hi, e j hj]; exact h2 i j hi hj
  · rw [e i hi, e j hj]; exact h3 i j hi hj
  · rw [e _ (h1.1 0 hn), e _ (h1.1 (n - 1) (by omega))]; exact h4 hn
  · rw [e _ (h1.1 k (by omega)), e _ (h1.1 (k + 1) hk)]; exact h5 k hk
theorem GI_of {κ : Nat → Nat} (hi : Inj n od) (hs : ∀ k, k + 1 < n → κ (od k) ≤ κ (od (k + 1))) (h0 : 0 < n → g (od 0) = 0) (hst : ∀ k, k + 1 < n → g (od (k + 1)) = g (od k) + (if κ (od k) = κ (od (k + 1)) then 0 else 1)) (hgs : 0 < n → gs = g (od (n - 1)) + 1) (hgs0 : n = 0 → gs = 0)
    (heq : ∀ i j, i < n → j < n → (κ i = κ j ↔ (i = j ∨ h ≤ lc t n i j))) (hlt : ∀ i j, i < n → j < n → (κ i < κ j ↔ (i ≠ j ∧ lc t n i j < h ∧ slt t n i j))) : GI t n h g od gs := by
  have C : ∀ d k, k + d < n → κ (od k) ≤ κ (od (k + d)) ∧ g (od k) ≤ g (od (k + d)) ∧ (g (od k) = g (od (k + d)) ↔ κ (od k) = κ (od (k + d))) := by
    intro d
    induction d with
    | zero => intro k _; exact ⟨Nat.le_refl _, Nat.le_refl _, fun _ => rfl, fun _ => rfl⟩
    | succ d ih =>
      intro k hk
      obtain ⟨a1, a2, a3⟩ := ih k (by omega)
      have b1 := hs (k + d) (by omega)
      have b2 := hst (k + d) (by omega)
      show κ (od k) ≤ κ (od (k + d + 1)) ∧ g (od k) ≤ g (od (k + d + 1)) ∧ (g (od k) = g (od (k + d + 1)) ↔ κ (od k) = κ (od (k + d + 1)))
      split at b2 <;> omega
  have E : ∀ i j, i < n → j < n → (g i = g j ↔ κ i = κ j) ∧ (g i < g j ↔ κ i < κ j) := by
    intro i j hi2 hj
    obtain ⟨k, hk, rfl⟩ := hi.sur n od i hi2
    obtain ⟨l, hl, rfl⟩ := hi.sur n od j hj
    rcases Nat.le_total k l with q | q
    · have c1 := C (l - k) k (by omega)
      rw [show k + (l - k) = l by omega] at c1
      omega
    · have c1 := C (k - l) l (by omega)
      rw [show l + (k - l) = k by omega] at c1
      omega
  refine ⟨hi, fun i j h1 h2 => (E i j h1 h2).1.trans (heq i j h1 h2), fun i j h1 h2 => (E i j h1 h2).2.trans (hlt i j h1 h2), fun hn => ⟨h0 hn, hgs hn⟩, fun k hk => ?_, hgs0⟩
  have b2 := hst k hk
  split at b2 <;> omega
theorem lexk {m a b a2 b2 : Nat} (h1 : b < m) (h2 : b2 < m) : (a * m + b = a2 * m + b2 ↔ a = a2 ∧ b = b2) ∧ (a * m + b < a2 * m + b2 ↔ a < a2 ∨ (a = a2 ∧ b < b2)) := by
  rcases Nat.lt_trichotomy a a2 with q | q | q
  · have := Nat.mul_le_mul_right m (show a + 1 ≤ a2 from q)
    rw [Nat.succ_mul] at this
    omega
  · subst q
    omega
  · have := Nat.mul_le_mul_right m (show a2 + 1 ≤ a from q)
    rw [Nat.succ_mul] at this
    omega
def kap (g : Nat → Nat) (n h i : Nat) : Nat := g i * (n + 2) + bh g n h i
theorem GI.bh_lt (H : GI t n h g od gs) (i : Nat) : bh g n h i < n + 2 := by
  unfold bh
  split
  · rename_i q
    have h1 := H.lt q
    have h2 := H.gs_le
    omega
  · omega
theorem GI.kap_eq (H : GI t n h g od gs) (i j : Nat) : kap g n h i = kap g n h j ↔ g i = g j ∧ bh g n h i = bh g n h j := (lexk (H.bh_lt i) (H.bh_lt j)).1
theorem GI.kap_lt (H : GI t n h g od gs) (i j : Nat) : kap g n h i < kap g n h j ↔ g i < g j ∨ (g i = g j ∧ bh g n h i < bh g n h j) := (lexk (H.bh_lt i) (H.bh_lt j)).2
theorem bh_in {g : Nat → Nat} {n h i : Nat} (q : i + h < n) : bh g n h i = g (i + h) + 1 := if_pos q
theorem bh_out {g : Nat → Nat} {n h i : Nat} (q : n ≤ i + h) : bh g n h i = 0 := if_neg (by omega)
theorem GI.two_eq (H : GI t n h g od gs) (hh : 1 ≤ h) : ∀ i j, i < n → j < n → (kap g n h i = kap g n h j ↔ (i = j ∨ 2 * h ≤ lc t n i j)) := by
  intro i j hi hj
  rw [H.kap_eq]
  constructor
  · rintro ⟨a, b⟩
    rcases (H.2.1 i j hi hj).mp a with q | q
    · exact Or.inl q
    · have n1 := lc_n (t := t) (n := n) (i := i) (j := j) (by omega)
      have n2 := lc_n2 (t := t) (n := n) (i := i) (j := j) (by omega)
      have sh := lc_sh q
      rcases Nat.lt_or_ge (i + h) n with q1 | q1
      · rcases Nat.lt_or_ge (j + h) n with q2 | q2
        · rw [bh_in q1, bh_in q2] at b
          rcases (H.2.1 (i + h) (j + h) q1 q2).mp (by omega) with z | z
          · exact Or.inl (by omega)
          · exact Or.inr (by omega)
        · rw [bh_in q1, bh_out q2] at b
          omega
      · rcases Nat.lt_or_ge (j + h) n with q2 | q2
        · rw [bh_out q1, bh_in q2] at b
          omega
        · exact Or.inl (by omega)
  · rintro (q | q)
    · subst q
      exact ⟨rfl, rfl⟩
    · have sh := lc_sh (show h ≤ lc t n i j by omega)
      have al := lc_all (t := t) (n := n) h i j (by omega)
      refine ⟨(H.2.1 i j hi hj).mpr (Or.inr (by omega)), ?_⟩
      rw [bh_in al.1, bh_in al.2.1, (H.2.1 (i + h) (j + h) al.1 al.2.1).mpr (Or.inr (by omega))]
theorem GI.two_lt (H : GI t n h g od gs) (hh : 1 ≤ h) : ∀ i j, i < n → j < n → (kap g n h i < kap g n h j ↔ (i ≠ j ∧ lc t n i j < 2 * h ∧ slt t n i j)) := by
  intro i j hi hj
  rw [H.kap_lt]
  constructor
  · rintro (q | ⟨a, b⟩)
    · have := (H.2.2.1 i j hi hj).mp q
      exact ⟨this.1, by omega, this.2.2⟩
    · have hne : i ≠ j := fun z => by rw [z] at b; omega
      rcases (H.2.1 i j hi hj).mp a with q | q
      · exact absurd q hne
      · have n1 := lc_n (t := t) (n := n) (i := i) (j := j) (by omega)
        have n2 := lc_n2 (t := t) (n := n) (i := i) (j := j) (by omega)
        have sh := lc_sh q
        rcases Nat.lt_or_ge (j + h) n with q2 | q2
        · rcases Nat.lt_or_ge (i + h) n with q1 | q1
          · rw [bh_in q1, bh_in q2] at b
            have := (H.2.2.1 (i + h) (j + h) q1 q2).mp (by omega)
            exact ⟨hne, by omega, (slt_sh q).mp this.2.2⟩
          · exact ⟨hne, by omega, hne, Or.inl (by omega)⟩
        · rw [bh_out q2] at b
          omega
  · rintro ⟨a, b, c⟩
    rcases Nat.lt_or_ge (lc t n i j) h with q | q
    · exact Or.inl ((H.2.2.1 i j hi hj).mpr ⟨a, q, c⟩)
    · refine Or.inr ⟨(H.2.1 i j hi hj).mpr (Or.inr q), ?_⟩
      have n1 := lc_n (t := t) (n := n) (i := i) (j := j) (by omega)
      have n2 := lc_n2 (t := t) (n := n) (i := i) (j := j) (by omega)
      have sh := lc_sh q
      have q2 : j + h < n := by
        rcases Nat.lt_or_ge (j + h) n with z | z
        · exact z
        · rcases c.2 with w | w <;> omega
      rw [bh_in q2]
      rcases Nat.lt_or_ge (i + h) n with q1 | q1
      · rw [bh_in q1]
        have := (H.2.2.1 (i + h) (j + h) q1 q2).mpr ⟨by omega, by omega, (slt_sh q).mpr c⟩
        omega
      · rw [bh_out q1]
        omega
end
-- by letters
def blI (t : Nat → Nat) (n c k fr at_ : Nat) (od g : Nat → Nat) (gs : Nat) : Prop :=
  (fr = cnt (fun i => t i < c) n ∧ at_ = fr + cnt (fun i => t i = c) k) ∧ (∀ p, p < at_ → od p < n ∧ (t (od p) < c ∨ (t (od p) = c ∧ od p < k))) ∧ (∀ p q, p < at_ → q < at_ → od p = od q → p = q) ∧
  (∀ p, p + 1 < at_ → t (od p) ≤ t (od (p + 1)) ∧ g (od (p + 1)) = g (od p) + (if t (od p) = t (od (p + 1)) then 0 else 1)) ∧ (0 < at_ → g (od 0) = 0) ∧
  (0 < at_ → (t (od (at_ - 1)) = c → g (od (at_ - 1)) = gs) ∧ (t (od (at_ - 1)) ≠ c → gs = g (od (at_ - 1)) + 1)) ∧ (at_ = 0 → gs = 0) ∧ (fr < at_ → t (od (at_ - 1)) = c) ∧ (fr = at_ → 0 < at_ → t (od (at_ - 1)) < c)
section
variable {t : Nat → Nat} {n c k fr at_ gs : Nat} {od g : Nat → Nat}
theorem blI_0 (t : Nat → Nat) (n : Nat) (od g : Nat → Nat) : blI t n 0 0 0 0 od g 0 := by
  have e : cnt (fun i => t i < 0) n = 0 := cnt_none (Nat.zero_le n) (fun i _ _ z => Nat.not_lt_zero _ z)
  exact ⟨⟨e.symm, rfl⟩, fun p hp => by omega, fun p q hp => by omega, fun p hp => by omega, fun hp => by omega, fun hp => by omega, fun _ => rfl, fun hp => by omega, fun _ hp => by omega⟩
theorem blI_at (H : blI t n c k fr at_ od g gs) (hk : k < n) (hc : t k = c) : at_ < n := by
  have h1 := H.1
  have h2 : cnt (fun i => t i < c) n + cnt (fun i => t i = c) n = cnt (fun i => t i < c + 1) n := cnt_or (fun i _ => by show t i < c + 1 ↔ t i < c ∨ t i = c; omega) (fun i _ (z : t i < c) (w : t i = c) => by omega)
  have h3 := cnt_lt (P := fun i => t i = c) hk hc
  have h4 := cnt_le (fun i => t i < c + 1) n
  omega
theorem blI_no (H : blI t n c k fr at_ od g gs) (hc : t k ≠ c) : blI t n c (k + 1) fr at_ od g gs := by
  obtain ⟨h1, h2, h3, h4, h5, h6, h7, h8, h9⟩ := H
  refine ⟨⟨h1.1, by rw [cnt_f (P := fun i => t i = c) hc]; exact h1.2⟩, fun p hp => ?_, h3, h4, h5, h6, h7, h8, h9⟩
  have := h2 p hp
  exact ⟨this.1, by omega⟩
theorem blI_yes (H : blI t n c k fr at_ od g gs) (hk : k < n) (hc : t k = c) : blI t n c (k + 1) fr (at_ + 1) (va_up od at_ k) (va_up g k gs) gs := by
  obtain ⟨h1, h2, h3, h4, h5, h6, h7, h8, h9⟩ := H
  have hod : ∀ p, p < at_ → va_up od at_ k p = od p := fun p hp => up_n (by omega)
  have hne : ∀ p, p < at_ → od p ≠ k := fun p hp z => by
    have := h2 p hp
    rw [z] at this
    omega
  have hg : ∀ p, p < at_ → va_up g k gs (od p) = g (od p) := fun p hp => up_n (hne p hp)
  have hl : va_up od at_ k at_ = k := up_s
  have hgk : va_up g k gs k = gs := up_s
  refine ⟨⟨h1.1, by rw [cnt_t (P := fun i => t i = c) hc]; omega⟩, fun p hp => ?_, fun p q hp hq e => ?_, fun p hp => ?_, fun _ => ?_, fun _ => ?_, fun z => by omega, fun _ => ?_, fun z => by omega⟩
  · by_cases q : p = at_
    · rw [q, hl]; exact ⟨hk, Or.inr ⟨hc, by omega⟩⟩
    · rw [hod p (by omega)]
      have := h2 p (by omega)
      exact ⟨this.1, by omega⟩
  · by_cases e1 : p = at_
    · by_cases e2 : q = at_
      · omega
      · rw [e1, hl, hod q (by omega)] at e
        exact absurd e.symm (hne q (by omega))
    · by_cases e2 : q = at_
      · rw [e2, hl, hod p (by omega)] at e
        exact absurd e (hne p (by omega))
      · rw [hod p (by omega), hod q (by omega)] at e
        exact h3 p q (by omega) (by omega) e
  · by_cases e : p + 1 = at_
    · rw [e, hl, hgk, hod p (by omega), hg p (by omega), hc]
      have a1 := h2 p (by omega)
      have a2 := h6 (by omega)
      rw [show at_ - 1 = p by omega] at a2
      refine ⟨by omega, ?_⟩
      by_cases z : t (od p) = c
      · rw [if_pos z, a2.1 z, Nat.add_zero]
      · rw [if_neg z]; exact a2.2 z
    · rw [hod p (by omega), hod (p + 1) (by omega), hg p (by omega), hg (p + 1) (by omega)]
      exact h4 p (by omega)
  · rcases Nat.eq_zero_or_pos at_ with z | z
    · have : va_up od at_ k 0 = k := by rw [z]; exact up_s
      rw [this, hgk]
      exact h7 z
    · rw [hod 0 z, hg 0 z]
      exact h5 z
  · rw [show at_ + 1 - 1 = at_ by omega, hl, hgk]
    exact ⟨fun _ => rfl, fun z => absurd hc z⟩
  · rw [show at_ + 1 - 1 = at_ by omega, hl]; exact hc
theorem blI_next (H : blI t n c n fr at_ od g gs) : blI t n (c + 1) 0 at_ at_ od g (if fr < at_ then gs + 1 else gs) := by
  obtain ⟨h1, h2, h3, h4, h5, h6, h7, h8, h9⟩ := H
  have e : cnt (fun i => t i < c) n + cnt (fun i => t i = c) n = cnt (fun i => t i < c + 1) n := cnt_or (fun i _ => by show t i < c + 1 ↔ t i < c ∨ t i = c; omega) (fun i _ (z : t i < c) (w : t i = c) => by omega)
  refine ⟨⟨by omega, rfl⟩, fun p hp => ?_, h3, h4, h5, fun hp => ?_, fun z => ?_, fun z => by omega, fun _ hp => ?_⟩
  · have := h2 p hp
    exact ⟨this.1, by omega⟩
  · have a1 := h2 (at_ - 1) (by omega)
    have a2 := h6 hp
    refine ⟨fun z => by omega, fun _ => ?_⟩
    split
    · rename_i q
      have := a2.1 (h8 q)
      omega
    · rename_i q
      have := h9 (by omega) hp
      exact a2.2 (by omega)
  · rw [if_neg (by omega)]
    exact h7 z
  · have a1 := h2 (at_ - 1) (by omega)
    omega
theorem blI_end (H : blI t n 4 0 fr at_ od g gs) (ht : ∀ i, i < n → t i < 4) : GI t n 1 g od gs := by
  obtain ⟨h1, h2, h3, h4, h5, h6, h7, h8, h9⟩ := H
  have e : cnt (fun i => t i < 4) n = n := cnt_all ht
  have en : at_ = n := by have := h1.2; rw [cnt_0] at this; omega
  subst en
  refine GI_of (κ := t) ⟨fun p hp => (h2 p hp).1, fun i j hi hj => h3 i j hi hj⟩ (fun k hk => (h4 k hk).1) h5 (fun k hk => (h4 k hk).2) (fun hn => ?_) h7 (fun i j hi hj => ?_) (fun i j hi hj => ?_)
  · have := ht (od (at_ - 1)) (h2 (at_ - 1) (by omega)).1
    exact (h6 hn).2 (by omega)
  · rw [lc_pos hi hj]
    constructor
    · exact fun z => Or.inr z
    · rintro (z | z)
      · rw [z]
      · exact z
  · constructor
    · intro z
      have z2 : lc t at_ i j = 0 := by
        rcases Nat.eq_zero_or_pos (lc t at_ i j) with q | q
        · exact q
        · have := (lc_pos hi hj).mp q
          omega
      have z3 : i ≠ j := fun w => by rw [w] at z; omega
      exact ⟨z3, by omega, z3, Or.inr ⟨by omega, by rw [z2]; exact z⟩⟩
    · rintro ⟨a, b, c⟩
      have z2 : lc t at_ i j = 0 := by omega
      have := c.2
      rw [z2] at this
      rcases this with w | w
      · omega
      · exact w.2
end
end
section
/-! plain laws 5: doubling's loops (second, counts, places, then), neighbours -/
def seI (n h : Nat) (od : Nat → Nat) (k at_ : Nat) (se : Nat → Nat) : Prop :=
  at_ = h + cnt (fun q => h ≤ od q) k ∧ (∀ p, p < h → se p = n - h + p) ∧ (∀ p, h ≤ p → p < at_ → ∃ q, q < k ∧ od q = se p + h) ∧
  (∀ p p2, h ≤ p → p < p2 → p2 < at_ → ∀ q q2, q < n → q2 < n → od q = se p + h → od q2 = se p2 + h → q < q2)
section
variable {t : Nat → Nat} {n h gs k at_ : Nat} {g od se ct : Nat → Nat}
theorem seI_0 (hse : ∀ p, p < h → se p = n - h + p) : seI n h od 0 h se := ⟨by rw [cnt_0, Nat.add_zero], hse, fun p h1 h2 => by omega, fun p p2 h1 h2 h3 => by omega⟩
theorem seI_no (H : seI n h od k at_ se) (hk : ¬ h ≤ od k) : seI n h od (k + 1) at_ se := by
  obtain ⟨h1, h2, h3, h4⟩ := H
  refine ⟨by rw [cnt_f (P := fun q => h ≤ od q) hk]; exact h1, h2, fun p a b => ?_, h4⟩
  obtain ⟨q, c, d⟩ := h3 p a b
  exact ⟨q, by omega, d⟩
theorem seI_yes (H : seI n h od k at_ se) (hod : Inj n od) (hkn : k < n) (hk : h ≤ od k) : seI n h od (k + 1) (at_ + 1) (va_up se at_ (od k - h)) := by
  obtain ⟨h1, h2, h3, h4⟩ := H
  have ho : ∀ p, p < at_ → va_up se at_ (od k - h) p = se p := fun p hp => up_n (by omega)
  have hl : va_up se at_ (od k - h) at_ = od k - h := up_s
  have hat : h ≤ at_ := by omega
  refine ⟨by rw [cnt_t (P := fun q => h ≤ od q) hk]; omega, fun p hp => ?_, fun p a b => ?_, fun p p2 a b c q q2 d e f1 f2 => ?_⟩
  · rw [ho p (by omega)]; exact h2 p hp
  · by_cases e : p = at_
    · rw [e, hl]; exact ⟨k, by omega, by omega⟩
    · rw [ho p (by omega)]
      obtain ⟨q, c, d⟩ := h3 p a (by omega)
      exact ⟨q, by omega, d⟩
  · rw [ho p (by omega)] at f1
    by_cases e2 : p2 = at_
    · rw [e2, hl] at f2
      have e3 : q2 = k := hod.2 q2 k e hkn (by omega)
      obtain ⟨q0, c0, d0⟩ := h3 p a (by omega)
      have e4 : q = q0 := hod.2 q q0 d (by omega) (by omega)
      omega
    · rw [ho p2 (by omega)] at f2
      exact h4 p p2 a b (by omega) q q2 d e f1 f2
theorem seI_at (H : seI n h od k at_ se) (hod : Inj n od) (hh : h ≤ n) (hk : k < n) (hy : h ≤ od k) : at_ < n := by
  have h1 := H.1
  have h2 := cnt_lt (P := fun q => h ≤ od q) hk hy
  have h3 : cnt (fun q => h ≤ od q) n = n - h := by rw [cnt_perm hod (fun i => h ≤ i), cnt_from h n hh]
  omega
theorem seI_end (H : seI n h od n at_ se) (G : GI t n h g od gs) (hh : h ≤ n) : Inj n se ∧ ∀ p q, p < q → q < n → bh g n h (se p) ≤ bh g n h (se q) := by
  obtain ⟨h1, h2, h3, h4⟩ := H
  have h5 : cnt (fun q => h ≤ od q) n = n - h := by rw [cnt_perm G.1 (fun i => h ≤ i), cnt_from h n hh]
  have en : at_ = n := by omega
  subst en
  have lo : ∀ p, p < h → se p < at_ ∧ at_ ≤ se p + h := fun p hp => by
    have := h2 p hp
    omega
  have up : ∀ p, h ≤ p → p < at_ → ∃ q, q < at_ ∧ od q = se p + h ∧ se p + h < at_ := fun p a b => by
    obtain ⟨q, c, d⟩ := h3 p a b
    have := G.1.1 q c
    exact ⟨q, c, d, by omega⟩
  have key : ∀ p q, p < q → q < at_ → se p ≠ se q ∧ bh g at_ h (se p) ≤ bh g at_ h (se q) := by
    intro p q hpq hq
    rcases Nat.lt_or_ge p h with z | z
    · have a := lo p z
      rw [bh_out a.2]
      refine ⟨fun e => ?_, Nat.zero_le _⟩
      rcases Nat.lt_or_ge q h with w | w
      · have b1 := h2 p z
        have b2 := h2 q w
        omega
      · obtain ⟨_, _, _, b⟩ := up q w hq
        omega
    · obtain ⟨q1, a1, a2, a3⟩ := up p z (by omega)
      obtain ⟨q2, b1, b2, b3⟩ := up q (by omega) hq
      have c := h4 p q z hpq hq q1 q2 a1 b1 a2 b2
      refine ⟨fun e => ?_, ?_⟩
      · rw [← e] at b2
        have := G.1.2 q1 q2 a1 b1 (a2.trans b2.symm)
        omega
      · rw [bh_in a3, bh_in b3, ← a2, ← b2]
        have := G.mono' (Nat.le_of_lt c) b1
        omega
  refine ⟨⟨fun p hp => ?_, fun p q hp hq e => ?_⟩, fun p q hpq hq => (key p q hpq hq).2⟩
  · rcases Nat.lt_or_ge p h with z | z
    · exact (lo p z).1
    · obtain ⟨_, _, _, b⟩ := up p z hp
      omega
  · rcases Nat.lt_trichotomy p q with z | z | z
    · exact absurd e (key p q z hq).1
    · exact z
    · exact absurd e.symm (key q p z hp).1
-- counts of the groups
def ct1 (g : Nat → Nat) (gs k : Nat) (ct : Nat → Nat) : Prop := ct 0 = 0 ∧ ∀ x, x < gs → ct (x + 1) = cnt (fun i => g i = x) k
theorem ct1_0 (hz : ∀ x, x ≤ gs → ct x = 0) : ct1 g gs 0 ct := ⟨hz 0 (Nat.zero_le _), fun x hx => by rw [cnt_0]; exact hz (x + 1) hx⟩
theorem ct1_s (H : ct1 g gs k ct) : ct1 g gs (k + 1) (va_up ct (g k + 1) (ct (g k + 1) + 1)) := by
  refine ⟨by rw [up_n (by omega)]; exact H.1, fun x hx => ?_⟩
  by_cases e : x = g k
  · rw [e, up_s, cnt_t (P := fun i => g i = g k) rfl, H.2 (g k) (by omega)]
  · rw [up_n (by omega), cnt_f (P := fun i => g i = x) (fun z => e z.symm)]
    exact H.2 x hx
def ct2 (g : Nat → Nat) (n gs y : Nat) (ct : Nat → Nat) : Prop := (∀ x, x ≤ y → ct x = cnt (fun i => g i < x) n) ∧ ∀ x, y ≤ x → x < gs → ct (x + 1) = cnt (fun i => g i = x) n
theorem ct2_0 (H : ct1 g gs n ct) : ct2 g n gs 0 ct := by
  refine ⟨fun x hx => ?_, fun x _ hx => H.2 x hx⟩
  have e : x = 0 := by omega
  rw [e, H.1]
  exact (cnt_none (Nat.zero_le n) (fun i _ _ z => Nat.not_lt_zero _ z)).symm
theorem ct2_s {y : Nat} (H : ct2 g n gs y ct) (hy : y < gs) : ct2 g n gs (y + 1) (va_up ct (y + 1) (ct (y + 1) + ct y)) := by
  refine ⟨fun x hx => ?_, fun x h1 h2 => ?_⟩
  · by_cases e : x = y + 1
    · rw [e, up_s, H.2 y (Nat.le_refl y) hy, H.1 y (Nat.le_refl y), Nat.add_comm]
      exact cnt_or (fun i _ => by show g i < y + 1 ↔ g i < y ∨ g i = y; omega) (fun i _ (z : g i < y) (w : g i = y) => by omega)
    · rw [up_n e]; exact H.1 x (by omega)
  · rw [up_n (by omega)]; exact H.2 x (by omega) h2
/-- the place that the one at k of the second order gets -/
noncomputable def psn (g se : Nat → Nat) (n k : Nat) : Nat := cnt (fun i => g i < g (se k)) n + cnt (fun q => g (se q) = g (se k)) k
def ct3 (g se : Nat → Nat) (n gs k : Nat) (ct od : Nat → Nat) : Prop := (∀ x, x < gs → ct x = cnt (fun i => g i < x) n + cnt (fun q => g (se q) = x) k) ∧ ∀ q, q < k → od (psn g se n q) = se q
theorem psn_cnt (hse : Inj n se) (x : Nat) : cnt (fun i => g i < x) n + cnt (fun q => g (se q) = x) n = cnt (fun i => g i < x + 1) n := by
  rw [cnt_perm hse (fun i => g i = x)]
  exact cnt_or (fun i _ => by show g i < x + 1 ↔ g i < x ∨ g i = x; omega) (fun i _ (z : g i < x) (w : g i = x) => by omega)
theorem cnt_lt_mono (g : Nat → Nat) (n : Nat) {x y : Nat} (h : x ≤ y) : cnt (fun i => g i < x) n ≤ cnt (fun i => g i < y) n := by
  induction n with
  | zero => exact Nat.le_refl 0
  | succ n ih =>
    by_cases q : g n < x
    · rw [cnt_t (P := fun i => g i < x) q, cnt_t (P := fun i => g i < y) (show g n < y by omega)]; omega
    · rw [cnt_f (P := fun i => g i < x) q]
      have := (cnt_s (fun i => g i < y) n).1
      omega
theorem psn_in (hse : Inj n se) {k : Nat} (hk : k < n) : psn g se n k < cnt (fun i => g i < g (se k) + 1) n := by
  have h1 := psn_cnt (g := g) hse (g (se k))
  have h2 := cnt_lt (P := fun q => g (se q) = g (se k)) hk rfl
  show cnt (fun i => g i < g (se k)) n + cnt (fun q => g (se q) = g (se k)) k < _
  omega
theorem psn_lt (hse : Inj n se) {k : Nat} (hk : k < n) : psn g se n k < n := Nat.lt_of_lt_of_le (psn_in hse hk) (cnt_le _ n)
theorem psn_g (hse : Inj n se) {k l : Nat} (hk : k < n) (h : g (se k) < g (se l)) : psn g se n k < psn g se n l := by
  have h1 := psn_in (g := g) hse hk
  have h2 := cnt_lt_mono g n (show g (se k) + 1 ≤ g (se l) from h)
  show _ < cnt (fun i => g i < g (se l)) n + cnt (fun q => g (se q) = g (se l)) l
  omega
theorem psn_q {k l : Nat} (h : g (se k) = g (se l)) (hkl : k < l) : psn g se n k < psn g se n l := by
  show cnt (fun i => g i < g (se k)) n + cnt (fun q => g (se q) = g (se k)) k < cnt (fun i => g i < g (se l)) n + cnt (fun q => g (se q) = g (se l)) l
  rw [← h]
  have := cnt_lt (P := fun q => g (se q) = g (se k)) hkl rfl
  omega
theorem psn_inj (hse : Inj n se) {k l : Nat} (hk : k < n) (hl : l < n) (e : psn g se n k = psn g se n l) : k = l := by
  rcases Nat.lt_trichotomy (g (se k)) (g (se l)) with q | q | q
  · have := psn_g (g := g) hse hk q; omega
  · rcases Nat.lt_trichotomy k l with z | z | z
    · have := psn_q (n := n) q z; omega
    · exact z
    · have := psn_q (n := n) q.symm z; omega
  · have := psn_g (g := g) hse hl q; omega
theorem ct3_0 (H : ct2 g n gs gs ct) : ct3 g se n gs 0 ct od := ⟨fun x hx => by rw [cnt_0]; exact H.1 x (by omega), fun q hq => by omega⟩
theorem ct3_at (H : ct3 g se n gs k ct od) (hx : g (se k) < gs) : ct (g (se k)) = psn g se n k := H.1 _ hx
theorem ct3_s (H : ct3 g se n gs k ct od) (hse : Inj n se) (hk : k < n) (hx : g (se k) < gs) : ct3 g se n gs (k + 1) (va_up ct (g (se k)) (ct (g (se k)) + 1)) (va_up od (ct (g (se k))) (se k)) := by
  refine ⟨fun x h1 => ?_, fun q hq => ?_⟩
  · by_cases e : x = g (se k)
    · rw [e, up_s, cnt_t (P := fun q => g (se q) = g (se k)) rfl, H.1 _ hx]
      omega
    · rw [up_n e, cnt_f (P := fun q => g (se q) = x) (fun z => e z.symm)]
      exact H.1 x h1
  · rw [ct3_at H hx]
    by_cases e : q = k
    · rw [e, up_s]
    · rw [up_n (fun z => e (psn_inj hse (by omega) hk z))]
      exact H.2 q (by omega)
theorem ct3_end (H : ct3 g se n gs n ct od) {od0 : Nat → Nat} (G : GI t n h g od0 gs) (hse : Inj n se) (hb : ∀ p q, p < q → q < n → bh g n h (se p) ≤ bh g n h (se q)) : Inj n od ∧ ∀ p, p + 1 < n → kap g n h (od p) ≤ kap g n h (od (p + 1)) := by
  have hp : Inj n (psn g se n) := ⟨fun k hk => psn_lt hse hk, fun i j hi hj e => psn_inj hse hi hj e⟩
  have ho : ∀ p, p < n → ∃ k, k < n ∧ psn g se n k = p ∧ od p = se k := fun p hp2 => by
    obtain ⟨k, hk, e⟩ := hp.sur n _ p hp2
    exact ⟨k, hk, e, by rw [← e]; exact H.2 k hk⟩
  refine ⟨⟨fun p hp2 => ?_, fun p q h1 h2 e => ?_⟩, fun p h1 => ?_⟩
  · obtain ⟨k, hk, -, e⟩ := ho p hp2
    rw [e]; exact hse.1 k hk
  · obtain ⟨k, hk, e1, e2⟩ := ho p h1
    obtain ⟨l, hl, e3, e4⟩ := ho q h2
    rw [e2, e4] at e
    have := hse.2 k l hk hl e
    rw [← e1, ← e3, this]
  · obtain ⟨k, hk, e1, e2⟩ := ho p (by omega)
    obtain ⟨l, hl, e3, e4⟩ := ho (p + 1) h1
    rw [e2, e4]
    rcases Nat.lt_or_ge (kap g n h (se l)) (kap g n h (se k)) with q | q
    · exfalso
      rcases (G.kap_lt (se l) (se k)).mp q with z | ⟨z1, z2⟩
      · have := psn_g (g := g) hse hl z
        omega
      · rcases Nat.lt_trichotomy k l with w | w | w
        · have := hb k l w hl; omega
        · rw [w] at e1; omega
        · have := psn_q (n := n) z1 w; omega
    · exact q
-- the new groups
def thI (κ od : Nat → Nat) (k gg : Nat) (th : Nat → Nat) : Prop := (k = 0 → gg = 0) ∧ (0 < k → th (od 0) = 0 ∧ gg = th (od (k - 1))) ∧ (∀ p, p + 1 < k → th (od (p + 1)) = th (od p) + (if κ (od p) = κ (od (p + 1)) then 0 else 1)) ∧ gg ≤ k
theorem thI_0 {κ th : Nat → Nat} : thI κ od 0 0 th := ⟨fun _ => rfl, fun z => by omega, fun p z => by omega, Nat.le_refl 0⟩
theorem thI_s {κ th : Nat → Nat} {gg g2 : Nat} (H : thI κ od k gg th) (hod : Inj n od) (hk : k < n) (hg : g2 = gg + (if 0 < k ∧ κ (od (k - 1)) ≠ κ (od k) then 1 else 0)) : thI κ od (k + 1) g2 (va_up th (od k) g2) := by
  obtain ⟨h1, h2, h3, h4⟩ := H
  have ho : ∀ p, p < k → va_up th (od k) g2 (od p) = th (od p) := fun p hp => up_n (fun z => by have := hod.2 p k (by omega) hk z; omega)
  have hl : va_up th (od k) g2 (od k) = g2 := up_s
  refine ⟨fun z => by omega, fun _ => ⟨?_, ?_⟩, fun p hp => ?_, ?_⟩
  · rcases Nat.eq_zero_or_pos k with z | z
    · subst z
      rw [hl, hg, if_neg (fun w => by omega)]
      have := h1 rfl
      omega
    · rw [ho 0 z]; exact (h2 z).1
  · rw [show k + 1 - 1 = k by omega, hl]
  · by_cases e : p + 1 = k
    · rw [e, hl, ho p (by omega), hg]
      have a := (h2 (by omega)).2
      rw [show k - 1 = p by omega] at a
      rw [show k - 1 = p by omega, a]
      by_cases z : κ (od p) = κ (od k)
      · rw [if_neg (fun w => w.2 z), if_pos z]
      · rw [if_pos ⟨by omega, z⟩, if_neg z]
    · rw [ho p (by omega), ho (p + 1) (by omega)]
      exact h3 p (by omega)
  · rw [hg]; split <;> omega
theorem thI_end {th gr2 od2 : Nat → Nat} {gg : Nat} (G : GI t n h g od gs) (hh : 1 ≤ h) (hn : 0 < n) (hod : Inj n od2) (hs : ∀ p, p + 1 < n → kap g n h (od2 p) ≤ kap g n h (od2 (p + 1))) (H : thI (kap g n h) od2 n gg th) (he : ∀ i, i < n → gr2 i = th i) : GI t n (2 * h) gr2 od2 (gg + 1) :=
  GI_congr (GI_of (κ := kap g n h) (g := th) hod hs (fun z => (H.2.1 z).1) (fun k hk => H.2.2.1 k hk) (fun z => by rw [(H.2.1 z).2]) (fun z => by omega) (G.two_eq hh) (G.two_lt hh)) he
-- neighbours
/-- what is known ahead of k: the places of ends before k hold their letters in common; hh of them are sure for k -/
def nbI (t : Nat → Nat) (n : Nat) (od pl : Nat → Nat) (k hh : Nat) (co : Nat → Nat) : Prop :=
  (∀ i, i < k → i < n → (pl i ≠ 0 → co (pl i) = lc t n i (od (pl i - 1))) ∧ (pl i = 0 → co 0 = 0)) ∧ (k < n → pl k ≠ 0 → hh ≤ lc t n k (od (pl k - 1))) ∧ hh ≤ n
def Ord (t : Nat → Nat) (n : Nat) (od pl : Nat → Nat) : Prop := Inj n od ∧ (∀ k l, k < l → l < n → slt t n (od k) (od l)) ∧ ∀ k, k < n → pl (od k) = k
theorem Ord.pl_at {pl : Nat → Nat} (O : Ord t n od pl) {f : Nat} (hf : f < n) : pl f < n ∧ od (pl f) = f := by
  obtain ⟨k, hk, e⟩ := O.1.sur n od f hf
  have := O.2.2 k hk
  rw [← e, this]
  exact ⟨hk, rfl⟩
theorem nbI_0 {pl co : Nat → Nat} : nbI t n od pl 0 0 co := ⟨fun i hi => by omega, fun _ _ => Nat.zero_le _, Nat.zero_le _⟩
theorem nbI_z {pl co : Nat → Nat} {hh : Nat} (O : Ord t n od pl) (H : nbI t n od pl k hh co) (hk : k < n) (hz : pl k = 0) : nbI t n od pl (k + 1) 0 (va_up co 0 0) := by
  refine ⟨fun i hi hn => ⟨fun z => ?_, fun _ => up_s⟩, fun _ _ => Nat.zero_le _, Nat.zero_le _⟩
  rw [up_n z]
  have : i ≠ k := fun e => z (by rw [e]; exact hz)
  exact (H.1 i (by omega) hn).1 z
theorem nbI_s {pl co : Nat → Nat} {hh : Nat} (O : Ord t n od pl) (H : nbI t n od pl k hh co) (hk : k < n) (hz : pl k ≠ 0) {L : Nat} (hL : L = lc t n k (od (pl k - 1))) : nbI t n od pl (k + 1) (L - 1) (va_up co (pl k) L) := by
  have hkp := O.pl_at hk
  have hln : k + L ≤ n := by rw [hL]; exact lc_n (by omega)
  refine ⟨fun i hi hn => ⟨fun z => ?_, fun z => ?_⟩, fun hk1 hz1 => ?_, by omega⟩
  · by_cases e : i = k
    · rw [e, up_s]; exact hL
    · have : pl i ≠ pl k := fun w => by
        have a := (O.pl_at hn).2
        rw [w, hkp.2] at a
        exact e a.symm
      rw [up_n this]
      exact (H.1 i (by omega) hn).1 z
  · have : i ≠ k := fun e => hz (by rw [← e]; exact z)
    rw [up_n (fun w => hz w.symm)]
    exact (H.1 i (by omega) hn).2 z
  · rcases Nat.lt_or_ge 1 L with q | q
    · have hj := O.1.1 (pl k - 1) (by omega)
      have sl := O.2.1 (pl k - 1) (pl k) (by omega) hkp.1
      rw [hkp.2] at sl
      have hc := lc_comm t n (od (pl k - 1)) k
      have h1L : 1 ≤ lc t n (od (pl k - 1)) k := by omega
      have sl2 := (slt_sh h1L).mpr sl
      have sh := lc_sh h1L
      have al := lc_all (t := t) (n := n) 1 (od (pl k - 1)) k (by omega)
      have p1 := O.pl_at al.1
      have p2 := O.pl_at hk1
      have lt : pl (od (pl k - 1) + 1) < pl (k + 1) := by
        rcases Nat.lt_trichotomy (pl (od (pl k - 1) + 1)) (pl (k + 1)) with w | w | w
        · exact w
        · exfalso
          have a := p1.2
          rw [w, p2.2] at a
          exact sl2.1 a.symm
        · exfalso
          have b := O.2.1 _ _ w p1.1
          rw [p1.2, p2.2] at b
          exact slt_asym sl2 b
      rcases Nat.lt_or_ge (pl (od (pl k - 1) + 1)) (pl (k + 1) - 1) with w | w
      · have a1 := O.2.1 _ _ w (by omega)
        have a2 := O.2.1 (pl (k + 1) - 1) (pl (k + 1)) (by omega) p2.1
        rw [p1.2] at a1
        rw [p2.2] at a2
        have m := (slt_mono a1 a2).1
        rw [lc_comm t n (k + 1)]
        omega
      · rw [show pl (k + 1) - 1 = pl (od (pl k - 1) + 1) by omega, p1.2, lc_comm t n (k + 1)]
        omega
    · omega
theorem nbI_end {pl co : Nat → Nat} {hh : Nat} (O : Ord t n od pl) (H : nbI t n od pl n hh co) : SA t n od pl co := by
  refine ⟨O.1, O.2.1, O.2.2, fun k hk hz => ?_, fun hn => ?_⟩
  · have a := O.2.2 k hk
    have b := (H.1 (od k) (O.1.1 k hk) (O.1.1 k hk)).1 (by rw [a]; exact hz)
    rw [a] at b
    exact b
  · have a := O.2.2 0 hn
    exact (H.1 (od 0) (O.1.1 0 hn) (O.1.1 0 hn)).2 a
end
end
section
/-! Ends.behind, Ends.alike -/
set_option maxHeartbeats 4000000 in
set_option maxRecDepth 100000 in
/-- Ends.behind -/
theorem c_E_behind (l : Launch) (D : va_G) (a : Nat → Nat) (cA : Nat → ClassId) (n md my gs : Nat) (tx bo re od pl co gr th se ct : Nat → Nat) (i h : Nat) (hm : my ≤ 128) (hi : i + h < 2 ^ 30) : Ci l y_E_behind b_E_behind 3 (some .int) 0 0 D (tyD cA) [.ref (a 4), .int (nI i), .int (nI h)] (wd a cA n md my gs tx bo re od pl co gr th se ct) (Unit) (fun r _ => r = bhI gr my h i) (fun _ => (wd a cA n md my gs tx bo re od pl co gr th se ct)) := by
  refine Ci_of (by decide) (Nat.le_of_ble_eq_true rfl) ?_
  intro p e s m below meth c A ls M hw hl
  have M : Mx b_E_behind R_E 3 (some .int) p s m meth c ([.ref (a 4), .int (nI i), .int (nI h)] : List Value).toArray := M
  have hl : lv_has ls 3 [(0, .ref (a 4)), (1, .int (nI i)), (2, .int (nI h))] := hl
  obtain ⟨hx, hb, -, -, -, -, -⟩ := id M
  refine lv_iload_n hx hb d_E_behind_0 rfl (lv_at hl 1 rfl) ?_
  refine lv_iload_n hx hb d_E_behind_1 rfl (lv_at hl 2 rfl) ?_
  refine pd_iadd M d_E_behind_2 ?_
  refine lv_aload_n hx hb d_E_behind_3 rfl (lv_at hl 0 rfl) ?_
  refine pd_gE M hw 4 7 rfl (by decide) k_f_E_33 rfl d_E_behind_4 ?_
  refine pd_cge M d_E_behind_7 (tgt := 21) (by decide) (by omega) (by omega) (fun h7 => ?_) (fun h7 => ?_)
  · refine lv_iconst (v := -1) hx hb d_E_behind_21 (by decide) ?_
    exact pd_ret M () hw rfl (by unfold bhI; rw [if_neg (by omega)]) d_E_behind_22
  · refine lv_aload_n hx hb d_E_behind_10 rfl (lv_at hl 0 rfl) ?_
    refine pd_gE M hw 4 3 rfl (by decide) k_f_E_21 rfl d_E_behind_11 ?_
    refine lv_iload_n hx hb d_E_behind_14 rfl (lv_at hl 1 rfl) ?_
    refine lv_iload_n hx hb d_E_behind_15 rfl (lv_at hl 2 rfl) ?_
    refine pd_iadd M d_E_behind_16 ?_
    refine pd_ald M hw 8 6 rfl rfl (by omega) (by decide) d_E_behind_17 ?_
    refine lv_goto (tgt := 22) hx hb d_E_behind_18 (by decide) ?_
    exact pd_ret M () hw rfl (by unfold bhI; rw [if_pos h7]) d_E_behind_22
set_option maxHeartbeats 4000000 in
set_option maxRecDepth 100000 in
/-- Ends.alike -/
theorem c_E_alike (l : Launch) (D : va_G) (a : Nat → Nat) (cA : Nat → ClassId) (n md my gs : Nat) (tx bo re od pl co gr th se ct : Nat → Nat) (i j h : Nat) (hm : my ≤ 128) (hi : i < my) (hj : j < my) (hh : h < 2 ^ 29) (hg : ∀ k, k < my → gr k < 2 ^ 31) : Ci l y_E_alike b_E_alike 4 (some .boolean) 1 22 D (tyD cA) [.ref (a 4), .int (nI i), .int (nI j), .int (nI h)] (wd a cA n md my gs tx bo re od pl co gr th se ct) (Unit) (fun r _ => r = nI (if gr i = gr j ∧ bh gr my h i = bh gr my h j then 1 else 0)) (fun _ => (wd a cA n md my gs tx bo re od pl co gr th se ct)) := by
  refine Ci_of (by decide) (Nat.le_of_ble_eq_true rfl) ?_
  intro p e s m below meth c A ls M hw hl
  have M : Mx b_E_alike R_E 4 (some .boolean) p s m meth c ([.ref (a 4), .int (nI i), .int (nI j), .int (nI h)] : List Value).toArray := M
  have hl : lv_has ls 4 [(0, .ref (a 4)), (1, .int (nI i)), (2, .int (nI j)), (3, .int (nI h))] := hl
  obtain ⟨hx, hb, -, -, -, -, -⟩ := id M
  have hgi := hg i hi
  have hgj := hg j hj
  refine lv_aload_n hx hb d_E_alike_0 rfl (lv_at hl 0 rfl) ?_
  refine pd_gE M hw 4 3 rfl (by decide) k_f_E_21 rfl d_E_alike_1 ?_
  refine lv_iload_n hx hb d_E_alike_4 rfl (lv_at hl 1 rfl) ?_
  refine pd_ald M hw 8 6 rfl rfl (by omega) (by decide) d_E_alike_5 ?_
  refine lv_aload_n hx hb d_E_alike_6 rfl (lv_at hl 0 rfl) ?_
  refine pd_gE M hw 4 3 rfl (by decide) k_f_E_21 rfl d_E_alike_7 ?_
  refine lv_iload_n hx hb d_E_alike_10 rfl (lv_at hl 2 rfl) ?_
  refine pd_ald M hw 8 6 rfl rfl (by omega) (by decide) d_E_alike_11 ?_
  refine pd_cne M d_E_alike_12 (tgt := 34) (by decide) (by omega) (by omega) (fun h12 => ?_) (fun h12 => ?_)
  · refine pd_iconst (k := 0) M d_E_alike_34 (by decide) ?_
    exact pd_ret M () hw (by decide) (by first | (rw [if_pos ⟨h12, (bhI_eq hg).mp (h1 ▸ h2 ▸ h27)⟩]; done) | (rw [if_neg (fun z => h27 (h1.trans (((bhI_eq hg).mpr z.2).trans h2.symm)))]; done) | (rw [if_neg (fun z => h12 z.1)]; done)) d_E_alike_35
  · refine lv_aload_n hx hb d_E_alike_15 rfl (lv_at hl 0 rfl) ?_
    refine lv_iload_n hx hb d_E_alike_16 rfl (lv_at hl 1 rfl) ?_
    refine lv_iload_n hx hb d_E_alike_17 rfl (lv_at hl 3 rfl) ?_
    refine pd_calli (As := [.int (nI i), .int (nI h)]) (rest := []) (wr := []) M hw (c_E_behind l D a cA n md my gs tx bo re od pl co gr th se ct i h hm (by omega)) k_l_E_55 k_i_E_behind k_s_E_behind k_in_E k_c_E_behind k_d_E_behind ⟨Nat.le_of_ble_eq_true rfl, Nat.le_of_ble_eq_true rfl⟩ ⟨Nat.le_of_ble_eq_true rfl, Nat.le_of_ble_eq_true rfl⟩ [0, 1, 2, 3, 4, 5, 6, 7, 8, 9, 10, 11] [] [0, 1, 2, 3, 4, 5, 6, 7, 8, 9] rfl rfl rfl rfl (by decide) rfl rfl 4 rfl hl.1 (Nat.le_of_ble_eq_true rfl) rfl d_E_alike_18 (fun r1 u1 H locs h1 hw => ?_)
    have hw : Hd A D (tyD cA) s (wd a cA n md my gs tx bo re od pl co gr th se ct) H locs := hw
    refine lv_aload_n hx hb d_E_alike_21 rfl (lv_at hl 0 rfl) ?_
    refine lv_iload_n hx hb d_E_alike_22 rfl (lv_at hl 2 rfl) ?_
    refine lv_iload_n hx hb d_E_alike_23 rfl (lv_at hl 3 rfl) ?_
    refine pd_calli (As := [.int (nI j), .int (nI h)]) (rest := [.int r1]) (wr := []) M hw (c_E_behind l D a cA n md my gs tx bo re od pl co gr th se ct j h hm (by omega)) k_l_E_55 k_i_E_behind k_s_E_behind k_in_E k_c_E_behind k_d_E_behind ⟨Nat.le_of_ble_eq_true rfl, Nat.le_of_ble_eq_true rfl⟩ ⟨Nat.le_of_ble_eq_true rfl, Nat.le_of_ble_eq_true rfl⟩ [0, 1, 2, 3, 4, 5, 6, 7, 8, 9, 10, 11] [] [0, 1, 2, 3, 4, 5, 6, 7, 8, 9] rfl rfl rfl rfl (by decide) rfl rfl 4 rfl hl.1 (Nat.le_of_ble_eq_true rfl) rfl d_E_alike_24 (fun r2 u2 H locs h2 hw => ?_)
    have hw : Hd A D (tyD cA) s (wd a cA n md my gs tx bo re od pl co gr th se ct) H locs := hw
    refine lv_icmp_ne (tgt := 34) hx hb d_E_alike_27 (by decide) (fun h27 => ?_) (fun h27 => ?_)
    · refine pd_iconst (k := 0) M d_E_alike_34 (by decide) ?_
      exact pd_ret M () hw (by decide) (by first | (rw [if_pos ⟨h12, (bhI_eq hg).mp (h1 ▸ h2 ▸ h27)⟩]; done) | (rw [if_neg (fun z => h27 (h1.trans (((bhI_eq hg).mpr z.2).trans h2.symm)))]; done) | (rw [if_neg (fun z => h12 z.1)]; done)) d_E_alike_35
    · refine pd_iconst (k := 1) M d_E_alike_30 (by decide) ?_
      refine lv_goto (tgt := 35) hx hb d_E_alike_31 (by decide) ?_
      exact pd_ret M () hw (by decide) (by first | (rw [if_pos ⟨h12, (bhI_eq hg).mp (h1 ▸ h2 ▸ h27)⟩]; done) | (rw [if_neg (fun z => h27 (h1.trans (((bhI_eq hg).mpr z.2).trans h2.symm)))]; done) | (rw [if_neg (fun z => h12 z.1)]; done)) d_E_alike_35
end
section
/-! the desk's small methods -/
def l4 (x : Int32) : Nat := x.toBitVec.toNat % 2 ^ 2
def b31 (x : Int32) : Nat := x.toBitVec.toNat % 2 ^ 31
theorem l4_lt (x : Int32) : l4 x < 4 := Nat.mod_lt _ (by decide)
theorem b31_lt (x : Int32) : b31 x < 2 ^ 31 := Nat.mod_lt _ (by decide)
set_option maxHeartbeats 4000000 in
set_option maxRecDepth 100000 in
theorem c_D_length (l : Launch) (D : va_G) (a : Nat → Nat) (cA : Nat → ClassId) (n md my gs : Nat) (tx bo re od pl co gr th se ct : Nat → Nat) : Ci l y_D_length b_D_length 1 (some .int) 0 0 D (tyD cA) [.ref (a 0)] (wd a cA n md my gs tx bo re od pl co gr th se ct) (Unit) (fun r _ => r = nI n) (fun _ => (wd a cA n md my gs tx bo re od pl co gr th se ct)) := by
  refine Ci_of (by decide) (Nat.le_of_ble_eq_true rfl) ?_
  intro p e s m below meth c A ls M hw hl
  have M : Mx b_D_length R_D 1 (some .int) p s m meth c ([.ref (a 0)] : List Value).toArray := M
  have hl : lv_has ls 1 [(0, .ref (a 0))] := hl
  obtain ⟨hx, hb, -, -, -, -, -⟩ := id M
  refine lv_aload_n hx hb d_D_length_0 rfl (lv_at hl 0 rfl) ?_
  refine pd_gD M hw 0 4 rfl (by decide) k_f_D_26 rfl d_D_length_1 ?_
  exact pd_ret M () hw (rfl) (rfl) d_D_length_4
set_option maxHeartbeats 4000000 in
set_option maxRecDepth 100000 in
theorem c_D_cut (l : Launch) (D : va_G) (a : Nat → Nat) (cA : Nat → ClassId) (n md my gs : Nat) (tx bo re od pl co gr th se ct : Nat → Nat) (hn : n ≤ 128) (h0 : 0 < n) : Ci l y_D_cut b_D_cut 1 (some .boolean) 0 0 D (tyD cA) [.ref (a 0)] (wd a cA n md my gs tx bo re od pl co gr th se ct) (Unit) (fun r _ => r = nI 1) (fun _ => (wd a cA (n - 1) 0 my gs tx bo re od pl co gr th se ct)) := by
  refine Ci_of (by decide) (Nat.le_of_ble_eq_true rfl) ?_
  intro p e s m below meth c A ls M hw hl
  have M : Mx b_D_cut R_D 1 (some .boolean) p s m meth c ([.ref (a 0)] : List Value).toArray := M
  have hl : lv_has ls 1 [(0, .ref (a 0))] := hl
  obtain ⟨hx, hb, -, -, -, -, -⟩ := id M
  refine lv_aload_n hx hb d_D_cut_0 rfl (lv_at hl 0 rfl) ?_
  refine pd_gD M hw 0 4 rfl (by decide) k_f_D_26 rfl d_D_cut_1 ?_
  refine pd_ine M d_D_cut_4 (tgt := 9) (by decide) (by omega) (fun h4 => ?_) (fun h4 => ?_)
  · refine lv_aload_n hx hb d_D_cut_9 rfl (lv_at hl 0 rfl) ?_
    refine lv_dup hx hb d_D_cut_10 rfl ?_
    refine pd_gD M hw 0 4 rfl (by decide) k_f_D_26 rfl d_D_cut_11 ?_
    refine pd_iconst (k := 1) M d_D_cut_14 (by decide) ?_
    refine pd_isub M d_D_cut_15 (by omega) ?_
    refine pd_pD M hw 0 4 rfl (by decide) k_f_D_26 rfl rfl rfl (Nat.le_of_ble_eq_true rfl) d_D_cut_16 (fun H locs hw => ?_)
    have hw : Hd A D (tyD cA) s (wd a cA (n - 1) md my gs tx bo re od pl co gr th se ct) H locs := hw
    refine lv_aload_n hx hb d_D_cut_19 rfl (lv_at hl 0 rfl) ?_
    refine pd_iconst (k := 0) M d_D_cut_20 (by decide) ?_
    refine pd_pD M hw 0 5 rfl (by decide) k_f_D_30 rfl rfl rfl (Nat.le_of_ble_eq_true rfl) d_D_cut_21 (fun H locs hw => ?_)
    have hw : Hd A D (tyD cA) s (wd a cA (n - 1) 0 my gs tx bo re od pl co gr th se ct) H locs := hw
    refine pd_iconst (k := 1) M d_D_cut_24 (by decide) ?_
    exact pd_ret M () hw (by decide) (rfl) d_D_cut_25
  · omega
set_option maxHeartbeats 4000000 in
set_option maxRecDepth 100000 in
theorem c_D_cut0 (l : Launch) (D : va_G) (a : Nat → Nat) (cA : Nat → ClassId) (n md my gs : Nat) (tx bo re od pl co gr th se ct : Nat → Nat) (h0 : n = 0) : Ci l y_D_cut b_D_cut 1 (some .boolean) 0 0 D (tyD cA) [.ref (a 0)] (wd a cA n md my gs tx bo re od pl co gr th se ct) (Unit) (fun r _ => r = nI 0) (fun _ => (wd a cA n md my gs tx bo re od pl co gr th se ct)) := by
  refine Ci_of (by decide) (Nat.le_of_ble_eq_true rfl) ?_
  intro p e s m below meth c A ls M hw hl
  have M : Mx b_D_cut R_D 1 (some .boolean) p s m meth c ([.ref (a 0)] : List Value).toArray := M
  have hl : lv_has ls 1 [(0, .ref (a 0))] := hl
  obtain ⟨hx, hb, -, -, -, -, -⟩ := id M
  refine lv_aload_n hx hb d_D_cut_0 rfl (lv_at hl 0 rfl) ?_
  refine pd_gD M hw 0 4 rfl (by decide) k_f_D_26 rfl d_D_cut_1 ?_
  refine pd_ine M d_D_cut_4 (tgt := 9) (by decide) (by omega) (fun h4 => ?_) (fun h4 => ?_)
  · omega
  · refine pd_iconst (k := 0) M d_D_cut_7 (by decide) ?_
    exact pd_ret M () hw (by decide) (rfl) d_D_cut_8
set_option maxHeartbeats 4000000 in
set_option maxRecDepth 100000 in
theorem c_D_add (l : Launch) (D : va_G) (a : Nat → Nat) (cA : Nat → ClassId) (n md my gs : Nat) (tx bo re od pl co gr th se ct : Nat → Nat) (x : Int32) (hn : n < 128) : Ci l y_D_add b_D_add 2 (some .boolean) 0 0 D (tyD cA) [.ref (a 0), .int x] (wd a cA n md my gs tx bo re od pl co gr th se ct) (Unit) (fun r _ => r = nI 1) (fun _ => (wd a cA (n + 1) 0 my gs (va_up tx n (l4 x)) bo re od pl co gr th se ct)) := by
  refine Ci_of (by decide) (Nat.le_of_ble_eq_true rfl) ?_
  intro p e s m below meth c A ls M hw hl
  have M : Mx b_D_add R_D 2 (some .boolean) p s m meth c ([.ref (a 0), .int x] : List Value).toArray := M
  have hl : lv_has ls 2 [(0, .ref (a 0)), (1, .int x)] := hl
  obtain ⟨hx, hb, -, -, -, -, -⟩ := id M
  refine lv_aload_n hx hb d_D_add_0 rfl (lv_at hl 0 rfl) ?_
  refine pd_gD M hw 0 4 rfl (by decide) k_f_D_26 rfl d_D_add_1 ?_
  refine pd_sipush (k := 128) M d_D_add_4 (by decide) ?_
  refine pd_cne M d_D_add_7 (tgt := 12) (by decide) (by omega) (by omega) (fun h7 => ?_) (fun h7 => ?_)
  · refine lv_aload_n hx hb d_D_add_12 rfl (lv_at hl 0 rfl) ?_
    refine pd_gD M hw 0 0 rfl (by decide) k_f_D_9 rfl d_D_add_13 ?_
    refine lv_aload_n hx hb d_D_add_16 rfl (lv_at hl 0 rfl) ?_
    refine lv_dup hx hb d_D_add_17 rfl ?_
    refine pd_gD M hw 0 4 rfl (by decide) k_f_D_26 rfl d_D_add_18 ?_
    refine lv_dup_x1 hx hb d_D_add_21 rfl rfl ?_
    refine pd_iconst (k := 1) M d_D_add_22 (by decide) ?_
    refine pd_iadd M d_D_add_23 ?_
    refine pd_pD M hw 0 4 rfl (by decide) k_f_D_26 rfl rfl rfl (Nat.le_of_ble_eq_true rfl) d_D_add_24 (fun H locs hw => ?_)
    have hw : Hd A D (tyD cA) s (wd a cA (n + 1) md my gs tx bo re od pl co gr th se ct) H locs := hw
    refine lv_iload_n hx hb d_D_add_27 rfl (lv_at hl 1 rfl) ?_
    refine pd_iconst (k := 3) M d_D_add_28 (by decide) ?_
    refine pd_iand M 2 d_D_add_29 (by decide) ?_
    refine pd_top (b := l4 x) (rfl) ?_
    refine pd_ast M hw 1 0 rfl rfl (by omega) (by decide) d_D_add_30 (fun H locs hw => ?_)
    have hw : Hd A D (tyD cA) s (wd a cA (n + 1) md my gs (va_up tx n (l4 x)) bo re od pl co gr th se ct) H locs := hw
    refine lv_aload_n hx hb d_D_add_31 rfl (lv_at hl 0 rfl) ?_
    refine pd_iconst (k := 0) M d_D_add_32 (by decide) ?_
    refine pd_pD M hw 0 5 rfl (by decide) k_f_D_30 rfl rfl rfl (Nat.le_of_ble_eq_true rfl) d_D_add_33 (fun H locs hw => ?_)
    have hw : Hd A D (tyD cA) s (wd a cA (n + 1) 0 my gs (va_up tx n (l4 x)) bo re od pl co gr th se ct) H locs := hw
    refine pd_iconst (k := 1) M d_D_add_36 (by decide) ?_
    exact pd_ret M () hw (by decide) (rfl) d_D_add_37
  · omega
set_option maxHeartbeats 4000000 in
set_option maxRecDepth 100000 in
theorem c_D_add0 (l : Launch) (D : va_G) (a : Nat → Nat) (cA : Nat → ClassId) (n md my gs : Nat) (tx bo re od pl co gr th se ct : Nat → Nat) (x : Int32) (hn : n = 128) : Ci l y_D_add b_D_add 2 (some .boolean) 0 0 D (tyD cA) [.ref (a 0), .int x] (wd a cA n md my gs tx bo re od pl co gr th se ct) (Unit) (fun r _ => r = nI 0) (fun _ => (wd a cA n md my gs tx bo re od pl co gr th se ct)) := by
  refine Ci_of (by decide) (Nat.le_of_ble_eq_true rfl) ?_
  intro p e s m below meth c A ls M hw hl
  have M : Mx b_D_add R_D 2 (some .boolean) p s m meth c ([.ref (a 0), .int x] : List Value).toArray := M
  have hl : lv_has ls 2 [(0, .ref (a 0)), (1, .int x)] := hl
  obtain ⟨hx, hb, -, -, -, -, -⟩ := id M
  refine lv_aload_n hx hb d_D_add_0 rfl (lv_at hl 0 rfl) ?_
  refine pd_gD M hw 0 4 rfl (by decide) k_f_D_26 rfl d_D_add_1 ?_
  refine pd_sipush (k := 128) M d_D_add_4 (by decide) ?_
  refine pd_cne M d_D_add_7 (tgt := 12) (by decide) (by omega) (by omega) (fun h7 => ?_) (fun h7 => ?_)
  · omega
  · refine pd_iconst (k := 0) M d_D_add_10 (by decide) ?_
    exact pd_ret M () hw (by decide) (rfl) d_D_add_11
set_option maxHeartbeats 4000000 in
set_option maxRecDepth 100000 in
theorem c_D_one (l : Launch) (D : va_G) (a : Nat → Nat) (cA : Nat → ClassId) (n md my gs : Nat) (tx bo re od pl co gr th se ct : Nat → Nat) (x : Int32) (hn : n < 128) : Ci l y_D_one b_D_one 2 (some .boolean) 1 21 D (tyD cA) [.ref (a 0), .int x] (wd a cA n md my gs tx bo re od pl co gr th se ct) (Unit) (fun r _ => r = nI 1) (fun _ => (wd a cA (n + 1) 0 my gs (va_up tx n (l4 x)) bo re od pl co gr th se ct)) := by
  refine Ci_of (by decide) (Nat.le_of_ble_eq_true rfl) ?_
  intro p e s m below meth c A ls M hw hl
  have M : Mx b_D_one R_D 2 (some .boolean) p s m meth c ([.ref (a 0), .int x] : List Value).toArray := M
  have hl : lv_has ls 2 [(0, .ref (a 0)), (1, .int x)] := hl
  obtain ⟨hx, hb, -, -, -, -, -⟩ := id M
  refine lv_aload_n hx hb d_D_one_0 rfl (lv_at hl 0 rfl) ?_
  refine lv_iload_n hx hb d_D_one_1 rfl (lv_at hl 1 rfl) ?_
  refine pd_calli (As := [.int x]) (rest := []) (wr := []) M hw (c_D_add l D a cA n md my gs tx bo re od pl co gr th se ct x (by omega)) k_l_D_34 k_i_D_add k_s_D_add k_in_D k_c_D_add k_d_D_add ⟨Nat.le_of_ble_eq_true rfl, Nat.le_of_ble_eq_true rfl⟩ ⟨Nat.le_of_ble_eq_true rfl, Nat.le_of_ble_eq_true rfl⟩ [0, 1, 2, 3, 4, 5, 6, 7, 8, 9, 10, 11] [] [0, 1, 2, 3, 4, 5, 6, 7, 8, 9] rfl rfl rfl rfl (by decide) rfl rfl 0 rfl hl.1 (Nat.le_of_ble_eq_true rfl) rfl d_D_one_2 (fun r u H locs h1 hw => ?_)
  obtain rfl := h1
  have hw : Hd A D (tyD cA) s (wd a cA (n + 1) 0 my gs (va_up tx n (l4 x)) bo re od pl co gr th se ct) H locs := hw
  exact pd_ret M () hw (by decide) (rfl) d_D_one_5
set_option maxHeartbeats 4000000 in
set_option maxRecDepth 100000 in
theorem c_D_one0 (l : Launch) (D : va_G) (a : Nat → Nat) (cA : Nat → ClassId) (n md my gs : Nat) (tx bo re od pl co gr th se ct : Nat → Nat) (x : Int32) (hn : n = 128) : Ci l y_D_one b_D_one 2 (some .boolean) 1 21 D (tyD cA) [.ref (a 0), .int x] (wd a cA n md my gs tx bo re od pl co gr th se ct) (Unit) (fun r _ => r = nI 0) (fun _ => (wd a cA n md my gs tx bo re od pl co gr th se ct)) := by
  refine Ci_of (by decide) (Nat.le_of_ble_eq_true rfl) ?_
  intro p e s m below meth c A ls M hw hl
  have M : Mx b_D_one R_D 2 (some .boolean) p s m meth c ([.ref (a 0), .int x] : List Value).toArray := M
  have hl : lv_has ls 2 [(0, .ref (a 0)), (1, .int x)] := hl
  obtain ⟨hx, hb, -, -, -, -, -⟩ := id M
  refine lv_aload_n hx hb d_D_one_0 rfl (lv_at hl 0 rfl) ?_
  refine lv_iload_n hx hb d_D_one_1 rfl (lv_at hl 1 rfl) ?_
  refine pd_calli (As := [.int x]) (rest := []) (wr := []) M hw (c_D_add0 l D a cA n md my gs tx bo re od pl co gr th se ct x hn) k_l_D_34 k_i_D_add k_s_D_add k_in_D k_c_D_add k_d_D_add ⟨Nat.le_of_ble_eq_true rfl, Nat.le_of_ble_eq_true rfl⟩ ⟨Nat.le_of_ble_eq_true rfl, Nat.le_of_ble_eq_true rfl⟩ [0, 1, 2, 3, 4, 5, 6, 7, 8, 9, 10, 11] [] [0, 1, 2, 3, 4, 5, 6, 7, 8, 9] rfl rfl rfl rfl (by decide) rfl rfl 0 rfl hl.1 (Nat.le_of_ble_eq_true rfl) rfl d_D_one_2 (fun r u H locs h1 hw => ?_)
  obtain rfl := h1
  have hw : Hd A D (tyD cA) s (wd a cA n md my gs tx bo re od pl co gr th se ct) H locs := hw
  exact pd_ret M () hw (by decide) (rfl) d_D_one_5
set_option maxHeartbeats 4000000 in
set_option maxRecDepth 100000 in
theorem c_D_put (l : Launch) (D : va_G) (a : Nat → Nat) (cA : Nat → ClassId) (n md my gs : Nat) (tx bo re od pl co gr th se ct : Nat → Nat) (x1 x2 x3 x4 : Int32) (hn : n ≤ 124) : Ci l y_D_put b_D_put 5 (some .boolean) 1 21 D (tyD cA) [.ref (a 0), .int x1, .int x2, .int x3, .int x4] (wd a cA n md my gs tx bo re od pl co gr th se ct) (Unit) (fun r _ => r = nI 1) (fun _ => (wd a cA (n + 1 + 1 + 1 + 1) 0 my gs (va_up (va_up (va_up (va_up tx n (l4 x1)) (n + 1) (l4 x2)) (n + 1 + 1) (l4 x3)) (n + 1 + 1 + 1) (l4 x4)) bo re od pl co gr th se ct)) := by
  refine Ci_of (by decide) (Nat.le_of_ble_eq_true rfl) ?_
  intro p e s m below meth c A ls M hw hl
  have M : Mx b_D_put R_D 5 (some .boolean) p s m meth c ([.ref (a 0), .int x1, .int x2, .int x3, .int x4] : List Value).toArray := M
  have hl : lv_has ls 5 [(0, .ref (a 0)), (1, .int x1), (2, .int x2), (3, .int x3), (4, .int x4)] := hl
  obtain ⟨hx, hb, -, -, -, -, -⟩ := id M
  refine lv_aload_n hx hb d_D_put_0 rfl (lv_at hl 0 rfl) ?_
  refine pd_gD M hw 0 4 rfl (by decide) k_f_D_26 rfl d_D_put_1 ?_
  refine pd_bipush (k := 124) M d_D_put_4 (by decide) ?_
  refine pd_cgt M d_D_put_6 (tgt := 46) (by decide) (by omega) (by omega) (fun h6 => ?_) (fun h6 => ?_)
  · omega
  · refine lv_aload_n hx hb d_D_put_9 rfl (lv_at hl 0 rfl) ?_
    refine lv_iload_n hx hb d_D_put_10 rfl (lv_at hl 1 rfl) ?_
    refine pd_calli (As := [.int x1]) (rest := []) (wr := []) M hw (c_D_add l D a cA n md my gs tx bo re od pl co gr th se ct x1 (by omega)) k_l_D_34 k_i_D_add k_s_D_add k_in_D k_c_D_add k_d_D_add ⟨Nat.le_of_ble_eq_true rfl, Nat.le_of_ble_eq_true rfl⟩ ⟨Nat.le_of_ble_eq_true rfl, Nat.le_of_ble_eq_true rfl⟩ [0, 1, 2, 3, 4, 5, 6, 7, 8, 9, 10, 11] [] [0, 1, 2, 3, 4, 5, 6, 7, 8, 9] rfl rfl rfl rfl (by decide) rfl rfl 0 rfl hl.1 (Nat.le_of_ble_eq_true rfl) rfl d_D_put_11 (fun r u H locs h11 hw => ?_)
    obtain rfl := h11
    have hw : Hd A D (tyD cA) s (wd a cA (n + 1) 0 my gs (va_up tx n (l4 x1)) bo re od pl co gr th se ct) H locs := hw
    refine pd_ieq M d_D_put_14 (tgt := 46) (by decide) (by omega) (fun h14 => ?_) (fun h14 => ?_)
    · exact absurd h14 (by decide)
    · refine lv_aload_n hx hb d_D_put_17 rfl (lv_at hl 0 rfl) ?_
      refine lv_iload_n hx hb d_D_put_18 rfl (lv_at hl 2 rfl) ?_
      refine pd_calli (As := [.int x2]) (rest := []) (wr := []) M hw (c_D_add l D a cA (n + 1) 0 my gs (va_up tx n (l4 x1)) bo re od pl co gr th se ct x2 (by omega)) k_l_D_34 k_i_D_add k_s_D_add k_in_D k_c_D_add k_d_D_add ⟨Nat.le_of_ble_eq_true rfl, Nat.le_of_ble_eq_true rfl⟩ ⟨Nat.le_of_ble_eq_true rfl, Nat.le_of_ble_eq_true rfl⟩ [0, 1, 2, 3, 4, 5, 6, 7, 8, 9, 10, 11] [] [0, 1, 2, 3, 4, 5, 6, 7, 8, 9] rfl rfl rfl rfl (by decide) rfl rfl 0 rfl hl.1 (Nat.le_of_ble_eq_true rfl) rfl d_D_put_19 (fun r u H locs h19 hw => ?_)
      obtain rfl := h19
      have hw : Hd A D (tyD cA) s (wd a cA (n + 1 + 1) 0 my gs (va_up (va_up tx n (l4 x1)) (n + 1) (l4 x2)) bo re od pl co gr th se ct) H locs := hw
      refine pd_ieq M d_D_put_22 (tgt := 46) (by decide) (by omega) (fun h22 => ?_) (fun h22 => ?_)
      · exact absurd h22 (by decide)
      · refine lv_aload_n hx hb d_D_put_25 rfl (lv_at hl 0 rfl) ?_
        refine lv_iload_n hx hb d_D_put_26 rfl (lv_at hl 3 rfl) ?_
        refine pd_calli (As := [.int x3]) (rest := []) (wr := []) M hw (c_D_add l D a cA (n + 1 + 1) 0 my gs (va_up (va_up tx n (l4 x1)) (n + 1) (l4 x2)) bo re od pl co gr th se ct x3 (by omega)) k_l_D_34 k_i_D_add k_s_D_add k_in_D k_c_D_add k_d_D_add ⟨Nat.le_of_ble_eq_true rfl, Nat.le_of_ble_eq_true rfl⟩ ⟨Nat.le_of_ble_eq_true rfl, Nat.le_of_ble_eq_true rfl⟩ [0, 1, 2, 3, 4, 5, 6, 7, 8, 9, 10, 11] [] [0, 1, 2, 3, 4, 5, 6, 7, 8, 9] rfl rfl rfl rfl (by decide) rfl rfl 0 rfl hl.1 (Nat.le_of_ble_eq_true rfl) rfl d_D_put_27 (fun r u H locs h27 hw => ?_)
        obtain rfl := h27
        have hw : Hd A D (tyD cA) s (wd a cA (n + 1 + 1 + 1) 0 my gs (va_up (va_up (va_up tx n (l4 x1)) (n + 1) (l4 x2)) (n + 1 + 1) (l4 x3)) bo re od pl co gr th se ct) H locs := hw
        refine pd_ieq M d_D_put_30 (tgt := 46) (by decide) (by omega) (fun h30 => ?_) (fun h30 => ?_)
        · exact absurd h30 (by decide)
        · refine lv_aload_n hx hb d_D_put_33 rfl (lv_at hl 0 rfl) ?_
          refine lv_iload hx hb d_D_put_34 (lv_at hl 4 rfl) ?_
          refine pd_calli (As := [.int x4]) (rest := []) (wr := []) M hw (c_D_add l D a cA (n + 1 + 1 + 1) 0 my gs (va_up (va_up (va_up tx n (l4 x1)) (n + 1) (l4 x2)) (n + 1 + 1) (l4 x3)) bo re od pl co gr th se ct x4 (by omega)) k_l_D_34 k_i_D_add k_s_D_add k_in_D k_c_D_add k_d_D_add ⟨Nat.le_of_ble_eq_true rfl, Nat.le_of_ble_eq_true rfl⟩ ⟨Nat.le_of_ble_eq_true rfl, Nat.le_of_ble_eq_true rfl⟩ [0, 1, 2, 3, 4, 5, 6, 7, 8, 9, 10, 11] [] [0, 1, 2, 3, 4, 5, 6, 7, 8, 9] rfl rfl rfl rfl (by decide) rfl rfl 0 rfl hl.1 (Nat.le_of_ble_eq_true rfl) rfl d_D_put_36 (fun r u H locs h36 hw => ?_)
          obtain rfl := h36
          have hw : Hd A D (tyD cA) s (wd a cA (n + 1 + 1 + 1 + 1) 0 my gs (va_up (va_up (va_up (va_up tx n (l4 x1)) (n + 1) (l4 x2)) (n + 1 + 1) (l4 x3)) (n + 1 + 1 + 1) (l4 x4)) bo re od pl co gr th se ct) H locs := hw
          refine pd_ieq M d_D_put_39 (tgt := 46) (by decide) (by omega) (fun h39 => ?_) (fun h39 => ?_)
          · exact absurd h39 (by decide)
          · refine pd_iconst (k := 1) M d_D_put_42 (by decide) ?_
            refine lv_goto (tgt := 47) hx hb d_D_put_43 (by decide) ?_
            exact pd_ret M () hw (by decide) (rfl) d_D_put_47
set_option maxHeartbeats 4000000 in
set_option maxRecDepth 100000 in
theorem c_D_put0 (l : Launch) (D : va_G) (a : Nat → Nat) (cA : Nat → ClassId) (n md my gs : Nat) (tx bo re od pl co gr th se ct : Nat → Nat) (x1 x2 x3 x4 : Int32) (hn : 124 < n) (hm : n ≤ 128) : Ci l y_D_put b_D_put 5 (some .boolean) 1 21 D (tyD cA) [.ref (a 0), .int x1, .int x2, .int x3, .int x4] (wd a cA n md my gs tx bo re od pl co gr th se ct) (Unit) (fun r _ => r = nI 0) (fun _ => (wd a cA n md my gs tx bo re od pl co gr th se ct)) := by
  refine Ci_of (by decide) (Nat.le_of_ble_eq_true rfl) ?_
  intro p e s m below meth c A ls M hw hl
  have M : Mx b_D_put R_D 5 (some .boolean) p s m meth c ([.ref (a 0), .int x1, .int x2, .int x3, .int x4] : List Value).toArray := M
  have hl : lv_has ls 5 [(0, .ref (a 0)), (1, .int x1), (2, .int x2), (3, .int x3), (4, .int x4)] := hl
  obtain ⟨hx, hb, -, -, -, -, -⟩ := id M
  refine lv_aload_n hx hb d_D_put_0 rfl (lv_at hl 0 rfl) ?_
  refine pd_gD M hw 0 4 rfl (by decide) k_f_D_26 rfl d_D_put_1 ?_
  refine pd_bipush (k := 124) M d_D_put_4 (by decide) ?_
  refine pd_cgt M d_D_put_6 (tgt := 46) (by decide) (by omega) (by omega) (fun h6 => ?_) (fun h6 => ?_)
  · refine pd_iconst (k := 0) M d_D_put_46 (by decide) ?_
    exact pd_ret M () hw (by decide) (rfl) d_D_put_47
  · omega
set_option maxHeartbeats 4000000 in
set_option maxRecDepth 100000 in
theorem c_D_below (l : Launch) (D : va_G) (x : Int32) (k : Nat) (h0 : 0 < k) (hk : k < 2 ^ 31) : Ci l y_D_below b_D_below 2 (some .int) 0 0 D [] [.int x, .int (nI k)] [] Unit (fun r _ => r = nI (b31 x % k)) (fun _ => []) := by
  refine Ci_of (by decide) (Nat.le_of_ble_eq_true rfl) ?_
  intro p e s m below meth c A ls M hw hl
  have M : Mx b_D_below R_D 2 (some .int) p s m meth c ([.int x, .int (nI k)] : List Value).toArray := M
  have hl : lv_has ls 2 [(0, .int x), (1, .int (nI k))] := hl
  obtain ⟨hx, hb, -, -, -, -, -⟩ := id M
  have hbx := b31_lt x
  refine lv_iload_n hx hb d_D_below_0 rfl (lv_at hl 0 rfl) ?_
  refine pd_ldc M k_k_D_59 d_D_below_1 ?_
  refine pd_iand M 31 d_D_below_3 (by decide) ?_
  refine pd_top (b := b31 x) (rfl) ?_
  refine lv_iload_n hx hb d_D_below_4 rfl (lv_at hl 1 rfl) ?_
  refine pd_irem M d_D_below_5 (by omega) (by omega) (by omega) ?_
  exact pd_ret M () hw (rfl) (rfl) d_D_below_6
end
section
/-! the model's small methods, reckon, same -/
set_option maxHeartbeats 4000000 in
set_option maxRecDepth 100000 in
theorem c_M_length (l : Launch) (D : va_G) (b : Nat → Nat) (cB : Nat → ClassId) (mn : Nat) (mt cm : Nat → Nat) : Ci l y_M_length b_M_length 1 (some .int) 0 0 D (tyM cB) [.ref (b 0)] (wm b cB mn mt cm) (Unit) (fun r _ => r = nI mn) (fun _ => (wm b cB mn mt cm)) := by
  refine Ci_of (by decide) (Nat.le_of_ble_eq_true rfl) ?_
  intro p e s m below meth c A ls M hw hl
  have M : Mx b_M_length R_M 1 (some .int) p s m meth c ([.ref (b 0)] : List Value).toArray := M
  have hl : lv_has ls 1 [(0, .ref (b 0))] := hl
  obtain ⟨hx, hb, -, -, -, -, -⟩ := id M
  refine lv_aload_n hx hb d_M_length_0 rfl (lv_at hl 0 rfl) ?_
  refine pd_gM M hw 0 1 rfl (by decide) k_f_M_16 rfl d_M_length_1 ?_
  exact pd_ret M () hw (rfl) (rfl) d_M_length_4
set_option maxHeartbeats 4000000 in
set_option maxRecDepth 100000 in
theorem c_M_cut (l : Launch) (D : va_G) (b : Nat → Nat) (cB : Nat → ClassId) (mn : Nat) (mt cm : Nat → Nat) (hn : mn ≤ 128) (h0 : 0 < mn) : Ci l y_M_cut b_M_cut 1 (some .boolean) 0 0 D (tyM cB) [.ref (b 0)] (wm b cB mn mt cm) (Unit) (fun r _ => r = nI 1) (fun _ => (wm b cB (mn - 1) mt cm)) := by
  refine Ci_of (by decide) (Nat.le_of_ble_eq_true rfl) ?_
  intro p e s m below meth c A ls M hw hl
  have M : Mx b_M_cut R_M 1 (some .boolean) p s m meth c ([.ref (b 0)] : List Value).toArray := M
  have hl : lv_has ls 1 [(0, .ref (b 0))] := hl
  obtain ⟨hx, hb, -, -, -, -, -⟩ := id M
  refine lv_aload_n hx hb d_M_cut_0 rfl (lv_at hl 0 rfl) ?_
  refine pd_gM M hw 0 1 rfl (by decide) k_f_M_16 rfl d_M_cut_1 ?_
  refine pd_ine M d_M_cut_4 (tgt := 9) (by decide) (by omega) (fun h4 => ?_) (fun h4 => ?_)
  · refine lv_aload_n hx hb d_M_cut_9 rfl (lv_at hl 0 rfl) ?_
    refine lv_aload_n hx hb d_M_cut_10 rfl (lv_at hl 0 rfl) ?_
    refine pd_gM M hw 0 1 rfl (by decide) k_f_M_16 rfl d_M_cut_11 ?_
    refine pd_iconst (k := 1) M d_M_cut_14 (by decide) ?_
    refine pd_isub M d_M_cut_15 (by omega) ?_
    refine pd_pM M hw 0 1 rfl (by decide) k_f_M_16 rfl rfl rfl (Nat.le_of_ble_eq_true rfl) d_M_cut_16 (fun H locs hw => ?_)
    have hw : Hd A D (tyM cB) s (wm b cB (mn - 1) mt cm) H locs := hw
    refine pd_iconst (k := 1) M d_M_cut_19 (by decide) ?_
    exact pd_ret M () hw (by decide) (rfl) d_M_cut_20
  · omega
set_option maxHeartbeats 4000000 in
set_option maxRecDepth 100000 in
theorem c_M_cut0 (l : Launch) (D : va_G) (b : Nat → Nat) (cB : Nat → ClassId) (mn : Nat) (mt cm : Nat → Nat) (h0 : mn = 0) : Ci l y_M_cut b_M_cut 1 (some .boolean) 0 0 D (tyM cB) [.ref (b 0)] (wm b cB mn mt cm) (Unit) (fun r _ => r = nI 0) (fun _ => (wm b cB mn mt cm)) := by
  refine Ci_of (by decide) (Nat.le_of_ble_eq_true rfl) ?_
  intro p e s m below meth c A ls M hw hl
  have M : Mx b_M_cut R_M 1 (some .boolean) p s m meth c ([.ref (b 0)] : List Value).toArray := M
  have hl : lv_has ls 1 [(0, .ref (b 0))] := hl
  obtain ⟨hx, hb, -, -, -, -, -⟩ := id M
  refine lv_aload_n hx hb d_M_cut_0 rfl (lv_at hl 0 rfl) ?_
  refine pd_gM M hw 0 1 rfl (by decide) k_f_M_16 rfl d_M_cut_1 ?_
  refine pd_ine M d_M_cut_4 (tgt := 9) (by decide) (by omega) (fun h4 => ?_) (fun h4 => ?_)
  · omega
  · refine pd_iconst (k := 0) M d_M_cut_7 (by decide) ?_
    exact pd_ret M () hw (by decide) (rfl) d_M_cut_8
set_option maxHeartbeats 4000000 in
set_option maxRecDepth 100000 in
theorem c_M_one (l : Launch) (D : va_G) (b : Nat → Nat) (cB : Nat → ClassId) (mn : Nat) (mt cm : Nat → Nat) (x : Int32) (hn : mn < 128) : Ci l y_M_one b_M_one 2 (some .boolean) 0 0 D (tyM cB) [.ref (b 0), .int x] (wm b cB mn mt cm) (Unit) (fun r _ => r = nI 1) (fun _ => (wm b cB (mn + 1) (va_up mt mn (l4 x)) cm)) := by
  refine Ci_of (by decide) (Nat.le_of_ble_eq_true rfl) ?_
  intro p e s m below meth c A ls M hw hl
  have M : Mx b_M_one R_M 2 (some .boolean) p s m meth c ([.ref (b 0), .int x] : List Value).toArray := M
  have hl : lv_has ls 2 [(0, .ref (b 0)), (1, .int x)] := hl
  obtain ⟨hx, hb, -, -, -, -, -⟩ := id M
  refine lv_aload_n hx hb d_M_one_0 rfl (lv_at hl 0 rfl) ?_
  refine pd_gM M hw 0 1 rfl (by decide) k_f_M_16 rfl d_M_one_1 ?_
  refine pd_sipush (k := 128) M d_M_one_4 (by decide) ?_
  refine pd_cne M d_M_one_7 (tgt := 12) (by decide) (by omega) (by omega) (fun h7 => ?_) (fun h7 => ?_)
  · refine lv_aload_n hx hb d_M_one_12 rfl (lv_at hl 0 rfl) ?_
    refine pd_gM M hw 0 0 rfl (by decide) k_f_M_7 rfl d_M_one_13 ?_
    refine lv_aload_n hx hb d_M_one_16 rfl (lv_at hl 0 rfl) ?_
    refine pd_gM M hw 0 1 rfl (by decide) k_f_M_16 rfl d_M_one_17 ?_
    refine lv_iload_n hx hb d_M_one_20 rfl (lv_at hl 1 rfl) ?_
    refine pd_iconst (k := 3) M d_M_one_21 (by decide) ?_
    refine pd_iand M 2 d_M_one_22 (by decide) ?_
    refine pd_top (b := l4 x) (rfl) ?_
    refine pd_ast M hw 1 0 rfl rfl (by omega) (by decide) d_M_one_23 (fun H locs hw => ?_)
    have hw : Hd A D (tyM cB) s (wm b cB mn (va_up mt mn (l4 x)) cm) H locs := hw
    refine lv_aload_n hx hb d_M_one_24 rfl (lv_at hl 0 rfl) ?_
    refine lv_aload_n hx hb d_M_one_25 rfl (lv_at hl 0 rfl) ?_
    refine pd_gM M hw 0 1 rfl (by decide) k_f_M_16 rfl d_M_one_26 ?_
    refine pd_iconst (k := 1) M d_M_one_29 (by decide) ?_
    refine pd_iadd M d_M_one_30 ?_
    refine pd_pM M hw 0 1 rfl (by decide) k_f_M_16 rfl rfl rfl (Nat.le_of_ble_eq_true rfl) d_M_one_31 (fun H locs hw => ?_)
    have hw : Hd A D (tyM cB) s (wm b cB (mn + 1) (va_up mt mn (l4 x)) cm) H locs := hw
    refine pd_iconst (k := 1) M d_M_one_34 (by decide) ?_
    exact pd_ret M () hw (by decide) (rfl) d_M_one_35
  · omega
set_option maxHeartbeats 4000000 in
set_option maxRecDepth 100000 in
theorem c_M_one0 (l : Launch) (D : va_G) (b : Nat → Nat) (cB : Nat → ClassId) (mn : Nat) (mt cm : Nat → Nat) (x : Int32) (hn : mn = 128) : Ci l y_M_one b_M_one 2 (some .boolean) 0 0 D (tyM cB) [.ref (b 0), .int x] (wm b cB mn mt cm) (Unit) (fun r _ => r = nI 0) (fun _ => (wm b cB mn mt cm)) := by
  refine Ci_of (by decide) (Nat.le_of_ble_eq_true rfl) ?_
  intro p e s m below meth c A ls M hw hl
  have M : Mx b_M_one R_M 2 (some .boolean) p s m meth c ([.ref (b 0), .int x] : List Value).toArray := M
  have hl : lv_has ls 2 [(0, .ref (b 0)), (1, .int x)] := hl
  obtain ⟨hx, hb, -, -, -, -, -⟩ := id M
  refine lv_aload_n hx hb d_M_one_0 rfl (lv_at hl 0 rfl) ?_
  refine pd_gM M hw 0 1 rfl (by decide) k_f_M_16 rfl d_M_one_1 ?_
  refine pd_sipush (k := 128) M d_M_one_4 (by decide) ?_
  refine pd_cne M d_M_one_7 (tgt := 12) (by decide) (by omega) (by omega) (fun h7 => ?_) (fun h7 => ?_)
  · omega
  · refine pd_iconst (k := 0) M d_M_one_10 (by decide) ?_
    exact pd_ret M () hw (by decide) (rfl) d_M_one_11
set_option maxHeartbeats 4000000 in
set_option maxRecDepth 100000 in
theorem c_M_put (l : Launch) (D : va_G) (b : Nat → Nat) (cB : Nat → ClassId) (mn : Nat) (mt cm : Nat → Nat) (x1 x2 x3 x4 : Int32) (hn : mn ≤ 124) : Ci l y_M_put b_M_put 6 (some .boolean) 0 0 D (tyM cB) [.ref (b 0), .int x1, .int x2, .int x3, .int x4] (wm b cB mn mt cm) (Unit) (fun r _ => r = nI 1) (fun _ => (wm b cB (mn + 1 + 1 + 1 + 1) (va_up (va_up (va_up (va_up mt mn (l4 x1)) (mn + 1) (l4 x2)) (mn + 1 + 1) (l4 x3)) (mn + 1 + 1 + 1) (l4 x4)) cm)) := by
  refine Ci_of (by decide) (Nat.le_of_ble_eq_true rfl) ?_
  intro p e s m below meth c A ls M hw hl
  have M : Mx b_M_put R_M 6 (some .boolean) p s m meth c ([.ref (b 0), .int x1, .int x2, .int x3, .int x4] : List Value).toArray := M
  have hl : lv_has ls 6 [(0, .ref (b 0)), (1, .int x1), (2, .int x2), (3, .int x3), (4, .int x4)] := hl
  obtain ⟨hx, hb, -, -, -, -, -⟩ := id M
  refine lv_aload_n hx hb d_M_put_0 rfl (lv_at hl 0 rfl) ?_
  refine pd_gM M hw 0 1 rfl (by decide) k_f_M_16 rfl d_M_put_1 ?_
  refine pd_iconst (k := 4) M d_M_put_4 (by decide) ?_
  refine pd_iadd M d_M_put_5 ?_
  refine pd_sipush (k := 128) M d_M_put_6 (by decide) ?_
  refine pd_cle M d_M_put_9 (tgt := 14) (by decide) (by omega) (by omega) (fun h9 => ?_) (fun h9 => ?_)
  · refine pd_iconst (k := 0) M d_M_put_14 (by decide) ?_
    refine lv_istore (lv' := [(5, .int (nI 0)), (0, .ref (b 0)), (1, .int x1), (2, .int x2), (3, .int x3), (4, .int x4)]) hx hb d_M_put_15 hl (by decide) rfl (fun ls hl => ?_)
    refine lv_iload hx hb d_M_put_17 (lv_at hl 0 rfl) ?_
    refine pd_iconst (k := 4) M d_M_put_19 (by decide) ?_
    refine pd_cge M d_M_put_20 (tgt := 81) (by decide) (by omega) (by omega) (fun h20 => ?_) (fun h20 => ?_)
    · exact absurd h20 (by decide)
    · refine lv_aload_n hx hb d_M_put_23 rfl (lv_at hl 1 rfl) ?_
      refine pd_gM M hw 0 0 rfl (by decide) k_f_M_7 rfl d_M_put_24 ?_
      refine lv_aload_n hx hb d_M_put_27 rfl (lv_at hl 1 rfl) ?_
      refine pd_gM M hw 0 1 rfl (by decide) k_f_M_16 rfl d_M_put_28 ?_
      refine lv_iload hx hb d_M_put_31 (lv_at hl 0 rfl) ?_
      refine pd_ine M d_M_put_33 (tgt := 40) (by decide) (by omega) (fun h33 => ?_) (fun h33 => ?_)
      · exact absurd h33 (by decide)
      · refine lv_iload_n hx hb d_M_put_36 rfl (lv_at hl 2 rfl) ?_
        refine lv_goto (tgt := 62) hx hb d_M_put_37 (by decide) ?_
        refine pd_iconst (k := 3) M d_M_put_62 (by decide) ?_
        refine pd_iand M 2 d_M_put_63 (by decide) ?_
        refine pd_top (b := l4 x1) rfl ?_
        refine pd_ast M hw 1 0 rfl rfl (by omega) (by decide) d_M_put_64 (fun H locs hw => ?_)
        have hw : Hd A D (tyM cB) s (wm b cB mn (va_up mt mn (l4 x1)) cm) H locs := hw
        refine lv_aload_n hx hb d_M_put_65 rfl (lv_at hl 1 rfl) ?_
        refine lv_aload_n hx hb d_M_put_66 rfl (lv_at hl 1 rfl) ?_
        refine pd_gM M hw 0 1 rfl (by decide) k_f_M_16 rfl d_M_put_67 ?_
        refine pd_iconst (k := 1) M d_M_put_70 (by decide) ?_
        refine pd_iadd M d_M_put_71 ?_
        refine pd_pM M hw 0 1 rfl (by decide) k_f_M_16 rfl rfl rfl (Nat.le_of_ble_eq_true rfl) d_M_put_72 (fun H locs hw => ?_)
        have hw : Hd A D (tyM cB) s (wm b cB (mn + 1) (va_up mt mn (l4 x1)) cm) H locs := hw
        refine pd_iinc (j := 1) (lv' := [(5, .int (nI (0 + 1))), (0, .ref (b 0)), (1, .int x1), (2, .int x2), (3, .int x3), (4, .int x4)]) M d_M_put_75 hl (k := 0) rfl (by decide) (by decide) rfl (fun ls hl => ?_)
        refine lv_goto (tgt := 17) hx hb d_M_put_78 (by decide) ?_
        refine lv_iload hx hb d_M_put_17 (lv_at hl 0 rfl) ?_
        refine pd_iconst (k := 4) M d_M_put_19 (by decide) ?_
        refine pd_cge M d_M_put_20 (tgt := 81) (by decide) (by omega) (by omega) (fun h20 => ?_) (fun h20 => ?_)
        · exact absurd h20 (by decide)
        · refine lv_aload_n hx hb d_M_put_23 rfl (lv_at hl 1 rfl) ?_
          refine pd_gM M hw 0 0 rfl (by decide) k_f_M_7 rfl d_M_put_24 ?_
          refine lv_aload_n hx hb d_M_put_27 rfl (lv_at hl 1 rfl) ?_
          refine pd_gM M hw 0 1 rfl (by decide) k_f_M_16 rfl d_M_put_28 ?_
          refine lv_iload hx hb d_M_put_31 (lv_at hl 0 rfl) ?_
          refine pd_ine M d_M_put_33 (tgt := 40) (by decide) (by omega) (fun h33 => ?_) (fun h33 => ?_)
          · refine lv_iload hx hb d_M_put_40 (lv_at hl 0 rfl) ?_
            refine pd_iconst (k := 1) M d_M_put_42 (by decide) ?_
            refine pd_cne M d_M_put_43 (tgt := 50) (by decide) (by omega) (by omega) (fun h43 => ?_) (fun h43 => ?_)
            · exact absurd h43 (by decide)
            · refine lv_iload_n hx hb d_M_put_46 rfl (lv_at hl 3 rfl) ?_
              refine lv_goto (tgt := 62) hx hb d_M_put_47 (by decide) ?_
              refine pd_iconst (k := 3) M d_M_put_62 (by decide) ?_
              refine pd_iand M 2 d_M_put_63 (by decide) ?_
              refine pd_top (b := l4 x2) rfl ?_
              refine pd_ast M hw 1 0 rfl rfl (by omega) (by decide) d_M_put_64 (fun H locs hw => ?_)
              have hw : Hd A D (tyM cB) s (wm b cB (mn + 1) (va_up (va_up mt mn (l4 x1)) (mn + 1) (l4 x2)) cm) H locs := hw
              refine lv_aload_n hx hb d_M_put_65 rfl (lv_at hl 1 rfl) ?_
              refine lv_aload_n hx hb d_M_put_66 rfl (lv_at hl 1 rfl) ?_
              refine pd_gM M hw 0 1 rfl (by decide) k_f_M_16 rfl d_M_put_67 ?_
              refine pd_iconst (k := 1) M d_M_put_70 (by decide) ?_
              refine pd_iadd M d_M_put_71 ?_
              refine pd_pM M hw 0 1 rfl (by decide) k_f_M_16 rfl rfl rfl (Nat.le_of_ble_eq_true rfl) d_M_put_72 (fun H locs hw => ?_)
              have hw : Hd A D (tyM cB) s (wm b cB ((mn + 1) + 1) (va_up (va_up mt mn (l4 x1)) (mn + 1) (l4 x2)) cm) H locs := hw
              refine pd_iinc (j := 1) (lv' := [(5, .int (nI ((0 + 1) + 1))), (0, .ref (b 0)), (1, .int x1), (2, .int x2), (3, .int x3), (4, .int x4)]) M d_M_put_75 hl (k := 0) rfl (by decide) (by decide) rfl (fun ls hl => ?_)
              refine lv_goto (tgt := 17) hx hb d_M_put_78 (by decide) ?_
              refine lv_iload hx hb d_M_put_17 (lv_at hl 0 rfl) ?_
              refine pd_iconst (k := 4) M d_M_put_19 (by decide) ?_
              refine pd_cge M d_M_put_20 (tgt := 81) (by decide) (by omega) (by omega) (fun h20 => ?_) (fun h20 => ?_)
              · exact absurd h20 (by decide)
              · refine lv_aload_n hx hb d_M_put_23 rfl (lv_at hl 1 rfl) ?_
                refine pd_gM M hw 0 0 rfl (by decide) k_f_M_7 rfl d_M_put_24 ?_
                refine lv_aload_n hx hb d_M_put_27 rfl (lv_at hl 1 rfl) ?_
                refine pd_gM M hw 0 1 rfl (by decide) k_f_M_16 rfl d_M_put_28 ?_
                refine lv_iload hx hb d_M_put_31 (lv_at hl 0 rfl) ?_
                refine pd_ine M d_M_put_33 (tgt := 40) (by decide) (by omega) (fun h33 => ?_) (fun h33 => ?_)
                · refine lv_iload hx hb d_M_put_40 (lv_at hl 0 rfl) ?_
                  refine pd_iconst (k := 1) M d_M_put_42 (by decide) ?_
                  refine pd_cne M d_M_put_43 (tgt := 50) (by decide) (by omega) (by omega) (fun h43 => ?_) (fun h43 => ?_)
                  · refine lv_iload hx hb d_M_put_50 (lv_at hl 0 rfl) ?_
                    refine pd_iconst (k := 2) M d_M_put_52 (by decide) ?_
                    refine pd_cne M d_M_put_53 (tgt := 60) (by decide) (by omega) (by omega) (fun h53 => ?_) (fun h53 => ?_)
                    · exact absurd h53 (by decide)
                    · refine lv_iload_n hx hb d_M_put_56 rfl (lv_at hl 4 rfl) ?_
                      refine lv_goto (tgt := 62) hx hb d_M_put_57 (by decide) ?_
                      refine pd_iconst (k := 3) M d_M_put_62 (by decide) ?_
                      refine pd_iand M 2 d_M_put_63 (by decide) ?_
                      refine pd_top (b := l4 x3) rfl ?_
                      refine pd_ast M hw 1 0 rfl rfl (by omega) (by decide) d_M_put_64 (fun H locs hw => ?_)
                      have hw : Hd A D (tyM cB) s (wm b cB ((mn + 1) + 1) (va_up (va_up (va_up mt mn (l4 x1)) (mn + 1) (l4 x2)) ((mn + 1) + 1) (l4 x3)) cm) H locs := hw
                      refine lv_aload_n hx hb d_M_put_65 rfl (lv_at hl 1 rfl) ?_
                      refine lv_aload_n hx hb d_M_put_66 rfl (lv_at hl 1 rfl) ?_
                      refine pd_gM M hw 0 1 rfl (by decide) k_f_M_16 rfl d_M_put_67 ?_
                      refine pd_iconst (k := 1) M d_M_put_70 (by decide) ?_
                      refine pd_iadd M d_M_put_71 ?_
                      refine pd_pM M hw 0 1 rfl (by decide) k_f_M_16 rfl rfl rfl (Nat.le_of_ble_eq_true rfl) d_M_put_72 (fun H locs hw => ?_)
                      have hw : Hd A D (tyM cB) s (wm b cB (((mn + 1) + 1) + 1) (va_up (va_up (va_up mt mn (l4 x1)) (mn + 1) (l4 x2)) ((mn + 1) + 1) (l4 x3)) cm) H locs := hw
                      refine pd_iinc (j := 1) (lv' := [(5, .int (nI (((0 + 1) + 1) + 1))), (0, .ref (b 0)), (1, .int x1), (2, .int x2), (3, .int x3), (4, .int x4)]) M d_M_put_75 hl (k := 0) rfl (by decide) (by decide) rfl (fun ls hl => ?_)
                      refine lv_goto (tgt := 17) hx hb d_M_put_78 (by decide) ?_
                      refine lv_iload hx hb d_M_put_17 (lv_at hl 0 rfl) ?_
                      refine pd_iconst (k := 4) M d_M_put_19 (by decide) ?_
                      refine pd_cge M d_M_put_20 (tgt := 81) (by decide) (by omega) (by omega) (fun h20 => ?_) (fun h20 => ?_)
                      · exact absurd h20 (by decide)
                      · refine lv_aload_n hx hb d_M_put_23 rfl (lv_at hl 1 rfl) ?_
                        refine pd_gM M hw 0 0 rfl (by decide) k_f_M_7 rfl d_M_put_24 ?_
                        refine lv_aload_n hx hb d_M_put_27 rfl (lv_at hl 1 rfl) ?_
                        refine pd_gM M hw 0 1 rfl (by decide) k_f_M_16 rfl d_M_put_28 ?_
                        refine lv_iload hx hb d_M_put_31 (lv_at hl 0 rfl) ?_
                        refine pd_ine M d_M_put_33 (tgt := 40) (by decide) (by omega) (fun h33 => ?_) (fun h33 => ?_)
                        · refine lv_iload hx hb d_M_put_40 (lv_at hl 0 rfl) ?_
                          refine pd_iconst (k := 1) M d_M_put_42 (by decide) ?_
                          refine pd_cne M d_M_put_43 (tgt := 50) (by decide) (by omega) (by omega) (fun h43 => ?_) (fun h43 => ?_)
                          · refine lv_iload hx hb d_M_put_50 (lv_at hl 0 rfl) ?_
                            refine pd_iconst (k := 2) M d_M_put_52 (by decide) ?_
                            refine pd_cne M d_M_put_53 (tgt := 60) (by decide) (by omega) (by omega) (fun h53 => ?_) (fun h53 => ?_)
                            · refine lv_iload hx hb d_M_put_60 (lv_at hl 5 rfl) ?_
                              refine pd_iconst (k := 3) M d_M_put_62 (by decide) ?_
                              refine pd_iand M 2 d_M_put_63 (by decide) ?_
                              refine pd_top (b := l4 x4) rfl ?_
                              refine pd_ast M hw 1 0 rfl rfl (by omega) (by decide) d_M_put_64 (fun H locs hw => ?_)
                              have hw : Hd A D (tyM cB) s (wm b cB (((mn + 1) + 1) + 1) (va_up (va_up (va_up (va_up mt mn (l4 x1)) (mn + 1) (l4 x2)) ((mn + 1) + 1) (l4 x3)) (((mn + 1) + 1) + 1) (l4 x4)) cm) H locs := hw
                              refine lv_aload_n hx hb d_M_put_65 rfl (lv_at hl 1 rfl) ?_
                              refine lv_aload_n hx hb d_M_put_66 rfl (lv_at hl 1 rfl) ?_
                              refine pd_gM M hw 0 1 rfl (by decide) k_f_M_16 rfl d_M_put_67 ?_
                              refine pd_iconst (k := 1) M d_M_put_70 (by decide) ?_
                              refine pd_iadd M d_M_put_71 ?_
                              refine pd_pM M hw 0 1 rfl (by decide) k_f_M_16 rfl rfl rfl (Nat.le_of_ble_eq_true rfl) d_M_put_72 (fun H locs hw => ?_)
                              have hw : Hd A D (tyM cB) s (wm b cB ((((mn + 1) + 1) + 1) + 1) (va_up (va_up (va_up (va_up mt mn (l4 x1)) (mn + 1) (l4 x2)) ((mn + 1) + 1) (l4 x3)) (((mn + 1) + 1) + 1) (l4 x4)) cm) H locs := hw
                              refine pd_iinc (j := 1) (lv' := [(5, .int (nI ((((0 + 1) + 1) + 1) + 1))), (0, .ref (b 0)), (1, .int x1), (2, .int x2), (3, .int x3), (4, .int x4)]) M d_M_put_75 hl (k := 0) rfl (by decide) (by decide) rfl (fun ls hl => ?_)
                              refine lv_goto (tgt := 17) hx hb d_M_put_78 (by decide) ?_
                              refine lv_iload hx hb d_M_put_17 (lv_at hl 0 rfl) ?_
                              refine pd_iconst (k := 4) M d_M_put_19 (by decide) ?_
                              refine pd_cge M d_M_put_20 (tgt := 81) (by decide) (by omega) (by omega) (fun h20 => ?_) (fun h20 => ?_)
                              · refine pd_iconst (k := 1) M d_M_put_81 (by decide) ?_
                                exact pd_ret M () hw (by decide) (rfl) d_M_put_82
                              · exact absurd h20 (by decide)
                            · exact absurd h53 (by decide)
                          · exact absurd h43 (by decide)
                        · exact absurd h33 (by decide)
                  · exact absurd h43 (by decide)
                · exact absurd h33 (by decide)
          · exact absurd h33 (by decide)
  · omega
set_option maxHeartbeats 4000000 in
set_option maxRecDepth 100000 in
theorem c_M_put0 (l : Launch) (D : va_G) (b : Nat → Nat) (cB : Nat → ClassId) (mn : Nat) (mt cm : Nat → Nat) (x1 x2 x3 x4 : Int32) (hn : 124 < mn) (hm : mn ≤ 128) : Ci l y_M_put b_M_put 6 (some .boolean) 0 0 D (tyM cB) [.ref (b 0), .int x1, .int x2, .int x3, .int x4] (wm b cB mn mt cm) (Unit) (fun r _ => r = nI 0) (fun _ => (wm b cB mn mt cm)) := by
  refine Ci_of (by decide) (Nat.le_of_ble_eq_true rfl) ?_
  intro p e s m below meth c A ls M hw hl
  have M : Mx b_M_put R_M 6 (some .boolean) p s m meth c ([.ref (b 0), .int x1, .int x2, .int x3, .int x4] : List Value).toArray := M
  have hl : lv_has ls 6 [(0, .ref (b 0)), (1, .int x1), (2, .int x2), (3, .int x3), (4, .int x4)] := hl
  obtain ⟨hx, hb, -, -, -, -, -⟩ := id M
  refine lv_aload_n hx hb d_M_put_0 rfl (lv_at hl 0 rfl) ?_
  refine pd_gM M hw 0 1 rfl (by decide) k_f_M_16 rfl d_M_put_1 ?_
  refine pd_iconst (k := 4) M d_M_put_4 (by decide) ?_
  refine pd_iadd M d_M_put_5 ?_
  refine pd_sipush (k := 128) M d_M_put_6 (by decide) ?_
  refine pd_cle M d_M_put_9 (tgt := 14) (by decide) (by omega) (by omega) (fun h9 => ?_) (fun h9 => ?_)
  · omega
  · refine pd_iconst (k := 0) M d_M_put_12 (by decide) ?_
    exact pd_ret M () hw (by decide) (rfl) d_M_put_13
set_option maxHeartbeats 4000000 in
set_option maxRecDepth 100000 in
theorem c_M_same (l : Launch) (D : va_G) (b : Nat → Nat) (cB : Nat → ClassId) (mn : Nat) (mt cm : Nat → Nat) (i j : Nat) (hi : i ≤ 128) (hj : j ≤ 128) : Ci l y_M_same b_M_same 3 (some .int) 0 0 D (tyM cB) [.ref (b 0), .int (nI i), .int (nI j)] (wm b cB mn mt cm) (Unit) (fun r _ => r = nI (cm (129 * i + j))) (fun _ => (wm b cB mn mt cm)) := by
  refine Ci_of (by decide) (Nat.le_of_ble_eq_true rfl) ?_
  intro p e s m below meth c A ls M hw hl
  have M : Mx b_M_same R_M 3 (some .int) p s m meth c ([.ref (b 0), .int (nI i), .int (nI j)] : List Value).toArray := M
  have hl : lv_has ls 3 [(0, .ref (b 0)), (1, .int (nI i)), (2, .int (nI j))] := hl
  obtain ⟨hx, hb, -, -, -, -, -⟩ := id M
  refine lv_aload_n hx hb d_M_same_0 rfl (lv_at hl 0 rfl) ?_
  refine pd_gM M hw 0 2 rfl (by decide) k_f_M_13 rfl d_M_same_1 ?_
  refine pd_sipush (k := 129) M d_M_same_4 (by decide) ?_
  refine lv_iload_n hx hb d_M_same_7 rfl (lv_at hl 1 rfl) ?_
  refine pd_imul M d_M_same_8 ?_
  refine lv_iload_n hx hb d_M_same_9 rfl (lv_at hl 2 rfl) ?_
  refine pd_iadd M d_M_same_10 ?_
  refine pd_ald M hw 2 1 rfl rfl (by omega) (by decide) d_M_same_11 ?_
  exact pd_ret M () hw (rfl) (rfl) d_M_same_12
def dn : Nat → Int32
  | 0 => -1
  | k + 1 => nI k
theorem dn_dec (k : Nat) : nI k + (-1) = dn k := by
  cases k with
  | zero => decide
  | succ k => exact pk_m1 k
/-- the table's rows from k on, and of row k - 1 the places from q on, hold the letters in common -/
def rkI (t : Nat → Nat) (n k q : Nat) (cm : Nat → Nat) : Prop := (∀ i j, k ≤ i → i ≤ n → j ≤ n → cm (129 * i + j) = lc t n i j) ∧ (0 < k → ∀ j, q ≤ j → j ≤ n → cm (129 * (k - 1) + j) = lc t n (k - 1) j)
theorem rkI_put {t : Nat → Nat} {n k q v : Nat} {cm : Nat → Nat} (hn : n ≤ 128) (hk : k ≤ n) (hq : q ≤ n) (h : rkI t n (k + 1) (q + 1) cm) (hv : v = lc t n k q) : rkI t n (k + 1) q (va_up cm (129 * k + q) v) := by
  refine ⟨fun i j h1 h2 h3 => ?_, fun _ j h1 h2 => ?_⟩
  · rw [up_n (by omega)]
    exact h.1 i j h1 h2 h3
  · show va_up cm (129 * k + q) v (129 * k + j) = lc t n k j
    by_cases e : j = q
    · rw [e, up_s, hv]
    · rw [up_n (by omega)]
      exact h.2 (by omega) j (by omega) h2
theorem rkI_row {t : Nat → Nat} {n k : Nat} {cm : Nat → Nat} (h : rkI t n (k + 1) 0 cm) : rkI t n k (n + 1) cm := by
  refine ⟨fun i j h1 h2 h3 => ?_, fun _ j h1 h2 => absurd h1 (by omega)⟩
  by_cases e : i = k
  · rw [e]
    exact h.2 (by omega) j (Nat.zero_le _) h3
  · exact h.1 i j (by omega) h2 h3
theorem rkI_0 {t : Nat → Nat} {n : Nat} {cm : Nat → Nat} : rkI t n (n + 1) (n + 1) cm := ⟨fun i j h1 h2 h3 => absurd h1 (by omega), fun _ j h1 h2 => absurd h1 (by omega)⟩
set_option maxHeartbeats 4000000 in
set_option maxRecDepth 100000 in
theorem rk_in {p : Program} {l : Launch} {e : Env} {R : Room} {s : State} {m : MethodId} {args : Array Value} {below : List Frame} {meth : Method} {c : Code} {cells slots : Nat} {Q : State → Prop} {A : Nat → Prop} {D : va_G} {b : Nat → Nat} {cB : Nat → ClassId} {mn : Nat} {mt : Nat → Nat} (M : Mx b_M_reckon R_M 3 none p s m meth c args) (hn : mn ≤ 128) (ht : ∀ i, i < mn → mt i < 4) {k : Nat} (hk : k ≤ mn)
    (K : ∀ (cm : Nat → Nat) (H : Heap) (locs : List Loc) (ls : Array Slot), rkI mt mn (k + 1) 0 cm → Hd A D (tyM cB) s (wm b cB mn mt cm) H locs → lv_has ls 3 [(2, .int (-1)), (0, .ref (b 0)), (1, .int (nI k))] → W p l e R s m args below meth c H locs cells slots Q (F0 m 89 ls [])) :
    ∀ (q : Nat) (cm : Nat → Nat) (H : Heap) (locs : List Loc) (ls : Array Slot), q ≤ mn + 1 → rkI mt mn (k + 1) q cm → Hd A D (tyM cB) s (wm b cB mn mt cm) H locs → lv_has ls 3 [(2, .int (dn q)), (0, .ref (b 0)), (1, .int (nI k))] → W p l e R s m args below meth c H locs cells slots Q (F0 m 14 ls []) := by
  obtain ⟨hx, hb, -, -, -, -, -⟩ := id M
  intro q
  induction q with
  | zero =>
    intro cm H locs ls hq hi hw hl
    refine lv_iload_n hx hb d_M_reckon_14 rfl (lv_at hl 0 rfl) ?_
    refine lv_if_lt (tgt := 89) hx hb d_M_reckon_15 (by decide) (fun _ => ?_) (fun z => absurd (by decide) z)
    exact K cm H locs ls hi hw hl
  | succ q ih =>
    intro cm H locs ls hq hi hw hl
    have hl : lv_has ls 3 [(2, .int (nI q)), (0, .ref (b 0)), (1, .int (nI k))] := hl
    refine lv_iload_n hx hb d_M_reckon_14 rfl (lv_at hl 0 rfl) ?_
    refine pd_ilt M d_M_reckon_15 (tgt := 89) (by decide) (by omega) ?_
    refine lv_aload_n hx hb d_M_reckon_18 rfl (lv_at hl 1 rfl) ?_
    refine pd_gM M hw 0 2 rfl (by decide) k_f_M_13 rfl d_M_reckon_19 ?_
    refine pd_sipush (k := 129) M d_M_reckon_22 (by decide) ?_
    refine lv_iload_n hx hb d_M_reckon_25 rfl (lv_at hl 2 rfl) ?_
    refine pd_imul M d_M_reckon_26 ?_
    refine lv_iload_n hx hb d_M_reckon_27 rfl (lv_at hl 0 rfl) ?_
    refine pd_iadd M d_M_reckon_28 ?_
    refine lv_iload_n hx hb d_M_reckon_29 rfl (lv_at hl 2 rfl) ?_
    refine lv_aload_n hx hb d_M_reckon_30 rfl (lv_at hl 1 rfl) ?_
    refine pd_gM M hw 0 1 rfl (by decide) k_f_M_16 rfl d_M_reckon_31 ?_
    refine pd_cge M d_M_reckon_34 (tgt := 81) (by decide) (by omega) (by omega) (fun h34 => ?_) (fun h34 => ?_)
    · refine pd_iconst (k := 0) M d_M_reckon_81 (by decide) ?_
      have hv : 0 = lc mt mn k q := by
        rw [lc_eq]
        first | (rw [if_neg (fun z => by omega)]; done) | (rw [if_pos ⟨h34, h42, h57⟩, show 129 * (k + 1) + q + 1 = 129 * (k + 1) + (q + 1) by omega, hi.1 (k + 1) (q + 1) (by omega) (by omega) (by omega)]; done)
      refine pd_ast M hw 2 1 rfl rfl (by omega) (by decide) d_M_reckon_82 (fun H locs hw => ?_)
      have hw : Hd A D (tyM cB) s (wm b cB mn mt (va_up cm ((129 * k) + q) 0)) H locs := hw
      refine lv_iinc (v := dn q) (lv' := [(2, .int (dn q)), (0, .ref (b 0)), (1, .int (nI k))]) hx hb d_M_reckon_83 hl (k := 0) rfl (dn_dec q) (by decide) rfl (fun ls hl => ?_)
      refine lv_goto (tgt := 14) hx hb d_M_reckon_86 (by decide) ?_
      exact ih _ _ _ _ (by omega) (rkI_put hn hk (by omega) hi hv) hw (lv_sub hl [0, 1, 2] rfl)
    · refine lv_iload_n hx hb d_M_reckon_37 rfl (lv_at hl 0 rfl) ?_
      refine lv_aload_n hx hb d_M_reckon_38 rfl (lv_at hl 1 rfl) ?_
      refine pd_gM M hw 0 1 rfl (by decide) k_f_M_16 rfl d_M_reckon_39 ?_
      refine pd_cge M d_M_reckon_42 (tgt := 81) (by decide) (by omega) (by omega) (fun h42 => ?_) (fun h42 => ?_)
      · refine pd_iconst (k := 0) M d_M_reckon_81 (by decide) ?_
        have hv : 0 = lc mt mn k q := by
          rw [lc_eq]
          first | (rw [if_neg (fun z => by omega)]; done) | (rw [if_pos ⟨h34, h42, h57⟩, show 129 * (k + 1) + q + 1 = 129 * (k + 1) + (q + 1) by omega, hi.1 (k + 1) (q + 1) (by omega) (by omega) (by omega)]; done)
        refine pd_ast M hw 2 1 rfl rfl (by omega) (by decide) d_M_reckon_82 (fun H locs hw => ?_)
        have hw : Hd A D (tyM cB) s (wm b cB mn mt (va_up cm ((129 * k) + q) 0)) H locs := hw
        refine lv_iinc (v := dn q) (lv' := [(2, .int (dn q)), (0, .ref (b 0)), (1, .int (nI k))]) hx hb d_M_reckon_83 hl (k := 0) rfl (dn_dec q) (by decide) rfl (fun ls hl => ?_)
        refine lv_goto (tgt := 14) hx hb d_M_reckon_86 (by decide) ?_
        exact ih _ _ _ _ (by omega) (rkI_put hn hk (by omega) hi hv) hw (lv_sub hl [0, 1, 2] rfl)
      · refine lv_aload_n hx hb d_M_reckon_45 rfl (lv_at hl 1 rfl) ?_
        refine pd_gM M hw 0 0 rfl (by decide) k_f_M_7 rfl d_M_reckon_46 ?_
        refine lv_iload_n hx hb d_M_reckon_49 rfl (lv_at hl 2 rfl) ?_
        refine pd_ald M hw 1 0 rfl rfl (by omega) (by decide) d_M_reckon_50 ?_
        refine lv_aload_n hx hb d_M_reckon_51 rfl (lv_at hl 1 rfl) ?_
        refine pd_gM M hw 0 0 rfl (by decide) k_f_M_7 rfl d_M_reckon_52 ?_
        refine lv_iload_n hx hb d_M_reckon_55 rfl (lv_at hl 0 rfl) ?_
        refine pd_ald M hw 1 0 rfl rfl (by omega) (by decide) d_M_reckon_56 ?_
        have ht1 := ht k (by omega)
        have ht2 := ht q (by omega)
        refine pd_cne M d_M_reckon_57 (tgt := 81) (by decide) (by omega) (by omega) (fun h57 => ?_) (fun h57 => ?_)
        · refine pd_iconst (k := 0) M d_M_reckon_81 (by decide) ?_
          have hv : 0 = lc mt mn k q := by
            rw [lc_eq]
            first | (rw [if_neg (fun z => by omega)]; done) | (rw [if_pos ⟨h34, h42, h57⟩, show 129 * (k + 1) + q + 1 = 129 * (k + 1) + (q + 1) by omega, hi.1 (k + 1) (q + 1) (by omega) (by omega) (by omega)]; done)
          refine pd_ast M hw 2 1 rfl rfl (by omega) (by decide) d_M_reckon_82 (fun H locs hw => ?_)
          have hw : Hd A D (tyM cB) s (wm b cB mn mt (va_up cm ((129 * k) + q) 0)) H locs := hw
          refine lv_iinc (v := dn q) (lv' := [(2, .int (dn q)), (0, .ref (b 0)), (1, .int (nI k))]) hx hb d_M_reckon_83 hl (k := 0) rfl (dn_dec q) (by decide) rfl (fun ls hl => ?_)
          refine lv_goto (tgt := 14) hx hb d_M_reckon_86 (by decide) ?_
          exact ih _ _ _ _ (by omega) (rkI_put hn hk (by omega) hi hv) hw (lv_sub hl [0, 1, 2] rfl)
        · refine lv_aload_n hx hb d_M_reckon_60 rfl (lv_at hl 1 rfl) ?_
          refine pd_gM M hw 0 2 rfl (by decide) k_f_M_13 rfl d_M_reckon_61 ?_
          refine pd_sipush (k := 129) M d_M_reckon_64 (by decide) ?_
          refine lv_iload_n hx hb d_M_reckon_67 rfl (lv_at hl 2 rfl) ?_
          refine pd_iconst (k := 1) M d_M_reckon_68 (by decide) ?_
          refine pd_iadd M d_M_reckon_69 ?_
          refine pd_imul M d_M_reckon_70 ?_
          refine lv_iload_n hx hb d_M_reckon_71 rfl (lv_at hl 0 rfl) ?_
          refine pd_iadd M d_M_reckon_72 ?_
          refine pd_iconst (k := 1) M d_M_reckon_73 (by decide) ?_
          refine pd_iadd M d_M_reckon_74 ?_
          refine pd_ald M hw 2 1 rfl rfl (by omega) (by decide) d_M_reckon_75 ?_
          refine pd_iconst (k := 1) M d_M_reckon_76 (by decide) ?_
          refine pd_iadd M d_M_reckon_77 ?_
          refine lv_goto (tgt := 82) hx hb d_M_reckon_78 (by decide) ?_
          have hv : (cm (((129 * (k + 1)) + q) + 1)) + 1 = lc mt mn k q := by
            rw [lc_eq]
            first | (rw [if_neg (fun z => by omega)]; done) | (rw [if_pos ⟨h34, h42, h57⟩, show 129 * (k + 1) + q + 1 = 129 * (k + 1) + (q + 1) by omega, hi.1 (k + 1) (q + 1) (by omega) (by omega) (by omega)]; done)
          refine pd_ast M hw 2 1 rfl rfl (by omega) (by decide) d_M_reckon_82 (fun H locs hw => ?_)
          have hw : Hd A D (tyM cB) s (wm b cB mn mt (va_up cm ((129 * k) + q) ((cm (((129 * (k + 1)) + q) + 1)) + 1))) H locs := hw
          refine lv_iinc (v := dn q) (lv' := [(2, .int (dn q)), (0, .ref (b 0)), (1, .int (nI k))]) hx hb d_M_reckon_83 hl (k := 0) rfl (dn_dec q) (by decide) rfl (fun ls hl => ?_)
          refine lv_goto (tgt := 14) hx hb d_M_reckon_86 (by decide) ?_
          exact ih _ _ _ _ (by omega) (rkI_put hn hk (by omega) hi hv) hw (lv_sub hl [0, 1, 2] rfl)
set_option maxHeartbeats 4000000 in
set_option maxRecDepth 100000 in
theorem rk_out {p : Program} {l : Launch} {e : Env} {R : Room} {s : State} {m : MethodId} {args : Array Value} {below : List Frame} {meth : Method} {c : Code} {cells slots : Nat} {Q : State → Prop} {A : Nat → Prop} {D : va_G} {b : Nat → Nat} {cB : Nat → ClassId} {mn : Nat} {mt : Nat → Nat} (M : Mx b_M_reckon R_M 3 none p s m meth c args) (hn : mn ≤ 128) (ht : ∀ i, i < mn → mt i < 4)
    (K : ∀ (cm : Nat → Nat) (H : Heap) (locs : List Loc) (ls : Array Slot), rkI mt mn 0 (mn + 1) cm → Hd A D (tyM cB) s (wm b cB mn mt cm) H locs → W p l e R s m args below meth c H locs cells slots Q (F0 m 95 ls [])) :
    ∀ (k : Nat) (cm : Nat → Nat) (H : Heap) (locs : List Loc) (ls : Array Slot), k ≤ mn + 1 → rkI mt mn k (mn + 1) cm → Hd A D (tyM cB) s (wm b cB mn mt cm) H locs → lv_has ls 3 [(1, .int (dn k)), (0, .ref (b 0))] → W p l e R s m args below meth c H locs cells slots Q (F0 m 5 ls []) := by
  obtain ⟨hx, hb, -, -, -, -, -⟩ := id M
  intro k
  induction k with
  | zero =>
    intro cm H locs ls hq hi hw hl
    refine lv_iload_n hx hb d_M_reckon_5 rfl (lv_at hl 0 rfl) ?_
    refine lv_if_lt (tgt := 95) hx hb d_M_reckon_6 (by decide) (fun _ => ?_) (fun z => absurd (by decide) z)
    exact K cm H locs ls hi hw
  | succ k ih =>
    intro cm H locs ls hq hi hw hl
    have hl : lv_has ls 3 [(1, .int (nI k)), (0, .ref (b 0))] := hl
    refine lv_iload_n hx hb d_M_reckon_5 rfl (lv_at hl 0 rfl) ?_
    refine pd_ilt M d_M_reckon_6 (tgt := 95) (by decide) (by omega) ?_
    refine lv_aload_n hx hb d_M_reckon_9 rfl (lv_at hl 1 rfl) ?_
    refine pd_gM M hw 0 1 rfl (by decide) k_f_M_16 rfl d_M_reckon_10 ?_
    refine lv_istore_n (lv' := [(2, .int (nI mn)), (1, .int (nI k)), (0, .ref (b 0))]) hx hb d_M_reckon_13 rfl hl (by decide) rfl (fun ls hl => ?_)
    refine rk_in M hn ht (k := k) (by omega) (fun cm H locs ls hi hw hl => ?_) (mn + 1) _ _ _ _ (by omega) hi hw (lv_sub hl [0, 2, 1] rfl)
    refine lv_iinc (v := dn k) (lv' := [(1, .int (dn k)), (2, .int (-1)), (0, .ref (b 0))]) hx hb d_M_reckon_89 hl (k := 2) rfl (dn_dec k) (by decide) rfl (fun ls hl => ?_)
    refine lv_goto (tgt := 5) hx hb d_M_reckon_92 (by decide) ?_
    exact ih _ _ _ _ (by omega) (rkI_row hi) hw (lv_sub hl [0, 2] rfl)
set_option maxHeartbeats 4000000 in
set_option maxRecDepth 100000 in
theorem c_M_reckon (l : Launch) (D : va_G) (b : Nat → Nat) (cB : Nat → ClassId) (mn : Nat) (mt cm : Nat → Nat) (hn : mn ≤ 128) (ht : ∀ i, i < mn → mt i < 4) : Cv l y_M_reckon b_M_reckon 3 0 0 D (tyM cB) [.ref (b 0)] (wm b cB mn mt cm) (Nat → Nat) (fun cm2 => ∀ i j, i ≤ mn → j ≤ mn → cm2 (129 * i + j) = lc mt mn i j) (fun cm2 => (wm b cB mn mt cm2)) := by
  refine Cv_of (by decide) (Nat.le_of_ble_eq_true rfl) ?_
  intro p e s m below meth c A ls M hw hl
  have M : Mx b_M_reckon R_M 3 none p s m meth c ([.ref (b 0)] : List Value).toArray := M
  have hl : lv_has ls 3 [(0, .ref (b 0))] := hl
  obtain ⟨hx, hb, -, -, -, -, -⟩ := id M
  refine lv_aload_n hx hb d_M_reckon_0 rfl (lv_at hl 0 rfl) ?_
  refine pd_gM M hw 0 1 rfl (by decide) k_f_M_16 rfl d_M_reckon_1 ?_
  refine lv_istore_n (lv' := [(1, .int (nI mn)), (0, .ref (b 0))]) hx hb d_M_reckon_4 rfl hl (by decide) rfl (fun ls hl => ?_)
  exact rk_out M hn ht (fun cm2 H locs ls hi hw => pd_vret M cm2 hw (fun i j h1 h2 => hi.1 i j (Nat.zero_le _) h1 h2) d_M_reckon_95) (mn + 1) _ _ _ _ (Nat.le_refl _) rkI_0 hw (lv_sub hl [0, 1] rfl)
end
section
/-! the model's questions -/
set_option maxHeartbeats 4000000 in
set_option maxRecDepth 100000 in
theorem mdi_in {p : Program} {l : Launch} {e : Env} {s : State} {m : MethodId} {args : Array Value} {below : List Frame} {meth : Method} {c : Code} {Q : State → Prop} {A : Nat → Prop} {D : va_G} {b : Nat → Nat} {cB : Nat → ClassId} {mn : Nat} {mt cm : Nat → Nat} (M : Mx b_M_different R_M 6 (some .int) p s m meth c args) (hn : mn ≤ 128) (hcm : ∀ i j, i ≤ mn → j ≤ mn → cm (129 * i + j) = lc mt mn i j) {i cv : Nat} (hi : i < mn)
    (K : ∀ (H : Heap) (locs : List Loc) (ls : Array Slot), Hd A D (tyM cB) s (wm b cB mn mt cm) H locs → lv_has ls 6 [(0, .ref (b 0)), (1, .int (nI cv)), (2, .int (nI i)), (3, .int (nI (mr mt mn i i)))] → W p l e { frames := 1, cells := 0, slots := 0, locals := 22 } s m args below meth c H locs 0 0 Q (F0 m 55 ls [])) :
    ∀ (f : Nat) (j : Nat) (H : Heap) (locs : List Loc) (ls : Array Slot), i - j < f → j ≤ i → Hd A D (tyM cB) s (wm b cB mn mt cm) H locs → lv_has ls 6 [(0, .ref (b 0)), (1, .int (nI cv)), (2, .int (nI i)), (3, .int (nI (mr mt mn i j))), (4, .int (nI j))] → W p l e { frames := 1, cells := 0, slots := 0, locals := 22 } s m args below meth c H locs 0 0 Q (F0 m 21 ls []) := by
  obtain ⟨hx, hb, -, -, -, -, -⟩ := id M
  intro f
  induction f with
  | zero => intro j H locs ls hf; exact absurd hf (Nat.not_lt_zero _)
  | succ f ih =>
    intro j H locs ls hf hj hw hl
    refine lv_iload hx hb d_M_different_21 (lv_at hl 4 rfl) ?_
    refine lv_iload_n hx hb d_M_different_23 rfl (lv_at hl 2 rfl) ?_
    refine pd_cge M d_M_different_24 (tgt := 55) (by decide) (by omega) (by omega) (fun h24 => ?_) (fun h24 => ?_)
    · obtain rfl : j = i := by omega
      exact K _ _ _ hw (lv_sub hl [0, 1, 2, 3] rfl)
    · refine lv_aload_n hx hb d_M_different_27 rfl (lv_at hl 0 rfl) ?_
      refine lv_iload hx hb d_M_different_28 (lv_at hl 4 rfl) ?_
      refine lv_iload_n hx hb d_M_different_30 rfl (lv_at hl 2 rfl) ?_
      refine pd_calli (As := [.int (nI j), .int (nI i)]) (rest := []) (wr := []) M hw (c_M_same l D b cB mn mt cm j i (by omega) (by omega)) k_l_M_23 k_i_M_same k_s_M_same k_in_M k_c_M_same k_d_M_same ⟨Nat.le_of_ble_eq_true rfl, Nat.le_of_ble_eq_true rfl⟩ ⟨Nat.le_of_ble_eq_true rfl, Nat.le_of_ble_eq_true rfl⟩ [0, 1, 2] [] [0, 1] rfl rfl rfl rfl (by decide) rfl rfl 0 rfl hl.1 (Nat.le_of_ble_eq_true rfl) rfl d_M_different_31 (fun r u H locs h31 hw => ?_)
      obtain rfl := h31
      refine pd_top (b := lc mt mn j i) (hcm j i (by omega) (by omega)) ?_
      have hw : Hd A D (tyM cB) s (wm b cB mn mt cm) H locs := hw
      refine lv_istore (lv' := [(5, .int (nI (lc mt mn j i))), (0, .ref (b 0)), (1, .int (nI cv)), (2, .int (nI i)), (3, .int (nI (mr mt mn i j))), (4, .int (nI j))]) hx hb d_M_different_34 hl (by decide) rfl (fun ls hl => ?_)
      have hb1 := lc_n (t := mt) (n := mn) (i := j) (j := i) (by omega)
      have hb2 := mr_le (t := mt) (n := mn) (i := i) (by omega) j
      refine lv_iload hx hb d_M_different_36 (lv_at hl 0 rfl) ?_
      refine lv_iload_n hx hb d_M_different_38 rfl (lv_at hl 4 rfl) ?_
      refine pd_cle M d_M_different_39 (tgt := 47) (by decide) (by omega) (by omega) (fun h39 => ?_) (fun h39 => ?_)
      · refine lv_iload_n hx hb d_M_different_47 rfl (lv_at hl 4 rfl) ?_
        refine pd_top (b := mr mt mn i (j + 1)) (by show _ = max (mr mt mn i j) (lc mt mn j i); omega) ?_
        refine lv_istore_n (lv' := [(3, .int (nI (mr mt mn i (j + 1)))), (5, .int (nI (lc mt mn j i))), (0, .ref (b 0)), (1, .int (nI cv)), (2, .int (nI i)), (4, .int (nI j))]) hx hb d_M_different_48 rfl hl (by decide) rfl (fun ls hl => ?_)
        refine pd_iinc (j := 1) (lv' := [(4, .int (nI (j + 1))), (3, .int (nI (mr mt mn i (j + 1)))), (5, .int (nI (lc mt mn j i))), (0, .ref (b 0)), (1, .int (nI cv)), (2, .int (nI i))]) M d_M_different_49 hl (k := 5) rfl (by decide) (by decide) rfl (fun ls hl => ?_)
        refine lv_goto (tgt := 21) hx hb d_M_different_52 (by decide) ?_
        exact ih _ _ _ _ (by omega) (by omega) hw (lv_sub hl [3, 4, 5, 1, 0] rfl)
      · refine lv_iload hx hb d_M_different_42 (lv_at hl 0 rfl) ?_
        refine lv_goto (tgt := 48) hx hb d_M_different_44 (by decide) ?_
        refine pd_top (b := mr mt mn i (j + 1)) (by show _ = max (mr mt mn i j) (lc mt mn j i); omega) ?_
        refine lv_istore_n (lv' := [(3, .int (nI (mr mt mn i (j + 1)))), (5, .int (nI (lc mt mn j i))), (0, .ref (b 0)), (1, .int (nI cv)), (2, .int (nI i)), (4, .int (nI j))]) hx hb d_M_different_48 rfl hl (by decide) rfl (fun ls hl => ?_)
        refine pd_iinc (j := 1) (lv' := [(4, .int (nI (j + 1))), (3, .int (nI (mr mt mn i (j + 1)))), (5, .int (nI (lc mt mn j i))), (0, .ref (b 0)), (1, .int (nI cv)), (2, .int (nI i))]) M d_M_different_49 hl (k := 5) rfl (by decide) (by decide) rfl (fun ls hl => ?_)
        refine lv_goto (tgt := 21) hx hb d_M_different_52 (by decide) ?_
        exact ih _ _ _ _ (by omega) (by omega) hw (lv_sub hl [3, 4, 5, 1, 0] rfl)
set_option maxHeartbeats 4000000 in
set_option maxRecDepth 100000 in
theorem mdi_out {p : Program} {l : Launch} {e : Env} {s : State} {m : MethodId} {args : Array Value} {below : List Frame} {meth : Method} {c : Code} {Q : State → Prop} {A : Nat → Prop} {D : va_G} {b : Nat → Nat} {cB : Nat → ClassId} {mn : Nat} {mt cm : Nat → Nat} (M : Mx b_M_different R_M 6 (some .int) p s m meth c args) (hn : mn ≤ 128) (hcm : ∀ i j, i ≤ mn → j ≤ mn → cm (129 * i + j) = lc mt mn i j)
    (K : ∀ (H : Heap) (locs : List Loc) (ls : Array Slot), Hd A D (tyM cB) s (wm b cB mn mt cm) H locs → lv_has ls 6 [(1, .int (nI (dif mt mn)))] → W p l e { frames := 1, cells := 0, slots := 0, locals := 22 } s m args below meth c H locs 0 0 Q (F0 m 72 ls [])) :
    ∀ (f : Nat) (i : Nat) (H : Heap) (locs : List Loc) (ls : Array Slot), mn - i < f → i ≤ mn → Hd A D (tyM cB) s (wm b cB mn mt cm) H locs → lv_has ls 6 [(0, .ref (b 0)), (1, .int (nI (smm (fun i => mn - i - mr mt mn i i) i))), (2, .int (nI i))] → W p l e { frames := 1, cells := 0, slots := 0, locals := 22 } s m args below meth c H locs 0 0 Q (F0 m 8 ls []) := by
  obtain ⟨hx, hb, -, -, -, -, -⟩ := id M
  intro f
  induction f with
  | zero => intro i H locs ls hf; exact absurd hf (Nat.not_lt_zero _)
  | succ f ih =>
    intro i H locs ls hf hi hw hl
    refine lv_iload_n hx hb d_M_different_8 rfl (lv_at hl 2 rfl) ?_
    refine lv_aload_n hx hb d_M_different_9 rfl (lv_at hl 0 rfl) ?_
    refine pd_gM M hw 0 1 rfl (by decide) k_f_M_16 rfl d_M_different_10 ?_
    refine pd_cge M d_M_different_13 (tgt := 72) (by decide) (by omega) (by omega) (fun h13 => ?_) (fun h13 => ?_)
    · obtain rfl : i = mn := by omega
      exact K _ _ _ hw (lv_sub hl [1] rfl)
    · refine pd_iconst (k := 0) M d_M_different_16 (by decide) ?_
      refine lv_istore_n (lv' := [(3, .int (nI 0)), (0, .ref (b 0)), (1, .int (nI (smm (fun i => mn - i - mr mt mn i i) i))), (2, .int (nI i))]) hx hb d_M_different_17 rfl hl (by decide) rfl (fun ls hl => ?_)
      refine pd_iconst (k := 0) M d_M_different_18 (by decide) ?_
      refine lv_istore (lv' := [(4, .int (nI 0)), (3, .int (nI 0)), (0, .ref (b 0)), (1, .int (nI (smm (fun i => mn - i - mr mt mn i i) i))), (2, .int (nI i))]) hx hb d_M_different_19 hl (by decide) rfl (fun ls hl => ?_)
      refine mdi_in M hn hcm (i := i) (cv := smm (fun i => mn - i - mr mt mn i i) i) (by omega) (fun H locs ls hw hl => ?_) (i + 1) 0 _ _ _ (by omega) (by omega) hw (lv_sub hl [2, 3, 4, 1, 0] rfl)
      have hb2 := mr_le (t := mt) (n := mn) (i := i) (by omega) i
      refine lv_iload_n hx hb d_M_different_55 rfl (lv_at hl 1 rfl) ?_
      refine lv_aload_n hx hb d_M_different_56 rfl (lv_at hl 0 rfl) ?_
      refine pd_gM M hw 0 1 rfl (by decide) k_f_M_16 rfl d_M_different_57 ?_
      refine pd_iadd M d_M_different_60 ?_
      refine lv_iload_n hx hb d_M_different_61 rfl (lv_at hl 2 rfl) ?_
      refine pd_isub M d_M_different_62 (by omega) ?_
      refine lv_iload_n hx hb d_M_different_63 rfl (lv_at hl 3 rfl) ?_
      refine pd_isub M d_M_different_64 (by omega) ?_
      refine pd_top (b := smm (fun i => mn - i - mr mt mn i i) (i + 1)) (by show _ = smm (fun i => mn - i - mr mt mn i i) i + (mn - i - mr mt mn i i); omega) ?_
      refine lv_istore_n (lv' := [(1, .int (nI (smm (fun i => mn - i - mr mt mn i i) (i + 1)))), (0, .ref (b 0)), (2, .int (nI i)), (3, .int (nI (mr mt mn i i)))]) hx hb d_M_different_65 rfl hl (by decide) rfl (fun ls hl => ?_)
      refine pd_iinc (j := 1) (lv' := [(2, .int (nI (i + 1))), (1, .int (nI (smm (fun i => mn - i - mr mt mn i i) (i + 1)))), (0, .ref (b 0)), (3, .int (nI (mr mt mn i i)))]) M d_M_different_66 hl (k := 2) rfl (by decide) (by decide) rfl (fun ls hl => ?_)
      refine lv_goto (tgt := 8) hx hb d_M_different_69 (by decide) ?_
      exact ih _ _ _ _ (by omega) (by omega) hw (lv_sub hl [2, 1, 0] rfl)
set_option maxHeartbeats 4000000 in
set_option maxRecDepth 100000 in
theorem c_M_different (l : Launch) (D : va_G) (b : Nat → Nat) (cB : Nat → ClassId) (mn : Nat) (mt cm : Nat → Nat) (hn : mn ≤ 128) (ht : ∀ i, i < mn → mt i < 4) : Ci l y_M_different b_M_different 6 (some .int) 1 22 D (tyM cB) [.ref (b 0)] (wm b cB mn mt cm) (Nat → Nat) (fun r _ => r = nI (dif mt mn)) (fun cm2 => (wm b cB mn mt cm2)) := by
  refine Ci_of (by decide) (Nat.le_of_ble_eq_true rfl) ?_
  intro p e s m below meth c A ls M hw hl
  have M : Mx b_M_different R_M 6 (some .int) p s m meth c ([.ref (b 0)] : List Value).toArray := M
  have hl : lv_has ls 6 [(0, .ref (b 0))] := hl
  obtain ⟨hx, hb, -, -, -, -, -⟩ := id M
  refine lv_aload_n hx hb d_M_different_0 rfl (lv_at hl 0 rfl) ?_
  refine pd_callv (As := []) (rest := []) (wr := []) M hw (c_M_reckon l D b cB mn mt cm hn ht) k_l_M_20 k_i_M_reckon k_s_M_reckon k_in_M k_c_M_reckon k_d_M_reckon ⟨Nat.le_of_ble_eq_true rfl, Nat.le_of_ble_eq_true rfl⟩ ⟨Nat.le_of_ble_eq_true rfl, Nat.le_of_ble_eq_true rfl⟩ [0, 1, 2] [] [0, 1] rfl rfl rfl rfl (by decide) rfl rfl 0 rfl hl.1 (Nat.le_of_ble_eq_true rfl) rfl d_M_different_1 (fun cm2 H locs hcm hw => ?_)
  have hw : Hd A D (tyM cB) s (wm b cB mn mt cm2) H locs := hw
  refine pd_iconst (k := 0) M d_M_different_4 (by decide) ?_
  refine lv_istore_n (lv' := [(1, .int (nI 0)), (0, .ref (b 0))]) hx hb d_M_different_5 rfl hl (by decide) rfl (fun ls hl => ?_)
  refine pd_iconst (k := 0) M d_M_different_6 (by decide) ?_
  refine lv_istore_n (lv' := [(2, .int (nI 0)), (1, .int (nI 0)), (0, .ref (b 0))]) hx hb d_M_different_7 rfl hl (by decide) rfl (fun ls hl => ?_)
  refine mdi_out M hn hcm (fun H locs ls hw hl => ?_) (mn + 1) 0 _ _ _ (by omega) (by omega) hw (lv_sub hl [2, 1, 0] rfl)
  refine lv_iload_n hx hb d_M_different_72 rfl (lv_at hl 0 rfl) ?_
  exact pd_ret M cm2 hw (rfl) (rfl) d_M_different_73
set_option maxHeartbeats 4000000 in
set_option maxRecDepth 100000 in
theorem mlo_in {p : Program} {l : Launch} {e : Env} {s : State} {m : MethodId} {args : Array Value} {below : List Frame} {meth : Method} {c : Code} {Q : State → Prop} {A : Nat → Prop} {D : va_G} {b : Nat → Nat} {cB : Nat → ClassId} {mn : Nat} {mt cm : Nat → Nat} (M : Mx b_M_longest R_M 5 (some .int) p s m meth c args) (hn : mn ≤ 128) (hcm : ∀ i j, i ≤ mn → j ≤ mn → cm (129 * i + j) = lc mt mn i j) {i : Nat} (hi : i < mn)
    (K : ∀ (H : Heap) (locs : List Loc) (ls : Array Slot), Hd A D (tyM cB) s (wm b cB mn mt cm) H locs → lv_has ls 5 [(0, .ref (b 0)), (1, .int (nI (ml mt mn (i + 1)))), (2, .int (nI i))] → W p l e { frames := 1, cells := 0, slots := 0, locals := 22 } s m args below meth c H locs 0 0 Q (F0 m 50 ls [])) :
    ∀ (f : Nat) (j : Nat) (H : Heap) (locs : List Loc) (ls : Array Slot), i - j < f → j ≤ i → Hd A D (tyM cB) s (wm b cB mn mt cm) H locs → lv_has ls 5 [(0, .ref (b 0)), (1, .int (nI (max (ml mt mn i) (mr mt mn i j)))), (2, .int (nI i)), (3, .int (nI j))] → W p l e { frames := 1, cells := 0, slots := 0, locals := 22 } s m args below meth c H locs 0 0 Q (F0 m 18 ls []) := by
  obtain ⟨hx, hb, -, -, -, -, -⟩ := id M
  intro f
  induction f with
  | zero => intro j H locs ls hf; exact absurd hf (Nat.not_lt_zero _)
  | succ f ih =>
    intro j H locs ls hf hj hw hl
    refine lv_iload_n hx hb d_M_longest_18 rfl (lv_at hl 3 rfl) ?_
    refine lv_iload_n hx hb d_M_longest_19 rfl (lv_at hl 2 rfl) ?_
    refine pd_cge M d_M_longest_20 (tgt := 50) (by decide) (by omega) (by omega) (fun h20 => ?_) (fun h20 => ?_)
    · obtain rfl : j = i := by omega
      exact K _ _ _ hw (lv_sub hl [0, 1, 2] rfl)
    · refine lv_aload_n hx hb d_M_longest_23 rfl (lv_at hl 0 rfl) ?_
      refine lv_iload_n hx hb d_M_longest_24 rfl (lv_at hl 3 rfl) ?_
      refine lv_iload_n hx hb d_M_longest_25 rfl (lv_at hl 2 rfl) ?_
      refine pd_calli (As := [.int (nI j), .int (nI i)]) (rest := []) (wr := []) M hw (c_M_same l D b cB mn mt cm j i (by omega) (by omega)) k_l_M_23 k_i_M_same k_s_M_same k_in_M k_c_M_same k_d_M_same ⟨Nat.le_of_ble_eq_true rfl, Nat.le_of_ble_eq_true rfl⟩ ⟨Nat.le_of_ble_eq_true rfl, Nat.le_of_ble_eq_true rfl⟩ [0, 1, 2] [] [0, 1] rfl rfl rfl rfl (by decide) rfl rfl 0 rfl hl.1 (Nat.le_of_ble_eq_true rfl) rfl d_M_longest_26 (fun r u H locs h26 hw => ?_)
      obtain rfl := h26
      refine pd_top (b := lc mt mn j i) (hcm j i (by omega) (by omega)) ?_
      have hw : Hd A D (tyM cB) s (wm b cB mn mt cm) H locs := hw
      refine lv_istore (lv' := [(4, .int (nI (lc mt mn j i))), (0, .ref (b 0)), (1, .int (nI (max (ml mt mn i) (mr mt mn i j)))), (2, .int (nI i)), (3, .int (nI j))]) hx hb d_M_longest_29 hl (by decide) rfl (fun ls hl => ?_)
      have hb1 := lc_n (t := mt) (n := mn) (i := j) (j := i) (by omega)
      have hb2 := mr_le (t := mt) (n := mn) (i := i) (by omega) j
      have hb3 := ml_le mt mn i (by omega)
      refine lv_iload hx hb d_M_longest_31 (lv_at hl 0 rfl) ?_
      refine lv_iload_n hx hb d_M_longest_33 rfl (lv_at hl 2 rfl) ?_
      refine pd_cle M d_M_longest_34 (tgt := 42) (by decide) (by omega) (by omega) (fun h34 => ?_) (fun h34 => ?_)
      · refine lv_iload_n hx hb d_M_longest_42 rfl (lv_at hl 2 rfl) ?_
        refine pd_top (b := max (ml mt mn i) (mr mt mn i (j + 1))) (by show _ = max (ml mt mn i) (max (mr mt mn i j) (lc mt mn j i)); omega) ?_
        refine lv_istore_n (lv' := [(1, .int (nI (max (ml mt mn i) (mr mt mn i (j + 1))))), (4, .int (nI (lc mt mn j i))), (0, .ref (b 0)), (2, .int (nI i)), (3, .int (nI j))]) hx hb d_M_longest_43 rfl hl (by decide) rfl (fun ls hl => ?_)
        refine pd_iinc (j := 1) (lv' := [(3, .int (nI (j + 1))), (1, .int (nI (max (ml mt mn i) (mr mt mn i (j + 1))))), (4, .int (nI (lc mt mn j i))), (0, .ref (b 0)), (2, .int (nI i))]) M d_M_longest_44 hl (k := 4) rfl (by decide) (by decide) rfl (fun ls hl => ?_)
        refine lv_goto (tgt := 18) hx hb d_M_longest_47 (by decide) ?_
        exact ih _ _ _ _ (by omega) (by omega) hw (lv_sub hl [3, 1, 4, 0] rfl)
      · refine lv_iload hx hb d_M_longest_37 (lv_at hl 0 rfl) ?_
        refine lv_goto (tgt := 43) hx hb d_M_longest_39 (by decide) ?_
        refine pd_top (b := max (ml mt mn i) (mr mt mn i (j + 1))) (by show _ = max (ml mt mn i) (max (mr mt mn i j) (lc mt mn j i)); omega) ?_
        refine lv_istore_n (lv' := [(1, .int (nI (max (ml mt mn i) (mr mt mn i (j + 1))))), (4, .int (nI (lc mt mn j i))), (0, .ref (b 0)), (2, .int (nI i)), (3, .int (nI j))]) hx hb d_M_longest_43 rfl hl (by decide) rfl (fun ls hl => ?_)
        refine pd_iinc (j := 1) (lv' := [(3, .int (nI (j + 1))), (1, .int (nI (max (ml mt mn i) (mr mt mn i (j + 1))))), (4, .int (nI (lc mt mn j i))), (0, .ref (b 0)), (2, .int (nI i))]) M d_M_longest_44 hl (k := 4) rfl (by decide) (by decide) rfl (fun ls hl => ?_)
        refine lv_goto (tgt := 18) hx hb d_M_longest_47 (by decide) ?_
        exact ih _ _ _ _ (by omega) (by omega) hw (lv_sub hl [3, 1, 4, 0] rfl)
set_option maxHeartbeats 4000000 in
set_option maxRecDepth 100000 in
theorem mlo_out {p : Program} {l : Launch} {e : Env} {s : State} {m : MethodId} {args : Array Value} {below : List Frame} {meth : Method} {c : Code} {Q : State → Prop} {A : Nat → Prop} {D : va_G} {b : Nat → Nat} {cB : Nat → ClassId} {mn : Nat} {mt cm : Nat → Nat} (M : Mx b_M_longest R_M 5 (some .int) p s m meth c args) (hn : mn ≤ 128) (hcm : ∀ i j, i ≤ mn → j ≤ mn → cm (129 * i + j) = lc mt mn i j)
    (K : ∀ (H : Heap) (locs : List Loc) (ls : Array Slot), Hd A D (tyM cB) s (wm b cB mn mt cm) H locs → lv_has ls 5 [(1, .int (nI (ml mt mn mn)))] → W p l e { frames := 1, cells := 0, slots := 0, locals := 22 } s m args below meth c H locs 0 0 Q (F0 m 56 ls [])) :
    ∀ (f : Nat) (i : Nat) (H : Heap) (locs : List Loc) (ls : Array Slot), mn - i < f → i ≤ mn → Hd A D (tyM cB) s (wm b cB mn mt cm) H locs → lv_has ls 5 [(0, .ref (b 0)), (1, .int (nI (ml mt mn i))), (2, .int (nI i))] → W p l e { frames := 1, cells := 0, slots := 0, locals := 22 } s m args below meth c H locs 0 0 Q (F0 m 8 ls []) := by
  obtain ⟨hx, hb, -, -, -, -, -⟩ := id M
  intro f
  induction f with
  | zero => intro i H locs ls hf; exact absurd hf (Nat.not_lt_zero _)
  | succ f ih =>
    intro i H locs ls hf hi hw hl
    refine lv_iload_n hx hb d_M_longest_8 rfl (lv_at hl 2 rfl) ?_
    refine lv_aload_n hx hb d_M_longest_9 rfl (lv_at hl 0 rfl) ?_
    refine pd_gM M hw 0 1 rfl (by decide) k_f_M_16 rfl d_M_longest_10 ?_
    refine pd_cge M d_M_longest_13 (tgt := 56) (by decide) (by omega) (by omega) (fun h13 => ?_) (fun h13 => ?_)
    · obtain rfl : i = mn := by omega
      exact K _ _ _ hw (lv_sub hl [1] rfl)
    · refine pd_iconst (k := 0) M d_M_longest_16 (by decide) ?_
      refine lv_istore_n (lv' := [(3, .int (nI 0)), (0, .ref (b 0)), (1, .int (nI (ml mt mn i))), (2, .int (nI i))]) hx hb d_M_longest_17 rfl hl (by decide) rfl (fun ls hl => ?_)
      have e0 : max (ml mt mn i) (mr mt mn i 0) = ml mt mn i := Nat.max_eq_left (Nat.zero_le _)
      rw [← e0] at hl
      refine mlo_in M hn hcm (i := i) (by omega) (fun H locs ls hw hl => ?_) (i + 1) 0 _ _ _ (by omega) (by omega) hw (lv_sub hl [1, 2, 3, 0] rfl)
      refine pd_iinc (j := 1) (lv' := [(2, .int (nI (i + 1))), (0, .ref (b 0)), (1, .int (nI (ml mt mn (i + 1))))]) M d_M_longest_50 hl (k := 2) rfl (by decide) (by decide) rfl (fun ls hl => ?_)
      refine lv_goto (tgt := 8) hx hb d_M_longest_53 (by decide) ?_
      exact ih _ _ _ _ (by omega) (by omega) hw (lv_sub hl [1, 2, 0] rfl)
set_option maxHeartbeats 4000000 in
set_option maxRecDepth 100000 in
theorem c_M_longest (l : Launch) (D : va_G) (b : Nat → Nat) (cB : Nat → ClassId) (mn : Nat) (mt cm : Nat → Nat) (hn : mn ≤ 128) (ht : ∀ i, i < mn → mt i < 4) : Ci l y_M_longest b_M_longest 5 (some .int) 1 22 D (tyM cB) [.ref (b 0)] (wm b cB mn mt cm) (Nat → Nat) (fun r _ => r = nI (ml mt mn mn)) (fun cm2 => (wm b cB mn mt cm2)) := by
  refine Ci_of (by decide) (Nat.le_of_ble_eq_true rfl) ?_
  intro p e s m below meth c A ls M hw hl
  have M : Mx b_M_longest R_M 5 (some .int) p s m meth c ([.ref (b 0)] : List Value).toArray := M
  have hl : lv_has ls 5 [(0, .ref (b 0))] := hl
  obtain ⟨hx, hb, -, -, -, -, -⟩ := id M
  refine lv_aload_n hx hb d_M_longest_0 rfl (lv_at hl 0 rfl) ?_
  refine pd_callv (As := []) (rest := []) (wr := []) M hw (c_M_reckon l D b cB mn mt cm hn ht) k_l_M_20 k_i_M_reckon k_s_M_reckon k_in_M k_c_M_reckon k_d_M_reckon ⟨Nat.le_of_ble_eq_true rfl, Nat.le_of_ble_eq_true rfl⟩ ⟨Nat.le_of_ble_eq_true rfl, Nat.le_of_ble_eq_true rfl⟩ [0, 1, 2] [] [0, 1] rfl rfl rfl rfl (by decide) rfl rfl 0 rfl hl.1 (Nat.le_of_ble_eq_true rfl) rfl d_M_longest_1 (fun cm2 H locs hcm hw => ?_)
  have hw : Hd A D (tyM cB) s (wm b cB mn mt cm2) H locs := hw
  refine pd_iconst (k := 0) M d_M_longest_4 (by decide) ?_
  refine lv_istore_n (lv' := [(1, .int (nI 0)), (0, .ref (b 0))]) hx hb d_M_longest_5 rfl hl (by decide) rfl (fun ls hl => ?_)
  refine pd_iconst (k := 0) M d_M_longest_6 (by decide) ?_
  refine lv_istore_n (lv' := [(2, .int (nI 0)), (1, .int (nI 0)), (0, .ref (b 0))]) hx hb d_M_longest_7 rfl hl (by decide) rfl (fun ls hl => ?_)
  refine mlo_out M hn hcm (fun H locs ls hw hl => ?_) (mn + 1) 0 _ _ _ (by omega) (by omega) hw (lv_sub hl [2, 1, 0] rfl)
  refine lv_iload_n hx hb d_M_longest_56 rfl (lv_at hl 0 rfl) ?_
  exact pd_ret M cm2 hw (rfl) (rfl) d_M_longest_57
set_option maxHeartbeats 4000000 in
set_option maxRecDepth 100000 in
theorem mti {p : Program} {l : Launch} {e : Env} {s : State} {m : MethodId} {args : Array Value} {below : List Frame} {meth : Method} {c : Code} {Q : State → Prop} {A : Nat → Prop} {D : va_G} {b : Nat → Nat} {cB : Nat → ClassId} {mn : Nat} {mt cm : Nat → Nat} (M : Mx b_M_times R_M 7 (some .int) p s m meth c args) (hn : mn ≤ 128) (hcm : ∀ i j, i ≤ mn → j ≤ mn → cm (129 * i + j) = lc mt mn i j) {f0 m0 : Nat} (hf0 : f0 < mn) (hm0 : 0 < m0) (hm1 : m0 ≤ mn)
    (K : ∀ (H : Heap) (locs : List Loc) (ls : Array Slot), Hd A D (tyM cB) s (wm b cB mn mt cm) H locs → lv_has ls 7 [(5, .int (nI (tms mt mn f0 m0)))] → W p l e { frames := 1, cells := 0, slots := 0, locals := 22 } s m args below meth c H locs 0 0 Q (F0 m 80 ls [])) :
    ∀ (f : Nat) (i : Nat) (H : Heap) (locs : List Loc) (ls : Array Slot), mn + 1 - (i + m0) < f → i + m0 ≤ mn + 1 → Hd A D (tyM cB) s (wm b cB mn mt cm) H locs → lv_has ls 7 [(0, .ref (b 0)), (3, .int (nI f0)), (4, .int (nI m0)), (5, .int (nI (cnt (fun i => m0 ≤ lc mt mn i f0) i))), (6, .int (nI i))] → W p l e { frames := 1, cells := 0, slots := 0, locals := 22 } s m args below meth c H locs 0 0 Q (F0 m 44 ls []) := by
  obtain ⟨hx, hb, -, -, -, -, -⟩ := id M
  intro f
  induction f with
  | zero => intro i H locs ls hf; exact absurd hf (Nat.not_lt_zero _)
  | succ f ih =>
    intro i H locs ls hf hi hw hl
    refine lv_iload hx hb d_M_times_44 (lv_at hl 4 rfl) ?_
    refine lv_iload hx hb d_M_times_46 (lv_at hl 2 rfl) ?_
    refine pd_iadd M d_M_times_48 ?_
    refine lv_aload_n hx hb d_M_times_49 rfl (lv_at hl 0 rfl) ?_
    refine pd_gM M hw 0 1 rfl (by decide) k_f_M_16 rfl d_M_times_50 ?_
    refine pd_cgt M d_M_times_53 (tgt := 80) (by decide) (by omega) (by omega) (fun h53 => ?_) (fun h53 => ?_)
    · obtain rfl : i = mn - m0 + 1 := by omega
      rw [tms_cut hm0 hm1] at hl
      exact K _ _ _ hw (lv_sub hl [3] rfl)
    · refine lv_aload_n hx hb d_M_times_56 rfl (lv_at hl 0 rfl) ?_
      refine lv_iload hx hb d_M_times_57 (lv_at hl 4 rfl) ?_
      refine lv_iload_n hx hb d_M_times_59 rfl (lv_at hl 1 rfl) ?_
      refine pd_calli (As := [.int (nI i), .int (nI f0)]) (rest := []) (wr := []) M hw (c_M_same l D b cB mn mt cm i f0 (by omega) (by omega)) k_l_M_23 k_i_M_same k_s_M_same k_in_M k_c_M_same k_d_M_same ⟨Nat.le_of_ble_eq_true rfl, Nat.le_of_ble_eq_true rfl⟩ ⟨Nat.le_of_ble_eq_true rfl, Nat.le_of_ble_eq_true rfl⟩ [0, 1, 2] [] [0, 1] rfl rfl rfl rfl (by decide) rfl rfl 0 rfl hl.1 (Nat.le_of_ble_eq_true rfl) rfl d_M_times_60 (fun r u H locs h60 hw => ?_)
      obtain rfl := h60
      refine pd_top (b := lc mt mn i f0) (hcm i f0 (by omega) (by omega)) ?_
      have hw : Hd A D (tyM cB) s (wm b cB mn mt cm) H locs := hw
      refine lv_iload hx hb d_M_times_63 (lv_at hl 2 rfl) ?_
      have hb1 := lc_n (t := mt) (n := mn) (i := i) (j := f0) (by omega)
      refine pd_clt M d_M_times_65 (tgt := 74) (by decide) (by omega) (by omega) (fun h65 => ?_) (fun h65 => ?_)
      · refine pd_iinc (j := 1) (lv' := [(6, .int (nI (i + 1))), (0, .ref (b 0)), (3, .int (nI f0)), (4, .int (nI m0)), (5, .int (nI (cnt (fun i => m0 ≤ lc mt mn i f0) i)))]) M d_M_times_74 hl (k := 4) rfl (by decide) (by decide) rfl (fun ls hl => ?_)
        refine lv_goto (tgt := 44) hx hb d_M_times_77 (by decide) ?_
        rw [← cnt_f (P := fun i => m0 ≤ lc mt mn i f0) (k := i) (by omega)] at hl
        exact ih _ _ _ _ (by omega) (by omega) hw (lv_sub hl [1, 2, 3, 4, 0] rfl)
      · refine lv_iload hx hb d_M_times_68 (lv_at hl 3 rfl) ?_
        refine pd_iconst (k := 1) M d_M_times_70 (by decide) ?_
        refine pd_iadd M d_M_times_71 ?_
        refine pd_top (b := cnt (fun i => m0 ≤ lc mt mn i f0) (i + 1)) ((cnt_t (P := fun i => m0 ≤ lc mt mn i f0) h65).symm) ?_
        refine lv_istore (lv' := [(5, .int (nI (cnt (fun i => m0 ≤ lc mt mn i f0) (i + 1)))), (0, .ref (b 0)), (3, .int (nI f0)), (4, .int (nI m0)), (6, .int (nI i))]) hx hb d_M_times_72 hl (by decide) rfl (fun ls hl => ?_)
        refine pd_iinc (j := 1) (lv' := [(6, .int (nI (i + 1))), (5, .int (nI (cnt (fun i => m0 ≤ lc mt mn i f0) (i + 1)))), (0, .ref (b 0)), (3, .int (nI f0)), (4, .int (nI m0))]) M d_M_times_74 hl (k := 4) rfl (by decide) (by decide) rfl (fun ls hl => ?_)
        refine lv_goto (tgt := 44) hx hb d_M_times_77 (by decide) ?_
        exact ih _ _ _ _ (by omega) (by omega) hw (lv_sub hl [2, 3, 4, 1, 0] rfl)
set_option maxHeartbeats 4000000 in
set_option maxRecDepth 100000 in
theorem c_M_times (l : Launch) (D : va_G) (b : Nat → Nat) (cB : Nat → ClassId) (mn : Nat) (mt cm : Nat → Nat) (x1 x2 : Int32) (h0 : 0 < mn) (hn : mn ≤ 128) (ht : ∀ i, i < mn → mt i < 4) : Ci l y_M_times b_M_times 7 (some .int) 1 22 D (tyM cB) [.ref (b 0), .int x1, .int x2] (wm b cB mn mt cm) (Nat → Nat) (fun r _ => r = nI (tms mt mn (b31 x1 % mn) (1 + b31 x2 % (mn - b31 x1 % mn)))) (fun cm2 => (wm b cB mn mt cm2)) := by
  refine Ci_of (by decide) (Nat.le_of_ble_eq_true rfl) ?_
  intro p e s m below meth c A ls M hw hl
  have M : Mx b_M_times R_M 7 (some .int) p s m meth c ([.ref (b 0), .int x1, .int x2] : List Value).toArray := M
  have hl : lv_has ls 7 [(0, .ref (b 0)), (1, .int x1), (2, .int x2)] := hl
  obtain ⟨hx, hb, -, -, -, -, -⟩ := id M
  refine lv_aload_n hx hb d_M_times_0 rfl (lv_at hl 0 rfl) ?_
  refine pd_gM M hw 0 1 rfl (by decide) k_f_M_16 rfl d_M_times_1 ?_
  refine pd_ine M d_M_times_4 (tgt := 9) (by decide) (by omega) (fun h4 => ?_) (fun h4 => ?_)
  · refine lv_aload_n hx hb d_M_times_9 rfl (lv_at hl 0 rfl) ?_
    refine pd_callv (As := []) (rest := []) (wr := []) M hw (c_M_reckon l D b cB mn mt cm hn ht) k_l_M_20 k_i_M_reckon k_s_M_reckon k_in_M k_c_M_reckon k_d_M_reckon ⟨Nat.le_of_ble_eq_true rfl, Nat.le_of_ble_eq_true rfl⟩ ⟨Nat.le_of_ble_eq_true rfl, Nat.le_of_ble_eq_true rfl⟩ [0, 1, 2] [] [0, 1] rfl rfl rfl rfl (by decide) rfl rfl 0 rfl hl.1 (Nat.le_of_ble_eq_true rfl) rfl d_M_times_10 (fun cm2 H locs hcm hw => ?_)
    have hw : Hd A D (tyM cB) s (wm b cB mn mt cm2) H locs := hw
    refine lv_iload_n hx hb d_M_times_13 rfl (lv_at hl 1 rfl) ?_
    refine pd_ldc M k_k_M_27 d_M_times_14 ?_
    have hb1 := b31_lt x1
    have hb2 := b31_lt x2
    have hb3 := Nat.mod_lt (b31 x1) h0
    refine pd_iand M 31 d_M_times_16 (by decide) ?_
    refine pd_top (b := b31 x1) (rfl) ?_
    refine lv_aload_n hx hb d_M_times_17 rfl (lv_at hl 0 rfl) ?_
    refine pd_gM M hw 0 1 rfl (by decide) k_f_M_16 rfl d_M_times_18 ?_
    refine pd_irem M d_M_times_21 (by omega) (by omega) (by omega) ?_
    refine lv_istore_n (lv' := [(3, .int (nI ((b31 x1) % mn))), (0, .ref (b 0)), (1, .int x1), (2, .int x2)]) hx hb d_M_times_22 rfl hl (by decide) rfl (fun ls hl => ?_)
    refine pd_iconst (k := 1) M d_M_times_23 (by decide) ?_
    refine lv_iload_n hx hb d_M_times_24 rfl (lv_at hl 3 rfl) ?_
    refine pd_ldc M k_k_M_27 d_M_times_25 ?_
    refine pd_iand M 31 d_M_times_27 (by decide) ?_
    refine pd_top (b := b31 x2) (rfl) ?_
    refine lv_aload_n hx hb d_M_times_28 rfl (lv_at hl 1 rfl) ?_
    refine pd_gM M hw 0 1 rfl (by decide) k_f_M_16 rfl d_M_times_29 ?_
    refine lv_iload_n hx hb d_M_times_32 rfl (lv_at hl 0 rfl) ?_
    refine pd_isub M d_M_times_33 (by omega) ?_
    have hb4 := Nat.mod_lt (b31 x2) (show 0 < mn - b31 x1 % mn by omega)
    refine pd_irem M d_M_times_34 (by omega) (by omega) (by omega) ?_
    refine pd_iadd M d_M_times_35 ?_
    refine lv_istore (lv' := [(4, .int (nI (1 + ((b31 x2) % (mn - ((b31 x1) % mn)))))), (3, .int (nI ((b31 x1) % mn))), (0, .ref (b 0)), (1, .int x1), (2, .int x2)]) hx hb d_M_times_36 hl (by decide) rfl (fun ls hl => ?_)
    refine pd_iconst (k := 0) M d_M_times_38 (by decide) ?_
    refine lv_istore (lv' := [(5, .int (nI 0)), (4, .int (nI (1 + ((b31 x2) % (mn - ((b31 x1) % mn)))))), (3, .int (nI ((b31 x1) % mn))), (0, .ref (b 0)), (1, .int x1), (2, .int x2)]) hx hb d_M_times_39 hl (by decide) rfl (fun ls hl => ?_)
    refine pd_iconst (k := 0) M d_M_times_41 (by decide) ?_
    refine lv_istore (lv' := [(6, .int (nI 0)), (5, .int (nI 0)), (4, .int (nI (1 + ((b31 x2) % (mn - ((b31 x1) % mn)))))), (3, .int (nI ((b31 x1) % mn))), (0, .ref (b 0)), (1, .int x1), (2, .int x2)]) hx hb d_M_times_42 hl (by decide) rfl (fun ls hl => ?_)
    refine mti M hn hcm (f0 := b31 x1 % mn) (m0 := 1 + b31 x2 % (mn - b31 x1 % mn)) hb3 (by omega) (by omega) (fun H locs ls hw hl => ?_) (mn + 2) 0 _ _ _ (by omega) (by omega) hw (lv_sub hl [4, 3, 2, 1, 0] rfl)
    refine lv_iload hx hb d_M_times_80 (lv_at hl 0 rfl) ?_
    exact pd_ret M cm2 hw (rfl) (rfl) d_M_times_82
  · omega
set_option maxHeartbeats 4000000 in
set_option maxRecDepth 100000 in
theorem c_M_times0 (l : Launch) (D : va_G) (b : Nat → Nat) (cB : Nat → ClassId) (mn : Nat) (mt cm : Nat → Nat) (x1 x2 : Int32) (h0 : mn = 0) : Ci l y_M_times b_M_times 7 (some .int) 0 0 D (tyM cB) [.ref (b 0), .int x1, .int x2] (wm b cB mn mt cm) (Unit) (fun r _ => r = nI 0) (fun _ => (wm b cB mn mt cm)) := by
  refine Ci_of (by decide) (Nat.le_of_ble_eq_true rfl) ?_
  intro p e s m below meth c A ls M hw hl
  have M : Mx b_M_times R_M 7 (some .int) p s m meth c ([.ref (b 0), .int x1, .int x2] : List Value).toArray := M
  have hl : lv_has ls 7 [(0, .ref (b 0)), (1, .int x1), (2, .int x2)] := hl
  obtain ⟨hx, hb, -, -, -, -, -⟩ := id M
  refine lv_aload_n hx hb d_M_times_0 rfl (lv_at hl 0 rfl) ?_
  refine pd_gM M hw 0 1 rfl (by decide) k_f_M_16 rfl d_M_times_1 ?_
  refine pd_ine M d_M_times_4 (tgt := 9) (by decide) (by omega) (fun h4 => ?_) (fun h4 => ?_)
  · omega
  · refine pd_iconst (k := 0) M d_M_times_7 (by decide) ?_
    exact pd_ret M () hw (rfl) (rfl) d_M_times_8
set_option maxHeartbeats 4000000 in
set_option maxRecDepth 100000 in
theorem mra {p : Program} {l : Launch} {e : Env} {s : State} {m : MethodId} {args : Array Value} {below : List Frame} {meth : Method} {c : Code} {Q : State → Prop} {A : Nat → Prop} {D : va_G} {b : Nat → Nat} {cB : Nat → ClassId} {mn : Nat} {mt cm : Nat → Nat} (M : Mx b_M_rank R_M 6 (some .int) p s m meth c args) (hn : mn ≤ 128) (hcm : ∀ i j, i ≤ mn → j ≤ mn → cm (129 * i + j) = lc mt mn i j) (ht : ∀ i, i < mn → mt i < 4) {f0 : Nat} (hf0 : f0 < mn)
    (K : ∀ (H : Heap) (locs : List Loc) (ls : Array Slot), Hd A D (tyM cB) s (wm b cB mn mt cm) H locs → lv_has ls 6 [(3, .int (nI (rnk mt mn f0)))] → W p l e { frames := 1, cells := 0, slots := 0, locals := 22 } s m args below meth c H locs 0 0 Q (F0 m 107 ls [])) :
    ∀ (f : Nat) (i : Nat) (H : Heap) (locs : List Loc) (ls : Array Slot), mn - i < f → i ≤ mn → Hd A D (tyM cB) s (wm b cB mn mt cm) H locs → lv_has ls 6 [(0, .ref (b 0)), (2, .int (nI f0)), (3, .int (nI (cnt (fun i => slt mt mn i f0) i))), (4, .int (nI i))] → W p l e { frames := 1, cells := 0, slots := 0, locals := 22 } s m args below meth c H locs 0 0 Q (F0 m 28 ls []) := by
  obtain ⟨hx, hb, -, -, -, -, -⟩ := id M
  intro f
  induction f with
  | zero => intro i H locs ls hf; exact absurd hf (Nat.not_lt_zero _)
  | succ f ih =>
    intro i H locs ls hf hi hw hl
    refine lv_iload hx hb d_M_rank_28 (lv_at hl 3 rfl) ?_
    refine lv_aload_n hx hb d_M_rank_30 rfl (lv_at hl 0 rfl) ?_
    refine pd_gM M hw 0 1 rfl (by decide) k_f_M_16 rfl d_M_rank_31 ?_
    refine pd_cge M d_M_rank_34 (tgt := 107) (by decide) (by omega) (by omega) (fun h34 => ?_) (fun h34 => ?_)
    · obtain rfl : i = mn := by omega
      exact K _ _ _ hw (lv_sub hl [2] rfl)
    · refine lv_iload hx hb d_M_rank_37 (lv_at hl 3 rfl) ?_
      refine lv_iload_n hx hb d_M_rank_39 rfl (lv_at hl 1 rfl) ?_
      refine pd_ceq M d_M_rank_40 (tgt := 101) (by decide) (by omega) (by omega) (fun h40 => ?_) (fun h40 => ?_)
      · have hs : ¬ slt mt mn i f0 := fun z => z.1 (by omega)
        refine pd_iinc (j := 1) (lv' := [(4, .int (nI (i + 1))), (0, .ref (b 0)), (2, .int (nI f0)), (3, .int (nI (cnt (fun i => slt mt mn i f0) i)))]) M d_M_rank_101 hl (k := 3) rfl (by decide) (by decide) rfl (fun ls hl => ?_)
        refine lv_goto (tgt := 28) hx hb d_M_rank_104 (by decide) ?_
        rw [← cnt_f (P := fun i => slt mt mn i f0) (k := i) hs] at hl
        exact ih _ _ _ _ (by omega) (by omega) hw (lv_sub hl [1, 2, 3, 0] rfl)
      · refine lv_aload_n hx hb d_M_rank_43 rfl (lv_at hl 0 rfl) ?_
        refine lv_iload hx hb d_M_rank_44 (lv_at hl 3 rfl) ?_
        refine lv_iload_n hx hb d_M_rank_46 rfl (lv_at hl 1 rfl) ?_
        refine pd_calli (As := [.int (nI i), .int (nI f0)]) (rest := []) (wr := []) M hw (c_M_same l D b cB mn mt cm i f0 (by omega) (by omega)) k_l_M_23 k_i_M_same k_s_M_same k_in_M k_c_M_same k_d_M_same ⟨Nat.le_of_ble_eq_true rfl, Nat.le_of_ble_eq_true rfl⟩ ⟨Nat.le_of_ble_eq_true rfl, Nat.le_of_ble_eq_true rfl⟩ [0, 1, 2] [] [0, 1] rfl rfl rfl rfl (by decide) rfl rfl 0 rfl hl.1 (Nat.le_of_ble_eq_true rfl) rfl d_M_rank_47 (fun r u H locs h47 hw => ?_)
        obtain rfl := h47
        refine pd_top (b := lc mt mn i f0) (hcm i f0 (by omega) (by omega)) ?_
        have hw : Hd A D (tyM cB) s (wm b cB mn mt cm) H locs := hw
        refine lv_istore (lv' := [(5, .int (nI (lc mt mn i f0))), (0, .ref (b 0)), (2, .int (nI f0)), (3, .int (nI (cnt (fun i => slt mt mn i f0) i))), (4, .int (nI i))]) hx hb d_M_rank_50 hl (by decide) rfl (fun ls hl => ?_)
        have hb1 := lc_n (t := mt) (n := mn) (i := i) (j := f0) (by omega)
        have hb2 := lc_n2 (t := mt) (n := mn) (i := i) (j := f0) (by omega)
        refine lv_iload hx hb d_M_rank_52 (lv_at hl 4 rfl) ?_
        refine lv_iload hx hb d_M_rank_54 (lv_at hl 0 rfl) ?_
        refine pd_iadd M d_M_rank_56 ?_
        refine lv_aload_n hx hb d_M_rank_57 rfl (lv_at hl 1 rfl) ?_
        refine pd_gM M hw 0 1 rfl (by decide) k_f_M_16 rfl d_M_rank_58 ?_
        refine pd_ceq M d_M_rank_61 (tgt := 97) (by decide) (by omega) (by omega) (fun h61 => ?_) (fun h61 => ?_)
        · have hs : slt mt mn i f0 := ⟨by omega, Or.inl h61⟩
          refine lv_iload_n hx hb d_M_rank_97 rfl (lv_at hl 3 rfl) ?_
          refine pd_iconst (k := 1) M d_M_rank_98 (by decide) ?_
          refine pd_iadd M d_M_rank_99 ?_
          refine pd_top (b := cnt (fun i => slt mt mn i f0) (i + 1)) ((cnt_t (P := fun i => slt mt mn i f0) hs).symm) ?_
          refine lv_istore_n (lv' := [(3, .int (nI (cnt (fun i => slt mt mn i f0) (i + 1)))), (5, .int (nI (lc mt mn i f0))), (0, .ref (b 0)), (2, .int (nI f0)), (4, .int (nI i))]) hx hb d_M_rank_100 rfl hl (by decide) rfl (fun ls hl => ?_)
          refine pd_iinc (j := 1) (lv' := [(4, .int (nI (i + 1))), (3, .int (nI (cnt (fun i => slt mt mn i f0) (i + 1)))), (5, .int (nI (lc mt mn i f0))), (0, .ref (b 0)), (2, .int (nI f0))]) M d_M_rank_101 hl (k := 4) rfl (by decide) (by decide) rfl (fun ls hl => ?_)
          refine lv_goto (tgt := 28) hx hb d_M_rank_104 (by decide) ?_
          exact ih _ _ _ _ (by omega) (by omega) hw (lv_sub hl [3, 4, 1, 0] rfl)
        · refine lv_iload_n hx hb d_M_rank_64 rfl (lv_at hl 2 rfl) ?_
          refine lv_iload hx hb d_M_rank_65 (lv_at hl 0 rfl) ?_
          refine pd_iadd M d_M_rank_67 ?_
          refine lv_aload_n hx hb d_M_rank_68 rfl (lv_at hl 1 rfl) ?_
          refine pd_gM M hw 0 1 rfl (by decide) k_f_M_16 rfl d_M_rank_69 ?_
          refine pd_cge M d_M_rank_72 (tgt := 101) (by decide) (by omega) (by omega) (fun h72 => ?_) (fun h72 => ?_)
          · have hs : ¬ slt mt mn i f0 := fun z => by rcases z.2 with q | q <;> omega
            refine pd_iinc (j := 1) (lv' := [(4, .int (nI (i + 1))), (5, .int (nI (lc mt mn i f0))), (0, .ref (b 0)), (2, .int (nI f0)), (3, .int (nI (cnt (fun i => slt mt mn i f0) i)))]) M d_M_rank_101 hl (k := 4) rfl (by decide) (by decide) rfl (fun ls hl => ?_)
            refine lv_goto (tgt := 28) hx hb d_M_rank_104 (by decide) ?_
            rw [← cnt_f (P := fun i => slt mt mn i f0) (k := i) hs] at hl
            exact ih _ _ _ _ (by omega) (by omega) hw (lv_sub hl [2, 3, 4, 0] rfl)
          · have ht1 := ht (i + lc mt mn i f0) (by omega)
            have ht2 := ht (f0 + lc mt mn i f0) (by omega)
            refine lv_aload_n hx hb d_M_rank_75 rfl (lv_at hl 1 rfl) ?_
            refine pd_gM M hw 0 0 rfl (by decide) k_f_M_7 rfl d_M_rank_76 ?_
            refine lv_iload hx hb d_M_rank_79 (lv_at hl 4 rfl) ?_
            refine lv_iload hx hb d_M_rank_81 (lv_at hl 0 rfl) ?_
            refine pd_iadd M d_M_rank_83 ?_
            refine pd_ald M hw 1 0 rfl rfl (by omega) (by decide) d_M_rank_84 ?_
            refine lv_aload_n hx hb d_M_rank_85 rfl (lv_at hl 1 rfl) ?_
            refine pd_gM M hw 0 0 rfl (by decide) k_f_M_7 rfl d_M_rank_86 ?_
            refine lv_iload_n hx hb d_M_rank_89 rfl (lv_at hl 2 rfl) ?_
            refine lv_iload hx hb d_M_rank_90 (lv_at hl 0 rfl) ?_
            refine pd_iadd M d_M_rank_92 ?_
            refine pd_ald M hw 1 0 rfl rfl (by omega) (by decide) d_M_rank_93 ?_
            refine pd_cge M d_M_rank_94 (tgt := 101) (by decide) (by omega) (by omega) (fun h94 => ?_) (fun h94 => ?_)
            · have hs : ¬ slt mt mn i f0 := fun z => by rcases z.2 with q | q <;> omega
              refine pd_iinc (j := 1) (lv' := [(4, .int (nI (i + 1))), (5, .int (nI (lc mt mn i f0))), (0, .ref (b 0)), (2, .int (nI f0)), (3, .int (nI (cnt (fun i => slt mt mn i f0) i)))]) M d_M_rank_101 hl (k := 4) rfl (by decide) (by decide) rfl (fun ls hl => ?_)
              refine lv_goto (tgt := 28) hx hb d_M_rank_104 (by decide) ?_
              rw [← cnt_f (P := fun i => slt mt mn i f0) (k := i) hs] at hl
              exact ih _ _ _ _ (by omega) (by omega) hw (lv_sub hl [2, 3, 4, 0] rfl)
            · have hs : slt mt mn i f0 := ⟨by omega, Or.inr ⟨by omega, h94⟩⟩
              refine lv_iload_n hx hb d_M_rank_97 rfl (lv_at hl 3 rfl) ?_
              refine pd_iconst (k := 1) M d_M_rank_98 (by decide) ?_
              refine pd_iadd M d_M_rank_99 ?_
              refine pd_top (b := cnt (fun i => slt mt mn i f0) (i + 1)) ((cnt_t (P := fun i => slt mt mn i f0) hs).symm) ?_
              refine lv_istore_n (lv' := [(3, .int (nI (cnt (fun i => slt mt mn i f0) (i + 1)))), (5, .int (nI (lc mt mn i f0))), (0, .ref (b 0)), (2, .int (nI f0)), (4, .int (nI i))]) hx hb d_M_rank_100 rfl hl (by decide) rfl (fun ls hl => ?_)
              refine pd_iinc (j := 1) (lv' := [(4, .int (nI (i + 1))), (3, .int (nI (cnt (fun i => slt mt mn i f0) (i + 1)))), (5, .int (nI (lc mt mn i f0))), (0, .ref (b 0)), (2, .int (nI f0))]) M d_M_rank_101 hl (k := 4) rfl (by decide) (by decide) rfl (fun ls hl => ?_)
              refine lv_goto (tgt := 28) hx hb d_M_rank_104 (by decide) ?_
              exact ih _ _ _ _ (by omega) (by omega) hw (lv_sub hl [3, 4, 1, 0] rfl)
set_option maxHeartbeats 4000000 in
set_option maxRecDepth 100000 in
theorem c_M_rank (l : Launch) (D : va_G) (b : Nat → Nat) (cB : Nat → ClassId) (mn : Nat) (mt cm : Nat → Nat) (x1 : Int32) (h0 : 0 < mn) (hn : mn ≤ 128) (ht : ∀ i, i < mn → mt i < 4) : Ci l y_M_rank b_M_rank 6 (some .int) 1 22 D (tyM cB) [.ref (b 0), .int x1] (wm b cB mn mt cm) (Nat → Nat) (fun r _ => r = nI (rnk mt mn (b31 x1 % mn))) (fun cm2 => (wm b cB mn mt cm2)) := by
  refine Ci_of (by decide) (Nat.le_of_ble_eq_true rfl) ?_
  intro p e s m below meth c A ls M hw hl
  have M : Mx b_M_rank R_M 6 (some .int) p s m meth c ([.ref (b 0), .int x1] : List Value).toArray := M
  have hl : lv_has ls 6 [(0, .ref (b 0)), (1, .int x1)] := hl
  obtain ⟨hx, hb, -, -, -, -, -⟩ := id M
  refine lv_aload_n hx hb d_M_rank_0 rfl (lv_at hl 0 rfl) ?_
  refine pd_gM M hw 0 1 rfl (by decide) k_f_M_16 rfl d_M_rank_1 ?_
  refine pd_ine M d_M_rank_4 (tgt := 9) (by decide) (by omega) (fun h4 => ?_) (fun h4 => ?_)
  · refine lv_aload_n hx hb d_M_rank_9 rfl (lv_at hl 0 rfl) ?_
    refine pd_callv (As := []) (rest := []) (wr := []) M hw (c_M_reckon l D b cB mn mt cm hn ht) k_l_M_20 k_i_M_reckon k_s_M_reckon k_in_M k_c_M_reckon k_d_M_reckon ⟨Nat.le_of_ble_eq_true rfl, Nat.le_of_ble_eq_true rfl⟩ ⟨Nat.le_of_ble_eq_true rfl, Nat.le_of_ble_eq_true rfl⟩ [0, 1, 2] [] [0, 1] rfl rfl rfl rfl (by decide) rfl rfl 0 rfl hl.1 (Nat.le_of_ble_eq_true rfl) rfl d_M_rank_10 (fun cm2 H locs hcm hw => ?_)
    have hw : Hd A D (tyM cB) s (wm b cB mn mt cm2) H locs := hw
    refine lv_iload_n hx hb d_M_rank_13 rfl (lv_at hl 1 rfl) ?_
    refine pd_ldc M k_k_M_27 d_M_rank_14 ?_
    have hb1 := b31_lt x1
    have hb3 := Nat.mod_lt (b31 x1) h0
    refine pd_iand M 31 d_M_rank_16 (by decide) ?_
    refine pd_top (b := b31 x1) (rfl) ?_
    refine lv_aload_n hx hb d_M_rank_17 rfl (lv_at hl 0 rfl) ?_
    refine pd_gM M hw 0 1 rfl (by decide) k_f_M_16 rfl d_M_rank_18 ?_
    refine pd_irem M d_M_rank_21 (by omega) (by omega) (by omega) ?_
    refine lv_istore_n (lv' := [(2, .int (nI ((b31 x1) % mn))), (0, .ref (b 0)), (1, .int x1)]) hx hb d_M_rank_22 rfl hl (by decide) rfl (fun ls hl => ?_)
    refine pd_iconst (k := 0) M d_M_rank_23 (by decide) ?_
    refine lv_istore_n (lv' := [(3, .int (nI 0)), (2, .int (nI ((b31 x1) % mn))), (0, .ref (b 0)), (1, .int x1)]) hx hb d_M_rank_24 rfl hl (by decide) rfl (fun ls hl => ?_)
    refine pd_iconst (k := 0) M d_M_rank_25 (by decide) ?_
    refine lv_istore (lv' := [(4, .int (nI 0)), (3, .int (nI 0)), (2, .int (nI ((b31 x1) % mn))), (0, .ref (b 0)), (1, .int x1)]) hx hb d_M_rank_26 hl (by decide) rfl (fun ls hl => ?_)
    refine mra M hn hcm ht (f0 := b31 x1 % mn) hb3 (fun H locs ls hw hl => ?_) (mn + 1) 0 _ _ _ (by omega) (by omega) hw (lv_sub hl [3, 2, 1, 0] rfl)
    refine lv_iload_n hx hb d_M_rank_107 rfl (lv_at hl 0 rfl) ?_
    exact pd_ret M cm2 hw (rfl) (rfl) d_M_rank_108
  · omega
set_option maxHeartbeats 4000000 in
set_option maxRecDepth 100000 in
theorem c_M_rank0 (l : Launch) (D : va_G) (b : Nat → Nat) (cB : Nat → ClassId) (mn : Nat) (mt cm : Nat → Nat) (x1 : Int32) (h0 : mn = 0) : Ci l y_M_rank b_M_rank 6 (some .int) 0 0 D (tyM cB) [.ref (b 0), .int x1] (wm b cB mn mt cm) (Unit) (fun r _ => r = -1) (fun _ => (wm b cB mn mt cm)) := by
  refine Ci_of (by decide) (Nat.le_of_ble_eq_true rfl) ?_
  intro p e s m below meth c A ls M hw hl
  have M : Mx b_M_rank R_M 6 (some .int) p s m meth c ([.ref (b 0), .int x1] : List Value).toArray := M
  have hl : lv_has ls 6 [(0, .ref (b 0)), (1, .int x1)] := hl
  obtain ⟨hx, hb, -, -, -, -, -⟩ := id M
  refine lv_aload_n hx hb d_M_rank_0 rfl (lv_at hl 0 rfl) ?_
  refine pd_gM M hw 0 1 rfl (by decide) k_f_M_16 rfl d_M_rank_1 ?_
  refine pd_ine M d_M_rank_4 (tgt := 9) (by decide) (by omega) (fun h4 => ?_) (fun h4 => ?_)
  · omega
  · refine lv_iconst (v := -1) hx hb d_M_rank_7 (by decide) ?_
    exact pd_ret M () hw (rfl) (rfl) d_M_rank_8
set_option maxHeartbeats 4000000 in
set_option maxRecDepth 100000 in
theorem mpe {p : Program} {l : Launch} {e : Env} {s : State} {m : MethodId} {args : Array Value} {below : List Frame} {meth : Method} {c : Code} {Q : State → Prop} {A : Nat → Prop} {D : va_G} {b : Nat → Nat} {cB : Nat → ClassId} {mn : Nat} {mt cm : Nat → Nat} (M : Mx b_M_period R_M 2 (some .int) p s m meth c args) (hn : mn ≤ 128) (hcm : ∀ i j, i ≤ mn → j ≤ mn → cm (129 * i + j) = lc mt mn i j)
    (K : ∀ (H : Heap) (locs : List Loc) (ls : Array Slot) (r pc : Nat), isPer mt mn r → decode b_M_period pc = .ok (.ireturn, 1) → Hd A D (tyM cB) s (wm b cB mn mt cm) H locs → W p l e { frames := 1, cells := 0, slots := 0, locals := 22 } s m args below meth c H locs 0 0 Q (F0 m pc ls [.int (nI r)])) :
    ∀ (f : Nat) (p0 : Nat) (H : Heap) (locs : List Loc) (ls : Array Slot), mn - p0 < f → 1 ≤ p0 → p0 ≤ mn + 1 → (∀ q, 1 ≤ q → q < p0 → lc mt mn 0 q ≠ mn - q) → Hd A D (tyM cB) s (wm b cB mn mt cm) H locs → lv_has ls 2 [(0, .ref (b 0)), (1, .int (nI p0))] → W p l e { frames := 1, cells := 0, slots := 0, locals := 22 } s m args below meth c H locs 0 0 Q (F0 m 6 ls []) := by
  obtain ⟨hx, hb, -, -, -, -, -⟩ := id M
  intro f
  induction f with
  | zero => intro p0 H locs ls hf; exact absurd hf (Nat.not_lt_zero _)
  | succ f ih =>
    intro p0 H locs ls hf hp hp2 hq hw hl
    refine lv_iload_n hx hb d_M_period_6 rfl (lv_at hl 1 rfl) ?_
    refine lv_aload_n hx hb d_M_period_7 rfl (lv_at hl 0 rfl) ?_
    refine pd_gM M hw 0 1 rfl (by decide) k_f_M_16 rfl d_M_period_8 ?_
    refine pd_cge M d_M_period_11 (tgt := 37) (by decide) (by omega) (by omega) (fun h11 => ?_) (fun h11 => ?_)
    · refine lv_aload_n hx hb d_M_period_37 rfl (lv_at hl 0 rfl) ?_
      refine pd_gM M hw 0 1 rfl (by decide) k_f_M_16 rfl d_M_period_38 ?_
      exact K _ _ _ _ _ ⟨Or.inl rfl, fun q a b _ => hq q a (by omega)⟩ d_M_period_41 hw
    · refine lv_aload_n hx hb d_M_period_14 rfl (lv_at hl 0 rfl) ?_
      refine pd_iconst (k := 0) M d_M_period_15 (by decide) ?_
      refine lv_iload_n hx hb d_M_period_16 rfl (lv_at hl 1 rfl) ?_
      refine pd_calli (As := [.int (nI 0), .int (nI p0)]) (rest := []) (wr := []) M hw (c_M_same l D b cB mn mt cm 0 p0 (by omega) (by omega)) k_l_M_23 k_i_M_same k_s_M_same k_in_M k_c_M_same k_d_M_same ⟨Nat.le_of_ble_eq_true rfl, Nat.le_of_ble_eq_true rfl⟩ ⟨Nat.le_of_ble_eq_true rfl, Nat.le_of_ble_eq_true rfl⟩ [0, 1, 2] [] [0, 1] rfl rfl rfl rfl (by decide) rfl rfl 0 rfl hl.1 (Nat.le_of_ble_eq_true rfl) rfl d_M_period_17 (fun r u H locs h17 hw => ?_)
      obtain rfl := h17
      refine pd_top (b := lc mt mn 0 p0) (hcm 0 p0 (by omega) (by omega)) ?_
      have hw : Hd A D (tyM cB) s (wm b cB mn mt cm) H locs := hw
      have hb1 := lc_n (t := mt) (n := mn) (i := 0) (j := p0) (by omega)
      refine lv_aload_n hx hb d_M_period_20 rfl (lv_at hl 0 rfl) ?_
      refine pd_gM M hw 0 1 rfl (by decide) k_f_M_16 rfl d_M_period_21 ?_
      refine lv_iload_n hx hb d_M_period_24 rfl (lv_at hl 1 rfl) ?_
      refine pd_isub M d_M_period_25 (by omega) ?_
      refine pd_cne M d_M_period_26 (tgt := 31) (by decide) (by omega) (by omega) (fun h26 => ?_) (fun h26 => ?_)
      · refine pd_iinc (j := 1) (lv' := [(1, .int (nI (p0 + 1))), (0, .ref (b 0))]) M d_M_period_31 hl (k := 1) rfl (by decide) (by decide) rfl (fun ls hl => ?_)
        refine lv_goto (tgt := 6) hx hb d_M_period_34 (by decide) ?_
        exact ih _ _ _ _ (by omega) (by omega) (by omega) (fun q a b z => by by_cases e9 : q = p0; exact h26 (by rw [← e9]; exact z); exact hq q a (by omega) z) hw (lv_sub hl [1, 0] rfl)
      · refine lv_iload_n hx hb d_M_period_29 rfl (lv_at hl 1 rfl) ?_
        exact K _ _ _ _ _ ⟨Or.inr ⟨hp, h11, h26⟩, fun q a b _ => hq q a b⟩ d_M_period_30 hw
set_option maxHeartbeats 4000000 in
set_option maxRecDepth 100000 in
theorem c_M_period (l : Launch) (D : va_G) (b : Nat → Nat) (cB : Nat → ClassId) (mn : Nat) (mt cm : Nat → Nat) (hn : mn ≤ 128) (ht : ∀ i, i < mn → mt i < 4) : Ci l y_M_period b_M_period 2 (some .int) 1 22 D (tyM cB) [.ref (b 0)] (wm b cB mn mt cm) (Nat → Nat) (fun r _ => ∃ k, r = nI k ∧ isPer mt mn k) (fun cm2 => (wm b cB mn mt cm2)) := by
  refine Ci_of (by decide) (Nat.le_of_ble_eq_true rfl) ?_
  intro p e s m below meth c A ls M hw hl
  have M : Mx b_M_period R_M 2 (some .int) p s m meth c ([.ref (b 0)] : List Value).toArray := M
  have hl : lv_has ls 2 [(0, .ref (b 0))] := hl
  obtain ⟨hx, hb, -, -, -, -, -⟩ := id M
  refine lv_aload_n hx hb d_M_period_0 rfl (lv_at hl 0 rfl) ?_
  refine pd_callv (As := []) (rest := []) (wr := []) M hw (c_M_reckon l D b cB mn mt cm hn ht) k_l_M_20 k_i_M_reckon k_s_M_reckon k_in_M k_c_M_reckon k_d_M_reckon ⟨Nat.le_of_ble_eq_true rfl, Nat.le_of_ble_eq_true rfl⟩ ⟨Nat.le_of_ble_eq_true rfl, Nat.le_of_ble_eq_true rfl⟩ [0, 1, 2] [] [0, 1] rfl rfl rfl rfl (by decide) rfl rfl 0 rfl hl.1 (Nat.le_of_ble_eq_true rfl) rfl d_M_period_1 (fun cm2 H locs hcm hw => ?_)
  have hw : Hd A D (tyM cB) s (wm b cB mn mt cm2) H locs := hw
  refine pd_iconst (k := 1) M d_M_period_4 (by decide) ?_
  refine lv_istore_n (lv' := [(1, .int (nI 1)), (0, .ref (b 0))]) hx hb d_M_period_5 rfl hl (by decide) rfl (fun ls hl => ?_)
  exact mpe M hn hcm (fun H locs ls r pc hr hd hw => pd_ret M cm2 hw rfl ⟨r, rfl, hr⟩ hd) (mn + 1) 1 _ _ _ (by omega) (by omega) (by omega) (fun q a b => by omega) hw (lv_sub hl [1, 0] rfl)
end
section
/-! the model's mirror -/
theorem dn_sub (k : Nat) : nI k - nI 1 = dn k := by
  cases k with
  | zero => decide
  | succ k => exact pk_sub (show 1 ≤ k + 1 by omega)
theorem mxr_le (t : Nat → Nat) (n k : Nat) (hk : k ≤ 257) : mxs (rad t n) k ≤ 256 := mxs_le k (fun c hc => by have := (rad_le t n c).1; omega)
set_option maxHeartbeats 4000000 in
set_option maxRecDepth 100000 in
theorem mmi_in {p : Program} {l : Launch} {e : Env} {R : Room} {s : State} {m : MethodId} {args : Array Value} {below : List Frame} {meth : Method} {c : Code} {cells slots : Nat} {Q : State → Prop} {A : Nat → Prop} {D : va_G} {b : Nat → Nat} {cB : Nat → ClassId} {mn : Nat} {mt cm : Nat → Nat} (M : Mx b_M_mirror R_M 6 (some .int) p s m meth c args) (hn : mn ≤ 128) (ht : ∀ i, i < mn → mt i < 4) {i k m0 c0 : Nat} (hm0 : m0 ≤ 256)
    (K : ∀ (H : Heap) (locs : List Loc) (ls : Array Slot), Hd A D (tyM cB) s (wm b cB mn mt cm) H locs → lv_has ls 6 [(0, .ref (b 0)), (1, .int (nI (max m0 (rad mt mn c0)))), (2, .int (nI i)), (3, .int (nI k))] → W p l e R s m args below meth c H locs cells slots Q (F0 m 92 ls [])) :
    ∀ (x y : Nat) (H : Heap) (locs : List Loc) (ls : Array Slot), miI mt mn c0 x y → Hd A D (tyM cB) s (wm b cB mn mt cm) H locs → lv_has ls 6 [(0, .ref (b 0)), (1, .int (nI (max m0 (y - x)))), (2, .int (nI i)), (3, .int (nI k)), (4, .int (dn x)), (5, .int (nI y))] → W p l e R s m args below meth c H locs cells slots Q (F0 m 27 ls []) := by
  obtain ⟨hx, hb, -, -, -, -, -⟩ := id M
  intro x
  induction x with
  | zero =>
    intro y H locs ls hI hw hl
    refine lv_iload hx hb d_M_mirror_27 (lv_at hl 4 rfl) ?_
    refine lv_if_lt (tgt := 92) hx hb d_M_mirror_29 (by decide) (fun _ => ?_) (fun z => absurd (by decide) z)
    rw [miI_end hI (Nat.zero_le _) (Or.inl rfl)] at hl
    exact K _ _ _ hw (lv_sub hl [0, 1, 2, 3] rfl)
  | succ x ih =>
    intro y H locs ls hI hw hl
    have hl : lv_has ls 6 [(0, .ref (b 0)), (1, .int (nI (max m0 (y - (x + 1))))), (2, .int (nI i)), (3, .int (nI k)), (4, .int (nI x)), (5, .int (nI y))] := hl
    obtain ⟨i1, i2, i3, i4⟩ := id hI
    refine lv_iload hx hb d_M_mirror_27 (lv_at hl 4 rfl) ?_
    refine pd_ilt M d_M_mirror_29 (tgt := 92) (by decide) (by omega) ?_
    refine lv_iload hx hb d_M_mirror_32 (lv_at hl 5 rfl) ?_
    refine lv_aload_n hx hb d_M_mirror_34 rfl (lv_at hl 0 rfl) ?_
    refine pd_gM M hw 0 1 rfl (by decide) k_f_M_16 rfl d_M_mirror_35 ?_
    refine pd_cge M d_M_mirror_38 (tgt := 92) (by decide) (by omega) (by omega) (fun h38 => ?_) (fun h38 => ?_)
    · rw [miI_end hI (by omega) (Or.inr (Or.inl h38))] at hl
      exact K _ _ _ hw (lv_sub hl [0, 1, 2, 3] rfl)
    · have ht1 := ht x (by omega)
      have ht2 := ht y (by omega)
      refine lv_aload_n hx hb d_M_mirror_41 rfl (lv_at hl 0 rfl) ?_
      refine pd_gM M hw 0 0 rfl (by decide) k_f_M_7 rfl d_M_mirror_42 ?_
      refine lv_iload hx hb d_M_mirror_45 (lv_at hl 4 rfl) ?_
      refine pd_ald M hw 1 0 rfl rfl (by omega) (by decide) d_M_mirror_47 ?_
      refine lv_aload_n hx hb d_M_mirror_48 rfl (lv_at hl 0 rfl) ?_
      refine pd_gM M hw 0 0 rfl (by decide) k_f_M_7 rfl d_M_mirror_49 ?_
      refine lv_iload hx hb d_M_mirror_52 (lv_at hl 5 rfl) ?_
      refine pd_ald M hw 1 0 rfl rfl (by omega) (by decide) d_M_mirror_54 ?_
      refine pd_cne M d_M_mirror_55 (tgt := 92) (by decide) (by omega) (by omega) (fun h55 => ?_) (fun h55 => ?_)
      · rw [miI_end hI (by rcases i3 with q | q; exact q; exact absurd (by rw [show x = y by omega]) h55) (Or.inr (Or.inr h55))] at hl
        exact K _ _ _ hw (lv_sub hl [0, 1, 2, 3] rfl)
      · refine lv_iload hx hb d_M_mirror_58 (lv_at hl 5 rfl) ?_
        refine lv_iload hx hb d_M_mirror_60 (lv_at hl 4 rfl) ?_
        refine pd_isub M d_M_mirror_62 (by omega) ?_
        refine pd_iconst (k := 1) M d_M_mirror_63 (by decide) ?_
        refine pd_iadd M d_M_mirror_64 ?_
        refine lv_iload_n hx hb d_M_mirror_65 rfl (lv_at hl 1 rfl) ?_
        refine pd_cle M d_M_mirror_66 (tgt := 77) (by decide) (by omega) (by omega) (fun h66 => ?_) (fun h66 => ?_)
        · rw [show max m0 (y - (x + 1)) = max m0 (y + 1 - x) by omega] at hl
          refine lv_iload hx hb d_M_mirror_77 (lv_at hl 4 rfl) ?_
          refine pd_iconst (k := 1) M d_M_mirror_79 (by decide) ?_
          refine lv_isub hx hb d_M_mirror_80 ?_
          refine pd_topi (b := dn x) (dn_sub x) ?_
          refine lv_istore (lv' := [(4, .int (dn x)), (0, .ref (b 0)), (1, .int (nI (max m0 (y + 1 - x)))), (2, .int (nI i)), (3, .int (nI k)), (5, .int (nI y))]) hx hb d_M_mirror_81 hl (by decide) rfl (fun ls hl => ?_)
          refine lv_iload hx hb d_M_mirror_83 (lv_at hl 5 rfl) ?_
          refine pd_iconst (k := 1) M d_M_mirror_85 (by decide) ?_
          refine pd_iadd M d_M_mirror_86 ?_
          refine lv_istore (lv' := [(5, .int (nI (y + 1))), (4, .int (dn x)), (0, .ref (b 0)), (1, .int (nI (max m0 (y + 1 - x)))), (2, .int (nI i)), (3, .int (nI k))]) hx hb d_M_mirror_87 hl (by decide) rfl (fun ls hl => ?_)
          refine lv_goto (tgt := 27) hx hb d_M_mirror_89 (by decide) ?_
          exact ih _ _ _ _ (miI_step hI h38 h55) hw (lv_sub hl [2, 3, 4, 5, 1, 0] rfl)
        · refine lv_iload hx hb d_M_mirror_69 (lv_at hl 5 rfl) ?_
          refine lv_iload hx hb d_M_mirror_71 (lv_at hl 4 rfl) ?_
          refine pd_isub M d_M_mirror_73 (by omega) ?_
          refine pd_iconst (k := 1) M d_M_mirror_74 (by decide) ?_
          refine pd_iadd M d_M_mirror_75 ?_
          refine pd_top (b := max m0 (y + 1 - x)) (by omega) ?_
          refine lv_istore_n (lv' := [(1, .int (nI (max m0 (y + 1 - x)))), (0, .ref (b 0)), (2, .int (nI i)), (3, .int (nI k)), (4, .int (nI x)), (5, .int (nI y))]) hx hb d_M_mirror_76 rfl hl (by decide) rfl (fun ls hl => ?_)
          refine lv_iload hx hb d_M_mirror_77 (lv_at hl 4 rfl) ?_
          refine pd_iconst (k := 1) M d_M_mirror_79 (by decide) ?_
          refine lv_isub hx hb d_M_mirror_80 ?_
          refine pd_topi (b := dn x) (dn_sub x) ?_
          refine lv_istore (lv' := [(4, .int (dn x)), (1, .int (nI (max m0 (y + 1 - x)))), (0, .ref (b 0)), (2, .int (nI i)), (3, .int (nI k)), (5, .int (nI y))]) hx hb d_M_mirror_81 hl (by decide) rfl (fun ls hl => ?_)
          refine lv_iload hx hb d_M_mirror_83 (lv_at hl 5 rfl) ?_
          refine pd_iconst (k := 1) M d_M_mirror_85 (by decide) ?_
          refine pd_iadd M d_M_mirror_86 ?_
          refine lv_istore (lv' := [(5, .int (nI (y + 1))), (4, .int (dn x)), (1, .int (nI (max m0 (y + 1 - x)))), (0, .ref (b 0)), (2, .int (nI i)), (3, .int (nI k))]) hx hb d_M_mirror_87 hl (by decide) rfl (fun ls hl => ?_)
          refine lv_goto (tgt := 27) hx hb d_M_mirror_89 (by decide) ?_
          exact ih _ _ _ _ (miI_step hI h38 h55) hw (lv_sub hl [3, 2, 4, 5, 1, 0] rfl)
set_option maxHeartbeats 4000000 in
set_option maxRecDepth 100000 in
theorem mmi_out {p : Program} {l : Launch} {e : Env} {R : Room} {s : State} {m : MethodId} {args : Array Value} {below : List Frame} {meth : Method} {c : Code} {cells slots : Nat} {Q : State → Prop} {A : Nat → Prop} {D : va_G} {b : Nat → Nat} {cB : Nat → ClassId} {mn : Nat} {mt cm : Nat → Nat} (M : Mx b_M_mirror R_M 6 (some .int) p s m meth c args) (hn : mn ≤ 128) (ht : ∀ i, i < mn → mt i < 4)
    (K : ∀ (H : Heap) (locs : List Loc) (ls : Array Slot), Hd A D (tyM cB) s (wm b cB mn mt cm) H locs → lv_has ls 6 [(1, .int (nI (mxs (rad mt mn) (2 * mn + 1))))] → W p l e R s m args below meth c H locs cells slots Q (F0 m 104 ls [])) :
    ∀ (f : Nat) (i : Nat) (H : Heap) (locs : List Loc) (ls : Array Slot), mn - i < f → i ≤ mn → Hd A D (tyM cB) s (wm b cB mn mt cm) H locs → lv_has ls 6 [(0, .ref (b 0)), (1, .int (nI (mxs (rad mt mn) (2 * i + 1)))), (2, .int (nI i))] → W p l e R s m args below meth c H locs cells slots Q (F0 m 4 ls []) := by
  obtain ⟨hx, hb, -, -, -, -, -⟩ := id M
  intro f
  induction f with
  | zero => intro i H locs ls hf; exact absurd hf (Nat.not_lt_zero _)
  | succ f ih =>
    intro i H locs ls hf hi hw hl
    refine lv_iload_n hx hb d_M_mirror_4 rfl (lv_at hl 2 rfl) ?_
    refine lv_aload_n hx hb d_M_mirror_5 rfl (lv_at hl 0 rfl) ?_
    refine pd_gM M hw 0 1 rfl (by decide) k_f_M_16 rfl d_M_mirror_6 ?_
    refine pd_cge M d_M_mirror_9 (tgt := 104) (by decide) (by omega) (by omega) (fun h9 => ?_) (fun h9 => ?_)
    · obtain rfl : i = mn := by omega
      exact K _ _ _ hw (lv_sub hl [1] rfl)
    · refine pd_iconst (k := 0) M d_M_mirror_12 (by decide) ?_
      refine lv_istore_n (lv' := [(3, .int (nI 0)), (0, .ref (b 0)), (1, .int (nI (mxs (rad mt mn) (2 * i + 1)))), (2, .int (nI i))]) hx hb d_M_mirror_13 rfl hl (by decide) rfl (fun ls hl => ?_)
      refine lv_iload_n hx hb d_M_mirror_14 rfl (lv_at hl 0 rfl) ?_
      refine pd_iconst (k := 2) M d_M_mirror_15 (by decide) ?_
      refine pd_cge M d_M_mirror_16 (tgt := 98) (by decide) (by omega) (by omega) (fun h16 => ?_) (fun h16 => ?_)
      · exact absurd h16 (by decide)
      · refine lv_iload_n hx hb d_M_mirror_19 rfl (lv_at hl 3 rfl) ?_
        refine lv_istore (lv' := [(4, .int (nI i)), (3, .int (nI 0)), (0, .ref (b 0)), (1, .int (nI (mxs (rad mt mn) (2 * i + 1)))), (2, .int (nI i))]) hx hb d_M_mirror_20 hl (by decide) rfl (fun ls hl => ?_)
        refine lv_iload_n hx hb d_M_mirror_22 rfl (lv_at hl 4 rfl) ?_
        refine lv_iload_n hx hb d_M_mirror_23 rfl (lv_at hl 1 rfl) ?_
        refine pd_iadd M d_M_mirror_24 ?_
        refine lv_istore (lv' := [(5, .int (nI (i + 0))), (4, .int (nI i)), (3, .int (nI 0)), (0, .ref (b 0)), (1, .int (nI (mxs (rad mt mn) (2 * i + 1)))), (2, .int (nI i))]) hx hb d_M_mirror_25 hl (by decide) rfl (fun ls hl => ?_)
        have e0 : max (mxs (rad mt mn) (2 * i + 1)) (i - (i + 1)) = mxs (rad mt mn) (2 * i + 1) := by rw [show i - (i + 1) = 0 by omega]; exact Nat.max_eq_left (Nat.zero_le _)
        rw [← e0] at hl
        refine mmi_in M hn ht (i := i) (k := 0) (m0 := mxs (rad mt mn) (2 * i + 1)) (c0 := 2 * i + 1) (mxr_le mt mn _ (by omega)) (fun H locs ls hw hl => ?_) (i + 1) i _ _ _ (⟨by omega, by omega, Or.inr ⟨rfl, h9⟩, fun x hx => by omega⟩) hw (lv_sub hl [3, 4, 5, 2, 1, 0] rfl)
        have hl : lv_has ls 6 [(0, .ref (b 0)), (1, .int (nI (mxs (rad mt mn) (2 * i + 1 + 1)))), (2, .int (nI i)), (3, .int (nI 0))] := hl
        refine pd_iinc (j := 1) (lv' := [(3, .int (nI (0 + 1))), (0, .ref (b 0)), (1, .int (nI (mxs (rad mt mn) (2 * i + 1 + 1)))), (2, .int (nI i))]) M d_M_mirror_92 hl (k := 3) rfl (by decide) (by decide) rfl (fun ls hl => ?_)
        refine lv_goto (tgt := 14) hx hb d_M_mirror_95 (by decide) ?_
        refine lv_iload_n hx hb d_M_mirror_14 rfl (lv_at hl 0 rfl) ?_
        refine pd_iconst (k := 2) M d_M_mirror_15 (by decide) ?_
        refine pd_cge M d_M_mirror_16 (tgt := 98) (by decide) (by omega) (by omega) (fun h16 => ?_) (fun h16 => ?_)
        · exact absurd h16 (by decide)
        · refine lv_iload_n hx hb d_M_mirror_19 rfl (lv_at hl 3 rfl) ?_
          refine lv_istore (lv' := [(4, .int (nI i)), (3, .int (nI (0 + 1))), (0, .ref (b 0)), (1, .int (nI (mxs (rad mt mn) (2 * i + 1 + 1)))), (2, .int (nI i))]) hx hb d_M_mirror_20 hl (by decide) rfl (fun ls hl => ?_)
          refine lv_iload_n hx hb d_M_mirror_22 rfl (lv_at hl 4 rfl) ?_
          refine lv_iload_n hx hb d_M_mirror_23 rfl (lv_at hl 1 rfl) ?_
          refine pd_iadd M d_M_mirror_24 ?_
          refine lv_istore (lv' := [(5, .int (nI (i + (0 + 1)))), (4, .int (nI i)), (3, .int (nI (0 + 1))), (0, .ref (b 0)), (1, .int (nI (mxs (rad mt mn) (2 * i + 1 + 1)))), (2, .int (nI i))]) hx hb d_M_mirror_25 hl (by decide) rfl (fun ls hl => ?_)
          have e0 : max (mxs (rad mt mn) (2 * i + 1 + 1)) ((i + 1) - (i + 1)) = mxs (rad mt mn) (2 * i + 1 + 1) := by rw [show (i + 1) - (i + 1) = 0 by omega]; exact Nat.max_eq_left (Nat.zero_le _)
          rw [← e0] at hl
          refine mmi_in M hn ht (i := i) (k := 0 + 1) (m0 := mxs (rad mt mn) (2 * i + 1 + 1)) (c0 := 2 * i + 1 + 1) (mxr_le mt mn _ (by omega)) (fun H locs ls hw hl => ?_) (i + 1) (i + 1) _ _ _ (⟨by omega, by omega, Or.inl (Nat.le_refl _), fun x hx => by omega⟩) hw (lv_sub hl [3, 4, 5, 2, 1, 0] rfl)
          have hl : lv_has ls 6 [(0, .ref (b 0)), (1, .int (nI (mxs (rad mt mn) (2 * i + 1 + 1 + 1)))), (2, .int (nI i)), (3, .int (nI (0 + 1)))] := hl
          refine pd_iinc (j := 1) (lv' := [(3, .int (nI ((0 + 1) + 1))), (0, .ref (b 0)), (1, .int (nI (mxs (rad mt mn) (2 * i + 1 + 1 + 1)))), (2, .int (nI i))]) M d_M_mirror_92 hl (k := 3) rfl (by decide) (by decide) rfl (fun ls hl => ?_)
          refine lv_goto (tgt := 14) hx hb d_M_mirror_95 (by decide) ?_
          refine lv_iload_n hx hb d_M_mirror_14 rfl (lv_at hl 0 rfl) ?_
          refine pd_iconst (k := 2) M d_M_mirror_15 (by decide) ?_
          refine pd_cge M d_M_mirror_16 (tgt := 98) (by decide) (by omega) (by omega) (fun h16 => ?_) (fun h16 => ?_)
          · refine pd_iinc (j := 1) (lv' := [(2, .int (nI (i + 1))), (3, .int (nI ((0 + 1) + 1))), (0, .ref (b 0)), (1, .int (nI (mxs (rad mt mn) (2 * i + 1 + 1 + 1))))]) M d_M_mirror_98 hl (k := 3) rfl (by decide) (by decide) rfl (fun ls hl => ?_)
            refine lv_goto (tgt := 4) hx hb d_M_mirror_101 (by decide) ?_
            have e1 : 2 * (i + 1) + 1 = 2 * i + 1 + 1 + 1 := by omega
            rw [← e1] at hl
            exact ih _ _ _ _ (by omega) (by omega) hw (lv_sub hl [2, 3, 0] rfl)
          · exact absurd h16 (by decide)
set_option maxHeartbeats 4000000 in
set_option maxRecDepth 100000 in
theorem c_M_mirror (l : Launch) (D : va_G) (b : Nat → Nat) (cB : Nat → ClassId) (mn : Nat) (mt cm : Nat → Nat) (hn : mn ≤ 128) (ht : ∀ i, i < mn → mt i < 4) : Ci l y_M_mirror b_M_mirror 6 (some .int) 0 0 D (tyM cB) [.ref (b 0)] (wm b cB mn mt cm) (Unit) (fun r _ => r = nI (mxs (rad mt mn) (2 * mn + 1))) (fun _ => (wm b cB mn mt cm)) := by
  refine Ci_of (by decide) (Nat.le_of_ble_eq_true rfl) ?_
  intro p e s m below meth c A ls M hw hl
  have M : Mx b_M_mirror R_M 6 (some .int) p s m meth c ([.ref (b 0)] : List Value).toArray := M
  have hl : lv_has ls 6 [(0, .ref (b 0))] := hl
  obtain ⟨hx, hb, -, -, -, -, -⟩ := id M
  refine pd_iconst (k := 0) M d_M_mirror_0 (by decide) ?_
  have e0 : mxs (rad mt mn) (2 * 0 + 1) = 0 := by show max 0 (rad mt mn 0) = 0; rw [rad_0]; rfl
  refine pd_top (b := mxs (rad mt mn) (2 * 0 + 1)) (e0.symm) ?_
  refine lv_istore_n (lv' := [(1, .int (nI (mxs (rad mt mn) (2 * 0 + 1)))), (0, .ref (b 0))]) hx hb d_M_mirror_1 rfl hl (by decide) rfl (fun ls hl => ?_)
  refine pd_iconst (k := 0) M d_M_mirror_2 (by decide) ?_
  refine lv_istore_n (lv' := [(2, .int (nI 0)), (1, .int (nI (mxs (rad mt mn) (2 * 0 + 1)))), (0, .ref (b 0))]) hx hb d_M_mirror_3 rfl hl (by decide) rfl (fun ls hl => ?_)
  refine mmi_out M hn ht (fun H locs ls hw hl => ?_) (mn + 1) 0 _ _ _ (by omega) (by omega) hw (lv_sub hl [2, 1, 0] rfl)
  refine lv_iload_n hx hb d_M_mirror_104 rfl (lv_at hl 0 rfl) ?_
  exact pd_ret M () hw rfl rfl d_M_mirror_105
end
section
/-! Ends.byLetters -/
set_option maxHeartbeats 4000000 in
set_option maxRecDepth 100000 in
theorem bl_in {p : Program} {l : Launch} {e : Env} {R : Room} {s : State} {m : MethodId} {args : Array Value} {below : List Frame} {meth : Method} {c : Code} {cells slots : Nat} {Q : State → Prop} {A : Nat → Prop} {D : va_G} {a : Nat → Nat} {cA : Nat → ClassId} {n md my gs : Nat} {tx bo re pl co th se ct : Nat → Nat} (M : Mx b_E_byLetters R_E 6 none p s m meth c args) (hm : my ≤ 128) (ht : ∀ i, i < my → tx i < 4) {c0 fr : Nat} (hc : c0 < 4)
    (K : ∀ (at_ : Nat) (od gr : Nat → Nat) (H : Heap) (locs : List Loc) (ls : Array Slot), blI tx my c0 my fr at_ od gr gs → Hd A D (tyD cA) s (wd a cA n md my gs tx bo re od pl co gr th se ct) H locs → lv_has ls 6 [(0, .ref (a 4)), (1, .ref (a 1)), (2, .int (nI at_)), (3, .int (nI c0)), (4, .int (nI fr))] → W p l e R s m args below meth c H locs cells slots Q (F0 m 65 ls [])) :
    ∀ (f : Nat) (k : Nat) (at_ : Nat) (od : Nat → Nat) (gr : Nat → Nat) (H : Heap) (locs : List Loc) (ls : Array Slot), my - k < f → k ≤ my → blI tx my c0 k fr at_ od gr gs → Hd A D (tyD cA) s (wd a cA n md my gs tx bo re od pl co gr th se ct) H locs → lv_has ls 6 [(0, .ref (a 4)), (1, .ref (a 1)), (2, .int (nI at_)), (3, .int (nI c0)), (4, .int (nI fr)), (5, .int (nI k))] → W p l e R s m args below meth c H locs cells slots Q (F0 m 20 ls []) := by
  obtain ⟨hx, hb, -, -, -, -, -⟩ := id M
  intro f
  induction f with
  | zero => intro k at_ od gr H locs ls hf; exact absurd hf (Nat.not_lt_zero _)
  | succ f ih =>
    intro k at_ od gr H locs ls hf hk hI hw hl
    refine lv_iload hx hb d_E_byLetters_20 (lv_at hl 5 rfl) ?_
    refine lv_aload_n hx hb d_E_byLetters_22 rfl (lv_at hl 0 rfl) ?_
    refine pd_gE M hw 4 7 rfl (by decide) k_f_E_33 rfl d_E_byLetters_23 ?_
    refine pd_cge M d_E_byLetters_26 (tgt := 65) (by decide) (by omega) (by omega) (fun h26 => ?_) (fun h26 => ?_)
    · obtain rfl : k = my := by omega
      exact K _ _ _ _ _ _ hI hw (lv_sub hl [0, 1, 2, 3, 4] rfl)
    · have ht1 := ht k h26
      refine lv_aload_n hx hb d_E_byLetters_29 rfl (lv_at hl 1 rfl) ?_
      refine lv_iload hx hb d_E_byLetters_30 (lv_at hl 5 rfl) ?_
      refine pd_ald M hw 1 0 rfl rfl (by omega) (by decide) d_E_byLetters_32 ?_
      refine lv_iload_n hx hb d_E_byLetters_33 rfl (lv_at hl 3 rfl) ?_
      refine pd_cne M d_E_byLetters_34 (tgt := 59) (by decide) (by omega) (by omega) (fun h34 => ?_) (fun h34 => ?_)
      · refine pd_iinc (j := 1) (lv' := [(5, .int (nI (k + 1))), (0, .ref (a 4)), (1, .ref (a 1)), (2, .int (nI at_)), (3, .int (nI c0)), (4, .int (nI fr))]) M d_E_byLetters_59 hl (k := 5) rfl (by decide) (by decide) rfl (fun ls hl => ?_)
        refine lv_goto (tgt := 20) hx hb d_E_byLetters_62 (by decide) ?_
        exact ih _ _ _ _ _ _ _ (by omega) (by omega) (blI_no hI h34) hw (lv_sub hl [1, 2, 3, 4, 5, 0] rfl)
      · have hat := blI_at hI h26 h34
        refine lv_aload_n hx hb d_E_byLetters_37 rfl (lv_at hl 0 rfl) ?_
        refine pd_gE M hw 4 0 rfl (by decide) k_f_E_9 rfl d_E_byLetters_38 ?_
        refine lv_iload_n hx hb d_E_byLetters_41 rfl (lv_at hl 2 rfl) ?_
        refine pd_iinc (j := 1) (lv' := [(2, .int (nI (at_ + 1))), (0, .ref (a 4)), (1, .ref (a 1)), (3, .int (nI c0)), (4, .int (nI fr)), (5, .int (nI k))]) M d_E_byLetters_42 hl (k := 2) rfl (by decide) (by decide) rfl (fun ls hl => ?_)
        refine lv_iload hx hb d_E_byLetters_45 (lv_at hl 5 rfl) ?_
        refine pd_ast M hw 5 3 rfl rfl (by omega) (by decide) d_E_byLetters_47 (fun H locs hw => ?_)
        have hw : Hd A D (tyD cA) s (wd a cA n md my gs tx bo re (va_up od at_ k) pl co gr th se ct) H locs := hw
        refine lv_aload_n hx hb d_E_byLetters_48 rfl (lv_at hl 1 rfl) ?_
        refine pd_gE M hw 4 3 rfl (by decide) k_f_E_21 rfl d_E_byLetters_49 ?_
        refine lv_iload hx hb d_E_byLetters_52 (lv_at hl 5 rfl) ?_
        refine lv_aload_n hx hb d_E_byLetters_54 rfl (lv_at hl 1 rfl) ?_
        refine pd_gE M hw 4 8 rfl (by decide) k_f_E_41 rfl d_E_byLetters_55 ?_
        refine pd_ast M hw 8 6 rfl rfl (by omega) (by decide) d_E_byLetters_58 (fun H locs hw => ?_)
        have hw : Hd A D (tyD cA) s (wd a cA n md my gs tx bo re (va_up od at_ k) pl co (va_up gr k gs) th se ct) H locs := hw
        refine pd_iinc (j := 1) (lv' := [(5, .int (nI (k + 1))), (2, .int (nI (at_ + 1))), (0, .ref (a 4)), (1, .ref (a 1)), (3, .int (nI c0)), (4, .int (nI fr))]) M d_E_byLetters_59 hl (k := 5) rfl (by decide) (by decide) rfl (fun ls hl => ?_)
        refine lv_goto (tgt := 20) hx hb d_E_byLetters_62 (by decide) ?_
        exact ih _ _ _ _ _ _ _ (by omega) (by omega) (blI_yes hI h26 h34) hw (lv_sub hl [2, 3, 1, 4, 5, 0] rfl)
set_option maxHeartbeats 4000000 in
set_option maxRecDepth 100000 in
theorem bl_out {p : Program} {l : Launch} {e : Env} {R : Room} {s : State} {m : MethodId} {args : Array Value} {below : List Frame} {meth : Method} {c : Code} {cells slots : Nat} {Q : State → Prop} {A : Nat → Prop} {D : va_G} {a : Nat → Nat} {cA : Nat → ClassId} {n md my : Nat} {tx bo re pl co th se ct : Nat → Nat} (M : Mx b_E_byLetters R_E 6 none p s m meth c args) (hm : my ≤ 128) (ht : ∀ i, i < my → tx i < 4)
    (K : ∀ (gs : Nat) (od gr : Nat → Nat) (H : Heap) (locs : List Loc) (ls : Array Slot), GI tx my 1 gr od gs → Hd A D (tyD cA) s (wd a cA n md my gs tx bo re od pl co gr th se ct) H locs → W p l e R s m args below meth c H locs cells slots Q (F0 m 87 ls [])) :
    ∀ (f : Nat) (c0 : Nat) (at_ : Nat) (gs : Nat) (od : Nat → Nat) (gr : Nat → Nat) (H : Heap) (locs : List Loc) (ls : Array Slot), 4 - c0 < f → c0 ≤ 4 → at_ ≤ my → blI tx my c0 0 at_ at_ od gr gs → Hd A D (tyD cA) s (wd a cA n md my gs tx bo re od pl co gr th se ct) H locs → lv_has ls 6 [(0, .ref (a 4)), (1, .ref (a 1)), (2, .int (nI at_)), (3, .int (nI c0))] → W p l e R s m args below meth c H locs cells slots Q (F0 m 9 ls []) := by
  obtain ⟨hx, hb, -, -, -, -, -⟩ := id M
  intro f
  induction f with
  | zero => intro c0 at_ gs od gr H locs ls hf; exact absurd hf (Nat.not_lt_zero _)
  | succ f ih =>
    intro c0 at_ gs od gr H locs ls hf hc hat hI hw hl
    refine lv_iload_n hx hb d_E_byLetters_9 rfl (lv_at hl 3 rfl) ?_
    refine pd_iconst (k := 4) M d_E_byLetters_10 (by decide) ?_
    refine pd_cge M d_E_byLetters_11 (tgt := 87) (by decide) (by omega) (by omega) (fun h11 => ?_) (fun h11 => ?_)
    · obtain rfl : c0 = 4 := by omega
      exact K _ _ _ _ _ _ (blI_end hI ht) hw
    · refine lv_iload_n hx hb d_E_byLetters_14 rfl (lv_at hl 2 rfl) ?_
      refine lv_istore (lv' := [(4, .int (nI at_)), (0, .ref (a 4)), (1, .ref (a 1)), (2, .int (nI at_)), (3, .int (nI c0))]) hx hb d_E_byLetters_15 hl (by decide) rfl (fun ls hl => ?_)
      refine pd_iconst (k := 0) M d_E_byLetters_17 (by decide) ?_
      refine lv_istore (lv' := [(5, .int (nI 0)), (4, .int (nI at_)), (0, .ref (a 4)), (1, .ref (a 1)), (2, .int (nI at_)), (3, .int (nI c0))]) hx hb d_E_byLetters_18 hl (by decide) rfl (fun ls hl => ?_)
      refine bl_in M hm ht (c0 := c0) (fr := at_) (by omega) (fun at2 od gr H locs ls hI hw hl => ?_) (my + 1) 0 _ _ _ _ _ _ (by omega) (Nat.zero_le _) hI hw (lv_sub hl [2, 3, 4, 5, 1, 0] rfl)
      have hat2 : at2 ≤ my := by
        have q1 := hI.1
        have q2 : cnt (fun i => tx i < c0) my + cnt (fun i => tx i = c0) my = cnt (fun i => tx i < c0 + 1) my := cnt_or (fun i _ => by show tx i < c0 + 1 ↔ tx i < c0 ∨ tx i = c0; omega) (fun i _ (z : tx i < c0) (w : tx i = c0) => by omega)
        have q3 := cnt_le (fun i => tx i < c0 + 1) my
        omega
      have hI2 := blI_next hI
      refine lv_iload_n hx hb d_E_byLetters_65 rfl (lv_at hl 2 rfl) ?_
      refine lv_iload hx hb d_E_byLetters_66 (lv_at hl 4 rfl) ?_
      refine pd_cle M d_E_byLetters_68 (tgt := 81) (by decide) (by omega) (by omega) (fun h68 => ?_) (fun h68 => ?_)
      · rw [if_neg (by omega)] at hI2
        refine pd_iinc (j := 1) (lv' := [(3, .int (nI (c0 + 1))), (0, .ref (a 4)), (1, .ref (a 1)), (2, .int (nI at2)), (4, .int (nI at_))]) M d_E_byLetters_81 hl (k := 3) rfl (by decide) (by decide) rfl (fun ls hl => ?_)
        refine lv_goto (tgt := 9) hx hb d_E_byLetters_84 (by decide) ?_
        exact ih _ _ _ _ _ _ _ _ (by omega) (by omega) hat2 hI2 hw (lv_sub hl [1, 2, 3, 0] rfl)
      · rw [if_pos h68] at hI2
        refine lv_aload_n hx hb d_E_byLetters_71 rfl (lv_at hl 0 rfl) ?_
        refine lv_dup hx hb d_E_byLetters_72 rfl ?_
        refine pd_gE M hw 4 8 rfl (by decide) k_f_E_41 rfl d_E_byLetters_73 ?_
        refine pd_iconst (k := 1) M d_E_byLetters_76 (by decide) ?_
        refine pd_iadd M d_E_byLetters_77 ?_
        refine pd_pE M hw 4 8 rfl (by decide) k_f_E_41 rfl rfl rfl (Nat.le_of_ble_eq_true rfl) d_E_byLetters_78 (fun H locs hw => ?_)
        have hw : Hd A D (tyD cA) s (wd a cA n md my (gs + 1) tx bo re od pl co gr th se ct) H locs := hw
        refine pd_iinc (j := 1) (lv' := [(3, .int (nI (c0 + 1))), (0, .ref (a 4)), (1, .ref (a 1)), (2, .int (nI at2)), (4, .int (nI at_))]) M d_E_byLetters_81 hl (k := 3) rfl (by decide) (by decide) rfl (fun ls hl => ?_)
        refine lv_goto (tgt := 9) hx hb d_E_byLetters_84 (by decide) ?_
        exact ih _ _ _ _ _ _ _ _ (by omega) (by omega) hat2 hI2 hw (lv_sub hl [1, 2, 3, 0] rfl)
set_option maxHeartbeats 4000000 in
set_option maxRecDepth 100000 in
theorem c_E_byLetters (l : Launch) (D : va_G) (a : Nat → Nat) (cA : Nat → ClassId) (n md my gs : Nat) (tx bo re od pl co gr th se ct : Nat → Nat) (hm : my ≤ 128) (ht : ∀ i, i < my → tx i < 4) : Cv l y_E_byLetters b_E_byLetters 6 0 0 D (tyD cA) [.ref (a 4), .ref (a 1)] (wd a cA n md my gs tx bo re od pl co gr th se ct) ((Nat → Nat) × (Nat → Nat) × Nat) (fun u => GI tx my 1 u.2.1 u.1 u.2.2) (fun u => (wd a cA n md my u.2.2 tx bo re u.1 pl co u.2.1 th se ct)) := by
  refine Cv_of (by decide) (Nat.le_of_ble_eq_true rfl) ?_
  intro p e s m below meth c A ls M hw hl
  have M : Mx b_E_byLetters R_E 6 none p s m meth c ([.ref (a 4), .ref (a 1)] : List Value).toArray := M
  have hl : lv_has ls 6 [(0, .ref (a 4)), (1, .ref (a 1))] := hl
  obtain ⟨hx, hb, -, -, -, -, -⟩ := id M
  refine pd_iconst (k := 0) M d_E_byLetters_0 (by decide) ?_
  refine lv_istore_n (lv' := [(2, .int (nI 0)), (0, .ref (a 4)), (1, .ref (a 1))]) hx hb d_E_byLetters_1 rfl hl (by decide) rfl (fun ls hl => ?_)
  refine lv_aload_n hx hb d_E_byLetters_2 rfl (lv_at hl 1 rfl) ?_
  refine pd_iconst (k := 0) M d_E_byLetters_3 (by decide) ?_
  refine pd_pE M hw 4 8 rfl (by decide) k_f_E_41 rfl rfl rfl (Nat.le_of_ble_eq_true rfl) d_E_byLetters_4 (fun H locs hw => ?_)
  have hw : Hd A D (tyD cA) s (wd a cA n md my 0 tx bo re od pl co gr th se ct) H locs := hw
  refine pd_iconst (k := 0) M d_E_byLetters_7 (by decide) ?_
  refine lv_istore_n (lv' := [(3, .int (nI 0)), (2, .int (nI 0)), (0, .ref (a 4)), (1, .ref (a 1))]) hx hb d_E_byLetters_8 rfl hl (by decide) rfl (fun ls hl => ?_)
  exact bl_out M hm ht (fun gs2 od2 gr2 H locs ls hg hw => pd_vret M (od2, gr2, gs2) hw hg d_E_byLetters_87) 5 0 0 0 _ _ _ _ _ (by omega) (by omega) (by omega) (blI_0 tx my od gr) hw (lv_sub hl [2, 3, 1, 0] rfl)
end
section
/-! Ends.twice -/
set_option maxHeartbeats 4000000 in
set_option maxRecDepth 100000 in
theorem tw1 {p : Program} {l : Launch} {e : Env} {R : Room} {s : State} {m : MethodId} {args : Array Value} {below : List Frame} {meth : Method} {c : Code} {cells slots : Nat} {Q : State → Prop} {A : Nat → Prop} {D : va_G} {a : Nat → Nat} {cA : Nat → ClassId} {n md my gs : Nat} {tx bo re od pl co gr th ct : Nat → Nat} (M : Mx b_E_twice R_E 5 none p s m meth c args) {h : Nat} (hm : my ≤ 128) (hh : h ≤ my)
    (K : ∀ (se : Nat → Nat) (H : Heap) (locs : List Loc) (ls : Array Slot), (∀ p, p < h → se p = my - h + p) → Hd A D (tyD cA) s (wd a cA n md my gs tx bo re od pl co gr th se ct) H locs → lv_has ls 5 [(0, .ref (a 4)), (1, .int (nI h)), (2, .int (nI h))] → W p l e R s m args below meth c H locs cells slots Q (F0 m 37 ls [])) :
    ∀ (f : Nat) (k : Nat) (at_ : Nat) (se : Nat → Nat) (H : Heap) (locs : List Loc) (ls : Array Slot), my - k < f → k ≤ my → at_ + (my - h) = k → (∀ p, p < at_ → se p = my - h + p) → Hd A D (tyD cA) s (wd a cA n md my gs tx bo re od pl co gr th se ct) H locs → lv_has ls 5 [(0, .ref (a 4)), (1, .int (nI h)), (2, .int (nI at_)), (3, .int (nI k))] → W p l e R s m args below meth c H locs cells slots Q (F0 m 9 ls []) := by
  obtain ⟨hx, hb, -, -, -, -, -⟩ := id M
  intro f
  induction f with
  | zero => intro k at_ se H locs ls hf; exact absurd hf (Nat.not_lt_zero _)
  | succ f ih =>
    intro k at_ se H locs ls hf hk hat hs hw hl
    refine lv_iload_n hx hb d_E_twice_9 rfl (lv_at hl 3 rfl) ?_
    refine lv_aload_n hx hb d_E_twice_10 rfl (lv_at hl 0 rfl) ?_
    refine pd_gE M hw 4 7 rfl (by decide) k_f_E_33 rfl d_E_twice_11 ?_
    refine pd_cge M d_E_twice_14 (tgt := 37) (by decide) (by omega) (by omega) (fun h14 => ?_) (fun h14 => ?_)
    · obtain rfl : at_ = h := by omega
      exact K _ _ _ _ hs hw (lv_sub hl [0, 1, 2] rfl)
    · refine lv_iload_n hx hb d_E_twice_17 rfl (lv_at hl 3 rfl) ?_
      refine pd_ilt M d_E_twice_18 (tgt := 31) (by decide) (by omega) ?_
      refine lv_aload_n hx hb d_E_twice_21 rfl (lv_at hl 0 rfl) ?_
      refine pd_gE M hw 4 5 rfl (by decide) k_f_E_27 rfl d_E_twice_22 ?_
      refine lv_iload_n hx hb d_E_twice_25 rfl (lv_at hl 2 rfl) ?_
      refine pd_iinc (j := 1) (lv' := [(2, .int (nI (at_ + 1))), (0, .ref (a 4)), (1, .int (nI h)), (3, .int (nI k))]) M d_E_twice_26 hl (k := 2) rfl (by decide) (by decide) rfl (fun ls hl => ?_)
      refine lv_iload_n hx hb d_E_twice_29 rfl (lv_at hl 3 rfl) ?_
      refine pd_ast M hw 10 8 rfl rfl (by omega) (by decide) d_E_twice_30 (fun H locs hw => ?_)
      have hw : Hd A D (tyD cA) s (wd a cA n md my gs tx bo re od pl co gr th (va_up se at_ k) ct) H locs := hw
      refine pd_iinc (j := 1) (lv' := [(3, .int (nI (k + 1))), (2, .int (nI (at_ + 1))), (0, .ref (a 4)), (1, .int (nI h))]) M d_E_twice_31 hl (k := 3) rfl (by decide) (by decide) rfl (fun ls hl => ?_)
      refine lv_goto (tgt := 9) hx hb d_E_twice_34 (by decide) ?_
      exact ih _ _ _ _ _ _ (by omega) (by omega) (by omega) (fun p hp => by by_cases e9 : p = at_; rw [e9, up_s]; omega; rw [up_n e9]; exact hs p (by omega)) hw (lv_sub hl [2, 3, 1, 0] rfl)
set_option maxHeartbeats 4000000 in
set_option maxRecDepth 100000 in
theorem tw2 {p : Program} {l : Launch} {e : Env} {R : Room} {s : State} {m : MethodId} {args : Array Value} {below : List Frame} {meth : Method} {c : Code} {cells slots : Nat} {Q : State → Prop} {A : Nat → Prop} {D : va_G} {a : Nat → Nat} {cA : Nat → ClassId} {n md my gs : Nat} {tx bo re od pl co gr th ct : Nat → Nat} (M : Mx b_E_twice R_E 5 none p s m meth c args) {h : Nat} (hm : my ≤ 128) (hh : h ≤ my) (hod : Inj my od)
    (K : ∀ (at_ : Nat) (se : Nat → Nat) (H : Heap) (locs : List Loc) (ls : Array Slot), seI my h od my at_ se → Hd A D (tyD cA) s (wd a cA n md my gs tx bo re od pl co gr th se ct) H locs → lv_has ls 5 [(0, .ref (a 4)), (1, .int (nI h))] → W p l e R s m args below meth c H locs cells slots Q (F0 m 80 ls [])) :
    ∀ (f : Nat) (k : Nat) (at_ : Nat) (se : Nat → Nat) (H : Heap) (locs : List Loc) (ls : Array Slot), my - k < f → k ≤ my → seI my h od k at_ se → Hd A D (tyD cA) s (wd a cA n md my gs tx bo re od pl co gr th se ct) H locs → lv_has ls 5 [(0, .ref (a 4)), (1, .int (nI h)), (2, .int (nI at_)), (3, .int (nI k))] → W p l e R s m args below meth c H locs cells slots Q (F0 m 39 ls []) := by
  obtain ⟨hx, hb, -, -, -, -, -⟩ := id M
  intro f
  induction f with
  | zero => intro k at_ se H locs ls hf; exact absurd hf (Nat.not_lt_zero _)
  | succ f ih =>
    intro k at_ se H locs ls hf hk hI hw hl
    refine lv_iload_n hx hb d_E_twice_39 rfl (lv_at hl 3 rfl) ?_
    refine lv_aload_n hx hb d_E_twice_40 rfl (lv_at hl 0 rfl) ?_
    refine pd_gE M hw 4 7 rfl (by decide) k_f_E_33 rfl d_E_twice_41 ?_
    refine pd_cge M d_E_twice_44 (tgt := 80) (by decide) (by omega) (by omega) (fun h44 => ?_) (fun h44 => ?_)
    · obtain rfl : k = my := by omega
      exact K _ _ _ _ _ hI hw (lv_sub hl [0, 1] rfl)
    · have ho := hod.1 k h44
      refine lv_aload_n hx hb d_E_twice_47 rfl (lv_at hl 0 rfl) ?_
      refine pd_gE M hw 4 0 rfl (by decide) k_f_E_9 rfl d_E_twice_48 ?_
      refine lv_iload_n hx hb d_E_twice_51 rfl (lv_at hl 3 rfl) ?_
      refine pd_ald M hw 5 3 rfl rfl (by omega) (by decide) d_E_twice_52 ?_
      refine lv_iload_n hx hb d_E_twice_53 rfl (lv_at hl 1 rfl) ?_
      refine pd_clt M d_E_twice_54 (tgt := 74) (by decide) (by omega) (by omega) (fun h54 => ?_) (fun h54 => ?_)
      · refine pd_iinc (j := 1) (lv' := [(3, .int (nI (k + 1))), (0, .ref (a 4)), (1, .int (nI h)), (2, .int (nI at_))]) M d_E_twice_74 hl (k := 3) rfl (by decide) (by decide) rfl (fun ls hl => ?_)
        refine lv_goto (tgt := 39) hx hb d_E_twice_77 (by decide) ?_
        exact ih _ _ _ _ _ _ (by omega) (by omega) (seI_no hI (by omega)) hw (lv_sub hl [1, 2, 3, 0] rfl)
      · have hat := seI_at hI hod hh h44 h54
        refine lv_aload_n hx hb d_E_twice_57 rfl (lv_at hl 0 rfl) ?_
        refine pd_gE M hw 4 5 rfl (by decide) k_f_E_27 rfl d_E_twice_58 ?_
        refine lv_iload_n hx hb d_E_twice_61 rfl (lv_at hl 2 rfl) ?_
        refine pd_iinc (j := 1) (lv' := [(2, .int (nI (at_ + 1))), (0, .ref (a 4)), (1, .int (nI h)), (3, .int (nI k))]) M d_E_twice_62 hl (k := 2) rfl (by decide) (by decide) rfl (fun ls hl => ?_)
        refine lv_aload_n hx hb d_E_twice_65 rfl (lv_at hl 1 rfl) ?_
        refine pd_gE M hw 4 0 rfl (by decide) k_f_E_9 rfl d_E_twice_66 ?_
        refine lv_iload_n hx hb d_E_twice_69 rfl (lv_at hl 3 rfl) ?_
        refine pd_ald M hw 5 3 rfl rfl (by omega) (by decide) d_E_twice_70 ?_
        refine lv_iload_n hx hb d_E_twice_71 rfl (lv_at hl 2 rfl) ?_
        refine pd_isub M d_E_twice_72 (by omega) ?_
        refine pd_ast M hw 10 8 rfl rfl (by omega) (by decide) d_E_twice_73 (fun H locs hw => ?_)
        have hw : Hd A D (tyD cA) s (wd a cA n md my gs tx bo re od pl co gr th (va_up se at_ ((od k) - h)) ct) H locs := hw
        refine pd_iinc (j := 1) (lv' := [(3, .int (nI (k + 1))), (2, .int (nI (at_ + 1))), (0, .ref (a 4)), (1, .int (nI h))]) M d_E_twice_74 hl (k := 3) rfl (by decide) (by decide) rfl (fun ls hl => ?_)
        refine lv_goto (tgt := 39) hx hb d_E_twice_77 (by decide) ?_
        exact ih _ _ _ _ _ _ (by omega) (by omega) (seI_yes hI hod h44 h54) hw (lv_sub hl [2, 3, 1, 0] rfl)
set_option maxHeartbeats 4000000 in
set_option maxRecDepth 100000 in
theorem tw3 {p : Program} {l : Launch} {e : Env} {R : Room} {s : State} {m : MethodId} {args : Array Value} {below : List Frame} {meth : Method} {c : Code} {cells slots : Nat} {Q : State → Prop} {A : Nat → Prop} {D : va_G} {a : Nat → Nat} {cA : Nat → ClassId} {n md my gs : Nat} {tx bo re od pl co gr th se : Nat → Nat} (M : Mx b_E_twice R_E 5 none p s m meth c args) {h : Nat} (hm : gs ≤ 128)
    (K : ∀ (ct : Nat → Nat) (H : Heap) (locs : List Loc) (ls : Array Slot), (∀ x, x ≤ gs → ct x = 0) → Hd A D (tyD cA) s (wd a cA n md my gs tx bo re od pl co gr th se ct) H locs → lv_has ls 5 [(0, .ref (a 4)), (1, .int (nI h))] → W p l e R s m args below meth c H locs cells slots Q (F0 m 103 ls [])) :
    ∀ (f : Nat) (k : Nat) (ct : Nat → Nat) (H : Heap) (locs : List Loc) (ls : Array Slot), gs + 1 - k < f → k ≤ gs + 1 → (∀ x, x < k → ct x = 0) → Hd A D (tyD cA) s (wd a cA n md my gs tx bo re od pl co gr th se ct) H locs → lv_has ls 5 [(0, .ref (a 4)), (1, .int (nI h)), (3, .int (nI k))] → W p l e R s m args below meth c H locs cells slots Q (F0 m 82 ls []) := by
  obtain ⟨hx, hb, -, -, -, -, -⟩ := id M
  intro f
  induction f with
  | zero => intro k ct H locs ls hf; exact absurd hf (Nat.not_lt_zero _)
  | succ f ih =>
    intro k ct H locs ls hf hk hz hw hl
    refine lv_iload_n hx hb d_E_twice_82 rfl (lv_at hl 2 rfl) ?_
    refine lv_aload_n hx hb d_E_twice_83 rfl (lv_at hl 0 rfl) ?_
    refine pd_gE M hw 4 8 rfl (by decide) k_f_E_41 rfl d_E_twice_84 ?_
    refine pd_cgt M d_E_twice_87 (tgt := 103) (by decide) (by omega) (by omega) (fun h87 => ?_) (fun h87 => ?_)
    · exact K _ _ _ _ (fun x hx => hz x (by omega)) hw (lv_sub hl [0, 1] rfl)
    · refine lv_aload_n hx hb d_E_twice_90 rfl (lv_at hl 0 rfl) ?_
      refine pd_gE M hw 4 6 rfl (by decide) k_f_E_30 rfl d_E_twice_91 ?_
      refine lv_iload_n hx hb d_E_twice_94 rfl (lv_at hl 2 rfl) ?_
      refine pd_iconst (k := 0) M d_E_twice_95 (by decide) ?_
      refine pd_ast M hw 11 9 rfl rfl (by omega) (by decide) d_E_twice_96 (fun H locs hw => ?_)
      have hw : Hd A D (tyD cA) s (wd a cA n md my gs tx bo re od pl co gr th se (va_up ct k 0)) H locs := hw
      refine pd_iinc (j := 1) (lv' := [(3, .int (nI (k + 1))), (0, .ref (a 4)), (1, .int (nI h))]) M d_E_twice_97 hl (k := 2) rfl (by decide) (by decide) rfl (fun ls hl => ?_)
      refine lv_goto (tgt := 82) hx hb d_E_twice_100 (by decide) ?_
      exact ih _ _ _ _ _ (by omega) (by omega) (fun x hx => by by_cases e9 : x = k; rw [e9, up_s]; rw [up_n e9]; exact hz x (by omega)) hw (lv_sub hl [1, 2, 0] rfl)
set_option maxHeartbeats 4000000 in
set_option maxRecDepth 100000 in
theorem tw4 {p : Program} {l : Launch} {e : Env} {R : Room} {s : State} {m : MethodId} {args : Array Value} {below : List Frame} {meth : Method} {c : Code} {cells slots : Nat} {Q : State → Prop} {A : Nat → Prop} {D : va_G} {a : Nat → Nat} {cA : Nat → ClassId} {n md my gs : Nat} {tx bo re od pl co gr th se : Nat → Nat} (M : Mx b_E_twice R_E 5 none p s m meth c args) {h : Nat} (hm : my ≤ 128) (hgs : gs ≤ my) (hg : ∀ i, i < my → gr i < gs)
    (K : ∀ (ct : Nat → Nat) (H : Heap) (locs : List Loc) (ls : Array Slot), ct1 gr gs my ct → Hd A D (tyD cA) s (wd a cA n md my gs tx bo re od pl co gr th se ct) H locs → lv_has ls 5 [(0, .ref (a 4)), (1, .int (nI h))] → W p l e R s m args below meth c H locs cells slots Q (F0 m 136 ls [])) :
    ∀ (f : Nat) (k : Nat) (ct : Nat → Nat) (H : Heap) (locs : List Loc) (ls : Array Slot), my - k < f → k ≤ my → ct1 gr gs k ct → Hd A D (tyD cA) s (wd a cA n md my gs tx bo re od pl co gr th se ct) H locs → lv_has ls 5 [(0, .ref (a 4)), (1, .int (nI h)), (3, .int (nI k))] → W p l e R s m args below meth c H locs cells slots Q (F0 m 105 ls []) := by
  obtain ⟨hx, hb, -, -, -, -, -⟩ := id M
  intro f
  induction f with
  | zero => intro k ct H locs ls hf; exact absurd hf (Nat.not_lt_zero _)
  | succ f ih =>
    intro k ct H locs ls hf hk hI hw hl
    refine lv_iload_n hx hb d_E_twice_105 rfl (lv_at hl 2 rfl) ?_
    refine lv_aload_n hx hb d_E_twice_106 rfl (lv_at hl 0 rfl) ?_
    refine pd_gE M hw 4 7 rfl (by decide) k_f_E_33 rfl d_E_twice_107 ?_
    refine pd_cge M d_E_twice_110 (tgt := 136) (by decide) (by omega) (by omega) (fun h110 => ?_) (fun h110 => ?_)
    · obtain rfl : k = my := by omega
      exact K _ _ _ _ hI hw (lv_sub hl [0, 1] rfl)
    · have hgk := hg k h110
      refine lv_aload_n hx hb d_E_twice_113 rfl (lv_at hl 0 rfl) ?_
      refine pd_gE M hw 4 6 rfl (by decide) k_f_E_30 rfl d_E_twice_114 ?_
      refine lv_aload_n hx hb d_E_twice_117 rfl (lv_at hl 0 rfl) ?_
      refine pd_gE M hw 4 3 rfl (by decide) k_f_E_21 rfl d_E_twice_118 ?_
      refine lv_iload_n hx hb d_E_twice_121 rfl (lv_at hl 2 rfl) ?_
      refine pd_ald M hw 8 6 rfl rfl (by omega) (by decide) d_E_twice_122 ?_
      refine pd_iconst (k := 1) M d_E_twice_123 (by decide) ?_
      refine pd_iadd M d_E_twice_124 ?_
      refine lv_dup2_11 hx hb d_E_twice_125 rfl rfl ?_
      refine pd_ald M hw 11 9 rfl rfl (by omega) (by decide) d_E_twice_126 ?_
      refine pd_iconst (k := 1) M d_E_twice_127 (by decide) ?_
      refine pd_iadd M d_E_twice_128 ?_
      refine pd_ast M hw 11 9 rfl rfl (by omega) (by decide) d_E_twice_129 (fun H locs hw => ?_)
      have hw : Hd A D (tyD cA) s (wd a cA n md my gs tx bo re od pl co gr th se (va_up ct ((gr k) + 1) ((ct ((gr k) + 1)) + 1))) H locs := hw
      refine pd_iinc (j := 1) (lv' := [(3, .int (nI (k + 1))), (0, .ref (a 4)), (1, .int (nI h))]) M d_E_twice_130 hl (k := 2) rfl (by decide) (by decide) rfl (fun ls hl => ?_)
      refine lv_goto (tgt := 105) hx hb d_E_twice_133 (by decide) ?_
      exact ih _ _ _ _ _ (by omega) (by omega) (ct1_s hI) hw (lv_sub hl [1, 2, 0] rfl)
set_option maxHeartbeats 4000000 in
set_option maxRecDepth 100000 in
theorem tw5 {p : Program} {l : Launch} {e : Env} {R : Room} {s : State} {m : MethodId} {args : Array Value} {below : List Frame} {meth : Method} {c : Code} {cells slots : Nat} {Q : State → Prop} {A : Nat → Prop} {D : va_G} {a : Nat → Nat} {cA : Nat → ClassId} {n md my gs : Nat} {tx bo re od pl co gr th se : Nat → Nat} (M : Mx b_E_twice R_E 5 none p s m meth c args) {h : Nat} (hm : my ≤ 128) (hgs : gs ≤ my)
    (K : ∀ (ct : Nat → Nat) (H : Heap) (locs : List Loc) (ls : Array Slot), ct2 gr my gs gs ct → Hd A D (tyD cA) s (wd a cA n md my gs tx bo re od pl co gr th se ct) H locs → lv_has ls 5 [(0, .ref (a 4)), (1, .int (nI h))] → W p l e R s m args below meth c H locs cells slots Q (F0 m 169 ls [])) :
    ∀ (f : Nat) (k : Nat) (ct : Nat → Nat) (H : Heap) (locs : List Loc) (ls : Array Slot), gs - k < f → k ≤ gs → ct2 gr my gs k ct → Hd A D (tyD cA) s (wd a cA n md my gs tx bo re od pl co gr th se ct) H locs → lv_has ls 5 [(0, .ref (a 4)), (1, .int (nI h)), (3, .int (nI k))] → W p l e R s m args below meth c H locs cells slots Q (F0 m 138 ls []) := by
  obtain ⟨hx, hb, -, -, -, -, -⟩ := id M
  intro f
  induction f with
  | zero => intro k ct H locs ls hf; exact absurd hf (Nat.not_lt_zero _)
  | succ f ih =>
    intro k ct H locs ls hf hk hI hw hl
    refine lv_iload_n hx hb d_E_twice_138 rfl (lv_at hl 2 rfl) ?_
    refine lv_aload_n hx hb d_E_twice_139 rfl (lv_at hl 0 rfl) ?_
    refine pd_gE M hw 4 8 rfl (by decide) k_f_E_41 rfl d_E_twice_140 ?_
    refine pd_cge M d_E_twice_143 (tgt := 169) (by decide) (by omega) (by omega) (fun h143 => ?_) (fun h143 => ?_)
    · obtain rfl : k = gs := by omega
      exact K _ _ _ _ hI hw (lv_sub hl [0, 1] rfl)
    · refine lv_aload_n hx hb d_E_twice_146 rfl (lv_at hl 0 rfl) ?_
      refine pd_gE M hw 4 6 rfl (by decide) k_f_E_30 rfl d_E_twice_147 ?_
      refine lv_iload_n hx hb d_E_twice_150 rfl (lv_at hl 2 rfl) ?_
      refine pd_iconst (k := 1) M d_E_twice_151 (by decide) ?_
      refine pd_iadd M d_E_twice_152 ?_
      refine lv_dup2_11 hx hb d_E_twice_153 rfl rfl ?_
      refine pd_ald M hw 11 9 rfl rfl (by omega) (by decide) d_E_twice_154 ?_
      refine lv_aload_n hx hb d_E_twice_155 rfl (lv_at hl 0 rfl) ?_
      refine pd_gE M hw 4 6 rfl (by decide) k_f_E_30 rfl d_E_twice_156 ?_
      refine lv_iload_n hx hb d_E_twice_159 rfl (lv_at hl 2 rfl) ?_
      refine pd_ald M hw 11 9 rfl rfl (by omega) (by decide) d_E_twice_160 ?_
      refine pd_iadd M d_E_twice_161 ?_
      refine pd_ast M hw 11 9 rfl rfl (by omega) (by decide) d_E_twice_162 (fun H locs hw => ?_)
      have hw : Hd A D (tyD cA) s (wd a cA n md my gs tx bo re od pl co gr th se (va_up ct (k + 1) ((ct (k + 1)) + (ct k)))) H locs := hw
      refine pd_iinc (j := 1) (lv' := [(3, .int (nI (k + 1))), (0, .ref (a 4)), (1, .int (nI h))]) M d_E_twice_163 hl (k := 2) rfl (by decide) (by decide) rfl (fun ls hl => ?_)
      refine lv_goto (tgt := 138) hx hb d_E_twice_166 (by decide) ?_
      exact ih _ _ _ _ _ (by omega) (by omega) (ct2_s hI h143) hw (lv_sub hl [1, 2, 0] rfl)
set_option maxHeartbeats 4000000 in
set_option maxRecDepth 100000 in
theorem tw6 {p : Program} {l : Launch} {e : Env} {R : Room} {s : State} {m : MethodId} {args : Array Value} {below : List Frame} {meth : Method} {c : Code} {cells slots : Nat} {Q : State → Prop} {A : Nat → Prop} {D : va_G} {a : Nat → Nat} {cA : Nat → ClassId} {n md my gs : Nat} {tx bo re pl co gr th se : Nat → Nat} (M : Mx b_E_twice R_E 5 none p s m meth c args) {h : Nat} (hm : my ≤ 128) (hgs : gs ≤ my) (hg : ∀ i, i < my → gr i < gs) (hse : Inj my se)
    (K : ∀ (ct od : Nat → Nat) (H : Heap) (locs : List Loc) (ls : Array Slot), ct3 gr se my gs my ct od → Hd A D (tyD cA) s (wd a cA n md my gs tx bo re od pl co gr th se ct) H locs → lv_has ls 5 [(0, .ref (a 4)), (1, .int (nI h))] → W p l e R s m args below meth c H locs cells slots Q (F0 m 217 ls [])) :
    ∀ (f : Nat) (k : Nat) (ct : Nat → Nat) (od : Nat → Nat) (H : Heap) (locs : List Loc) (ls : Array Slot), my - k < f → k ≤ my → ct3 gr se my gs k ct od → Hd A D (tyD cA) s (wd a cA n md my gs tx bo re od pl co gr th se ct) H locs → lv_has ls 5 [(0, .ref (a 4)), (1, .int (nI h)), (3, .int (nI k))] → W p l e R s m args below meth c H locs cells slots Q (F0 m 171 ls []) := by
  obtain ⟨hx, hb, -, -, -, -, -⟩ := id M
  intro f
  induction f with
  | zero => intro k ct od H locs ls hf; exact absurd hf (Nat.not_lt_zero _)
  | succ f ih =>
    intro k ct od H locs ls hf hk hI hw hl
    refine lv_iload_n hx hb d_E_twice_171 rfl (lv_at hl 2 rfl) ?_
    refine lv_aload_n hx hb d_E_twice_172 rfl (lv_at hl 0 rfl) ?_
    refine pd_gE M hw 4 7 rfl (by decide) k_f_E_33 rfl d_E_twice_173 ?_
    refine pd_cge M d_E_twice_176 (tgt := 217) (by decide) (by omega) (by omega) (fun h176 => ?_) (fun h176 => ?_)
    · obtain rfl : k = my := by omega
      exact K _ _ _ _ _ hI hw (lv_sub hl [0, 1] rfl)
    · have hs1 := hse.1 k h176
      have hg1 := hg (se k) hs1
      have hp1 := psn_lt (g := gr) hse h176
      have hp2 := ct3_at hI hg1
      refine lv_aload_n hx hb d_E_twice_179 rfl (lv_at hl 0 rfl) ?_
      refine pd_gE M hw 4 0 rfl (by decide) k_f_E_9 rfl d_E_twice_180 ?_
      refine lv_aload_n hx hb d_E_twice_183 rfl (lv_at hl 0 rfl) ?_
      refine pd_gE M hw 4 6 rfl (by decide) k_f_E_30 rfl d_E_twice_184 ?_
      refine lv_aload_n hx hb d_E_twice_187 rfl (lv_at hl 0 rfl) ?_
      refine pd_gE M hw 4 3 rfl (by decide) k_f_E_21 rfl d_E_twice_188 ?_
      refine lv_aload_n hx hb d_E_twice_191 rfl (lv_at hl 0 rfl) ?_
      refine pd_gE M hw 4 5 rfl (by decide) k_f_E_27 rfl d_E_twice_192 ?_
      refine lv_iload_n hx hb d_E_twice_195 rfl (lv_at hl 2 rfl) ?_
      refine pd_ald M hw 10 8 rfl rfl (by omega) (by decide) d_E_twice_196 ?_
      refine pd_ald M hw 8 6 rfl rfl (by omega) (by decide) d_E_twice_197 ?_
      refine lv_dup2_11 hx hb d_E_twice_198 rfl rfl ?_
      refine pd_ald M hw 11 9 rfl rfl (by omega) (by decide) d_E_twice_199 ?_
      refine lv_dup_x2 hx hb d_E_twice_200 rfl rfl rfl ?_
      refine pd_iconst (k := 1) M d_E_twice_201 (by decide) ?_
      refine pd_iadd M d_E_twice_202 ?_
      refine pd_ast M hw 11 9 rfl rfl (by omega) (by decide) d_E_twice_203 (fun H locs hw => ?_)
      have hw : Hd A D (tyD cA) s (wd a cA n md my gs tx bo re od pl co gr th se (va_up ct (gr (se k)) ((ct (gr (se k))) + 1))) H locs := hw
      refine lv_aload_n hx hb d_E_twice_204 rfl (lv_at hl 0 rfl) ?_
      refine pd_gE M hw 4 5 rfl (by decide) k_f_E_27 rfl d_E_twice_205 ?_
      refine lv_iload_n hx hb d_E_twice_208 rfl (lv_at hl 2 rfl) ?_
      refine pd_ald M hw 10 8 rfl rfl (by omega) (by decide) d_E_twice_209 ?_
      refine pd_ast M hw 5 3 rfl rfl (by omega) (by decide) d_E_twice_210 (fun H locs hw => ?_)
      have hw : Hd A D (tyD cA) s (wd a cA n md my gs tx bo re (va_up od (ct (gr (se k))) (se k)) pl co gr th se (va_up ct (gr (se k)) ((ct (gr (se k))) + 1))) H locs := hw
      refine pd_iinc (j := 1) (lv' := [(3, .int (nI (k + 1))), (0, .ref (a 4)), (1, .int (nI h))]) M d_E_twice_211 hl (k := 2) rfl (by decide) (by decide) rfl (fun ls hl => ?_)
      refine lv_goto (tgt := 171) hx hb d_E_twice_214 (by decide) ?_
      exact ih _ _ _ _ _ _ (by omega) (by omega) (ct3_s hI hse h176 hg1) hw (lv_sub hl [1, 2, 0] rfl)
set_option maxHeartbeats 4000000 in
set_option maxRecDepth 100000 in
theorem tw7 {p : Program} {l : Launch} {e : Env} {s : State} {m : MethodId} {args : Array Value} {below : List Frame} {meth : Method} {c : Code} {Q : State → Prop} {A : Nat → Prop} {D : va_G} {a : Nat → Nat} {cA : Nat → ClassId} {n md my gs : Nat} {tx bo re od pl co gr se ct : Nat → Nat} (M : Mx b_E_twice R_E 5 none p s m meth c args) {h : Nat} (hm : my ≤ 128) (hgs : gs ≤ my) (hh : h < my) (hg : ∀ i, i < my → gr i < gs) (hod : Inj my od) (hka : ∀ i j, kap gr my h i = kap gr my h j ↔ gr i = gr j ∧ bh gr my h i = bh gr my h j)
    (K : ∀ (gg : Nat) (th : Nat → Nat) (H : Heap) (locs : List Loc) (ls : Array Slot), thI (kap gr my h) od my gg th → Hd A D (tyD cA) s (wd a cA n md my gs tx bo re od pl co gr th se ct) H locs → lv_has ls 5 [(0, .ref (a 4)), (1, .int (nI h)), (3, .int (nI gg))] → W p l e { frames := 2, cells := 0, slots := 0, locals := 45 } s m args below meth c H locs 0 0 Q (F0 m 282 ls [])) :
    ∀ (f : Nat) (k : Nat) (gg : Nat) (th : Nat → Nat) (H : Heap) (locs : List Loc) (ls : Array Slot), my - k < f → k ≤ my → thI (kap gr my h) od k gg th → Hd A D (tyD cA) s (wd a cA n md my gs tx bo re od pl co gr th se ct) H locs → lv_has ls 5 [(0, .ref (a 4)), (1, .int (nI h)), (3, .int (nI gg)), (4, .int (nI k))] → W p l e { frames := 2, cells := 0, slots := 0, locals := 45 } s m args below meth c H locs 0 0 Q (F0 m 222 ls []) := by
  obtain ⟨hx, hb, -, -, -, -, -⟩ := id M
  intro f
  induction f with
  | zero => intro k gg th H locs ls hf; exact absurd hf (Nat.not_lt_zero _)
  | succ f ih =>
    intro k gg th H locs ls hf hk hI hw hl
    refine lv_iload hx hb d_E_twice_222 (lv_at hl 3 rfl) ?_
    refine lv_aload_n hx hb d_E_twice_224 rfl (lv_at hl 0 rfl) ?_
    refine pd_gE M hw 4 7 rfl (by decide) k_f_E_33 rfl d_E_twice_225 ?_
    refine pd_cge M d_E_twice_228 (tgt := 282) (by decide) (by omega) (by omega) (fun h228 => ?_) (fun h228 => ?_)
    · obtain rfl : k = my := by omega
      exact K _ _ _ _ _ hI hw (lv_sub hl [0, 1, 2] rfl)
    · have ho1 := hod.1 k h228
      have hgg := hI.2.2.2
      refine lv_iload hx hb d_E_twice_231 (lv_at hl 3 rfl) ?_
      refine pd_ile M d_E_twice_233 (tgt := 263) (by decide) (by omega) (fun h233 => ?_) (fun h233 => ?_)
      · have hg2 : gg = gg + (if 0 < k ∧ kap gr my h (od (k - 1)) ≠ kap gr my h (od k) then 1 else 0) := by rw [if_neg (fun z => by omega), Nat.add_zero]
        refine lv_aload_n hx hb d_E_twice_263 rfl (lv_at hl 0 rfl) ?_
        refine pd_gE M hw 4 4 rfl (by decide) k_f_E_24 rfl d_E_twice_264 ?_
        refine lv_aload_n hx hb d_E_twice_267 rfl (lv_at hl 0 rfl) ?_
        refine pd_gE M hw 4 0 rfl (by decide) k_f_E_9 rfl d_E_twice_268 ?_
        refine lv_iload hx hb d_E_twice_271 (lv_at hl 3 rfl) ?_
        refine pd_ald M hw 5 3 rfl rfl (by omega) (by decide) d_E_twice_273 ?_
        refine lv_iload_n hx hb d_E_twice_274 rfl (lv_at hl 2 rfl) ?_
        refine pd_ast M hw 9 7 rfl rfl (by omega) (by decide) d_E_twice_275 (fun H locs hw => ?_)
        have hw : Hd A D (tyD cA) s (wd a cA n md my gs tx bo re od pl co gr (va_up th (od k) gg) se ct) H locs := hw
        refine pd_iinc (j := 1) (lv' := [(4, .int (nI (k + 1))), (0, .ref (a 4)), (1, .int (nI h)), (3, .int (nI gg))]) M d_E_twice_276 hl (k := 3) rfl (by decide) (by decide) rfl (fun ls hl => ?_)
        refine lv_goto (tgt := 222) hx hb d_E_twice_279 (by decide) ?_
        exact ih _ _ _ _ _ _ (by omega) (by omega) (thI_s hI hod h228 hg2) hw (lv_sub hl [1, 2, 3, 0] rfl)
      · have ho2 := hod.1 (k - 1) (by omega)
        refine lv_aload_n hx hb d_E_twice_236 rfl (lv_at hl 0 rfl) ?_
        refine lv_aload_n hx hb d_E_twice_237 rfl (lv_at hl 0 rfl) ?_
        refine pd_gE M hw 4 0 rfl (by decide) k_f_E_9 rfl d_E_twice_238 ?_
        refine lv_iload hx hb d_E_twice_241 (lv_at hl 3 rfl) ?_
        refine pd_iconst (k := 1) M d_E_twice_243 (by decide) ?_
        refine pd_isub M d_E_twice_244 (by omega) ?_
        refine pd_ald M hw 5 3 rfl rfl (by omega) (by decide) d_E_twice_245 ?_
        refine lv_aload_n hx hb d_E_twice_246 rfl (lv_at hl 0 rfl) ?_
        refine pd_gE M hw 4 0 rfl (by decide) k_f_E_9 rfl d_E_twice_247 ?_
        refine lv_iload hx hb d_E_twice_250 (lv_at hl 3 rfl) ?_
        refine pd_ald M hw 5 3 rfl rfl (by omega) (by decide) d_E_twice_252 ?_
        refine lv_iload_n hx hb d_E_twice_253 rfl (lv_at hl 1 rfl) ?_
        refine pd_calli (As := [.int (nI (od (k - 1))), .int (nI (od k)), .int (nI h)]) (rest := []) (wr := []) M hw (c_E_alike l D a cA n md my gs tx bo re od pl co gr th se ct (od (k - 1)) (od k) h hm ho2 ho1 (by omega) (fun i hi => by have := hg i hi; omega)) k_l_E_51 k_i_E_alike k_s_E_alike k_in_E k_c_E_alike k_d_E_alike ⟨Nat.le_of_ble_eq_true rfl, Nat.le_of_ble_eq_true rfl⟩ ⟨Nat.le_of_ble_eq_true rfl, Nat.le_of_ble_eq_true rfl⟩ [0, 1, 2, 3, 4, 5, 6, 7, 8, 9, 10, 11] [] [0, 1, 2, 3, 4, 5, 6, 7, 8, 9] rfl rfl rfl rfl (by decide) rfl rfl 4 rfl hl.1 (Nat.le_of_ble_eq_true rfl) rfl d_E_twice_254 (fun r u H locs h254 hw => ?_)
        obtain rfl := h254
        have hw : Hd A D (tyD cA) s (wd a cA n md my gs tx bo re od pl co gr th se ct) H locs := hw
        refine pd_ine M d_E_twice_257 (tgt := 263) (by decide) (by split <;> omega) (fun h257 => ?_) (fun h257 => ?_)
        · have hg2 : gg = gg + (if 0 < k ∧ kap gr my h (od (k - 1)) ≠ kap gr my h (od k) then 1 else 0) := by
            rw [if_neg (fun z => z.2 ((hka _ _).mpr (by
              by_cases q : gr (od (k - 1)) = gr (od k) ∧ bh gr my h (od (k - 1)) = bh gr my h (od k)
              · exact q
              · rw [if_neg q] at h257; omega))), Nat.add_zero]
          refine lv_aload_n hx hb d_E_twice_263 rfl (lv_at hl 0 rfl) ?_
          refine pd_gE M hw 4 4 rfl (by decide) k_f_E_24 rfl d_E_twice_264 ?_
          refine lv_aload_n hx hb d_E_twice_267 rfl (lv_at hl 0 rfl) ?_
          refine pd_gE M hw 4 0 rfl (by decide) k_f_E_9 rfl d_E_twice_268 ?_
          refine lv_iload hx hb d_E_twice_271 (lv_at hl 3 rfl) ?_
          refine pd_ald M hw 5 3 rfl rfl (by omega) (by decide) d_E_twice_273 ?_
          refine lv_iload_n hx hb d_E_twice_274 rfl (lv_at hl 2 rfl) ?_
          refine pd_ast M hw 9 7 rfl rfl (by omega) (by decide) d_E_twice_275 (fun H locs hw => ?_)
          have hw : Hd A D (tyD cA) s (wd a cA n md my gs tx bo re od pl co gr (va_up th (od k) gg) se ct) H locs := hw
          refine pd_iinc (j := 1) (lv' := [(4, .int (nI (k + 1))), (0, .ref (a 4)), (1, .int (nI h)), (3, .int (nI gg))]) M d_E_twice_276 hl (k := 3) rfl (by decide) (by decide) rfl (fun ls hl => ?_)
          refine lv_goto (tgt := 222) hx hb d_E_twice_279 (by decide) ?_
          exact ih _ _ _ _ _ _ (by omega) (by omega) (thI_s hI hod h228 hg2) hw (lv_sub hl [1, 2, 3, 0] rfl)
        · have hg2 : gg + 1 = gg + (if 0 < k ∧ kap gr my h (od (k - 1)) ≠ kap gr my h (od k) then 1 else 0) := by
            rw [if_pos ⟨h233, fun z => by rw [if_pos ((hka _ _).mp z)] at h257; omega⟩]
          refine pd_iinc (j := 1) (lv' := [(3, .int (nI (gg + 1))), (0, .ref (a 4)), (1, .int (nI h)), (4, .int (nI k))]) M d_E_twice_260 hl (k := 2) rfl (by decide) (by decide) rfl (fun ls hl => ?_)
          refine lv_aload_n hx hb d_E_twice_263 rfl (lv_at hl 1 rfl) ?_
          refine pd_gE M hw 4 4 rfl (by decide) k_f_E_24 rfl d_E_twice_264 ?_
          refine lv_aload_n hx hb d_E_twice_267 rfl (lv_at hl 1 rfl) ?_
          refine pd_gE M hw 4 0 rfl (by decide) k_f_E_9 rfl d_E_twice_268 ?_
          refine lv_iload hx hb d_E_twice_271 (lv_at hl 3 rfl) ?_
          refine pd_ald M hw 5 3 rfl rfl (by omega) (by decide) d_E_twice_273 ?_
          refine lv_iload_n hx hb d_E_twice_274 rfl (lv_at hl 0 rfl) ?_
          refine pd_ast M hw 9 7 rfl rfl (by omega) (by decide) d_E_twice_275 (fun H locs hw => ?_)
          have hw : Hd A D (tyD cA) s (wd a cA n md my gs tx bo re od pl co gr (va_up th (od k) (gg + 1)) se ct) H locs := hw
          refine pd_iinc (j := 1) (lv' := [(4, .int (nI (k + 1))), (3, .int (nI (gg + 1))), (0, .ref (a 4)), (1, .int (nI h))]) M d_E_twice_276 hl (k := 3) rfl (by decide) (by decide) rfl (fun ls hl => ?_)
          refine lv_goto (tgt := 222) hx hb d_E_twice_279 (by decide) ?_
          exact ih _ _ _ _ _ _ (by omega) (by omega) (thI_s hI hod h228 hg2) hw (lv_sub hl [2, 3, 1, 0] rfl)
set_option maxHeartbeats 4000000 in
set_option maxRecDepth 100000 in
theorem tw8 {p : Program} {l : Launch} {e : Env} {R : Room} {s : State} {m : MethodId} {args : Array Value} {below : List Frame} {meth : Method} {c : Code} {cells slots : Nat} {Q : State → Prop} {A : Nat → Prop} {D : va_G} {a : Nat → Nat} {cA : Nat → ClassId} {n md my gs : Nat} {tx bo re od pl co th se ct : Nat → Nat} (M : Mx b_E_twice R_E 5 none p s m meth c args) (hm : my ≤ 128)
    (K : ∀ (gr : Nat → Nat) (H : Heap) (locs : List Loc) (ls : Array Slot), (∀ i, i < my → gr i = th i) → Hd A D (tyD cA) s (wd a cA n md my gs tx bo re od pl co gr th se ct) H locs → W p l e R s m args below meth c H locs cells slots Q (F0 m 332 ls [])) :
    ∀ (f : Nat) (k : Nat) (gr : Nat → Nat) (H : Heap) (locs : List Loc) (ls : Array Slot), my - k < f → k ≤ my → (∀ i, i < k → gr i = th i) → Hd A D (tyD cA) s (wd a cA n md my gs tx bo re od pl co gr th se ct) H locs → lv_has ls 5 [(0, .ref (a 4)), (4, .int (nI k))] → W p l e R s m args below meth c H locs cells slots Q (F0 m 303 ls []) := by
  obtain ⟨hx, hb, -, -, -, -, -⟩ := id M
  intro f
  induction f with
  | zero => intro k gr H locs ls hf; exact absurd hf (Nat.not_lt_zero _)
  | succ f ih =>
    intro k gr H locs ls hf hk hI hw hl
    refine lv_iload hx hb d_E_twice_303 (lv_at hl 1 rfl) ?_
    refine lv_aload_n hx hb d_E_twice_305 rfl (lv_at hl 0 rfl) ?_
    refine pd_gE M hw 4 7 rfl (by decide) k_f_E_33 rfl d_E_twice_306 ?_
    refine pd_cge M d_E_twice_309 (tgt := 332) (by decide) (by omega) (by omega) (fun h309 => ?_) (fun h309 => ?_)
    · obtain rfl : k = my := by omega
      exact K _ _ _ _ hI hw
    · refine lv_aload_n hx hb d_E_twice_312 rfl (lv_at hl 0 rfl) ?_
      refine pd_gE M hw 4 3 rfl (by decide) k_f_E_21 rfl d_E_twice_313 ?_
      refine lv_iload hx hb d_E_twice_316 (lv_at hl 1 rfl) ?_
      refine lv_aload_n hx hb d_E_twice_318 rfl (lv_at hl 0 rfl) ?_
      refine pd_gE M hw 4 4 rfl (by decide) k_f_E_24 rfl d_E_twice_319 ?_
      refine lv_iload hx hb d_E_twice_322 (lv_at hl 1 rfl) ?_
      refine pd_ald M hw 9 7 rfl rfl (by omega) (by decide) d_E_twice_324 ?_
      refine pd_ast M hw 8 6 rfl rfl (by omega) (by decide) d_E_twice_325 (fun H locs hw => ?_)
      have hw : Hd A D (tyD cA) s (wd a cA n md my gs tx bo re od pl co (va_up gr k (th k)) th se ct) H locs := hw
      refine pd_iinc (j := 1) (lv' := [(4, .int (nI (k + 1))), (0, .ref (a 4))]) M d_E_twice_326 hl (k := 1) rfl (by decide) (by decide) rfl (fun ls hl => ?_)
      refine lv_goto (tgt := 303) hx hb d_E_twice_329 (by decide) ?_
      exact ih _ _ _ _ _ (by omega) (by omega) (fun i hi => by by_cases e9 : i = k; rw [e9, up_s]; rw [up_n e9]; exact hI i (by omega)) hw (lv_sub hl [1, 0] rfl)
set_option maxHeartbeats 4000000 in
set_option maxRecDepth 100000 in
theorem c_E_twice (l : Launch) (D : va_G) (a : Nat → Nat) (cA : Nat → ClassId) (n md my gs : Nat) (tx bo re od pl co gr th se ct : Nat → Nat) (h : Nat) (hm : my ≤ 128) (hh : 1 ≤ h) (hhn : h < my) (G : GI tx my h gr od gs) : Cv l y_E_twice b_E_twice 5 2 45 D (tyD cA) [.ref (a 4), .int (nI h)] (wd a cA n md my gs tx bo re od pl co gr th se ct) ((Nat → Nat) × (Nat → Nat) × (Nat → Nat) × (Nat → Nat) × (Nat → Nat) × Nat) (fun u => GI tx my (2 * h) u.2.1 u.1 u.2.2.2.2.2) (fun u => (wd a cA n md my u.2.2.2.2.2 tx bo re u.1 pl co u.2.1 u.2.2.1 u.2.2.2.1 u.2.2.2.2.1)) := by
  refine Cv_of (by decide) (Nat.le_of_ble_eq_true rfl) ?_
  intro p e s m below meth c A ls M hw hl
  have M : Mx b_E_twice R_E 5 none p s m meth c ([.ref (a 4), .int (nI h)] : List Value).toArray := M
  have hl : lv_has ls 5 [(0, .ref (a 4)), (1, .int (nI h))] := hl
  obtain ⟨hx, hb, -, -, -, -, -⟩ := id M
  refine pd_iconst (k := 0) M d_E_twice_0 (by decide) ?_
  refine lv_istore_n (lv' := [(2, .int (nI 0)), (0, .ref (a 4)), (1, .int (nI h))]) hx hb d_E_twice_1 rfl hl (by decide) rfl (fun ls hl => ?_)
  refine lv_aload_n hx hb d_E_twice_2 rfl (lv_at hl 1 rfl) ?_
  refine pd_gE M hw 4 7 rfl (by decide) k_f_E_33 rfl d_E_twice_3 ?_
  refine lv_iload_n hx hb d_E_twice_6 rfl (lv_at hl 2 rfl) ?_
  refine pd_isub M d_E_twice_7 (by omega) ?_
  refine lv_istore_n (lv' := [(3, .int (nI (my - h))), (2, .int (nI 0)), (0, .ref (a 4)), (1, .int (nI h))]) hx hb d_E_twice_8 rfl hl (by decide) rfl (fun ls hl => ?_)
  have hgs := G.gs_le
  have hg : ∀ i, i < my → gr i < gs := fun i hi => G.lt hi
  refine tw1 M hm (by omega) (fun se H locs ls hs hw hl => ?_) (my + 1) _ 0 _ _ _ _ (by omega) (by omega) (by omega) (fun p hp => by omega) hw (lv_sub hl [2, 3, 1, 0] rfl)
  refine pd_iconst (k := 0) M d_E_twice_37 (by decide) ?_
  refine lv_istore_n (lv' := [(3, .int (nI 0)), (0, .ref (a 4)), (1, .int (nI h)), (2, .int (nI h))]) hx hb d_E_twice_38 rfl hl (by decide) rfl (fun ls hl => ?_)
  refine tw2 M hm (by omega) G.1 (fun at2 se H locs ls hs2 hw hl => ?_) (my + 1) 0 _ _ _ _ _ (by omega) (by omega) (seI_0 hs) hw (lv_sub hl [1, 2, 3, 0] rfl)
  obtain ⟨hse, hsb⟩ := seI_end hs2 G (by omega)
  refine pd_iconst (k := 0) M d_E_twice_80 (by decide) ?_
  refine lv_istore_n (lv' := [(3, .int (nI 0)), (0, .ref (a 4)), (1, .int (nI h))]) hx hb d_E_twice_81 rfl hl (by decide) rfl (fun ls hl => ?_)
  refine tw3 M (by omega) (fun ct H locs ls hz hw hl => ?_) (gs + 2) 0 _ _ _ _ (by omega) (by omega) (fun x hx => by omega) hw (lv_sub hl [1, 2, 0] rfl)
  refine pd_iconst (k := 0) M d_E_twice_103 (by decide) ?_
  refine lv_istore_n (lv' := [(3, .int (nI 0)), (0, .ref (a 4)), (1, .int (nI h))]) hx hb d_E_twice_104 rfl hl (by decide) rfl (fun ls hl => ?_)
  refine tw4 M hm hgs hg (fun ct H locs ls hc1 hw hl => ?_) (my + 1) 0 _ _ _ _ (by omega) (by omega) (ct1_0 hz) hw (lv_sub hl [1, 2, 0] rfl)
  refine pd_iconst (k := 0) M d_E_twice_136 (by decide) ?_
  refine lv_istore_n (lv' := [(3, .int (nI 0)), (0, .ref (a 4)), (1, .int (nI h))]) hx hb d_E_twice_137 rfl hl (by decide) rfl (fun ls hl => ?_)
  refine tw5 M hm hgs (fun ct H locs ls hc2 hw hl => ?_) (gs + 1) 0 _ _ _ _ (by omega) (by omega) (ct2_0 hc1) hw (lv_sub hl [1, 2, 0] rfl)
  refine pd_iconst (k := 0) M d_E_twice_169 (by decide) ?_
  refine lv_istore_n (lv' := [(3, .int (nI 0)), (0, .ref (a 4)), (1, .int (nI h))]) hx hb d_E_twice_170 rfl hl (by decide) rfl (fun ls hl => ?_)
  refine tw6 M hm hgs hg hse (fun ct od2 H locs ls hc3 hw hl => ?_) (my + 1) 0 _ _ _ _ _ (by omega) (by omega) (ct3_0 hc2) hw (lv_sub hl [1, 2, 0] rfl)
  obtain ⟨ho2, hks⟩ := ct3_end hc3 G hse hsb
  refine pd_iconst (k := 0) M d_E_twice_217 (by decide) ?_
  refine lv_istore_n (lv' := [(3, .int (nI 0)), (0, .ref (a 4)), (1, .int (nI h))]) hx hb d_E_twice_218 rfl hl (by decide) rfl (fun ls hl => ?_)
  refine pd_iconst (k := 0) M d_E_twice_219 (by decide) ?_
  refine lv_istore (lv' := [(4, .int (nI 0)), (3, .int (nI 0)), (0, .ref (a 4)), (1, .int (nI h))]) hx hb d_E_twice_220 hl (by decide) rfl (fun ls hl => ?_)
  refine tw7 M hm hgs hhn hg ho2 (fun i j => G.kap_eq i j) (fun gg th H locs ls hth hw hl => ?_) (my + 1) 0 0 _ _ _ _ (by omega) (by omega) thI_0 hw (lv_sub hl [2, 3, 1, 0] rfl)
  have hgg := hth.2.2.2
  refine lv_aload_n hx hb d_E_twice_282 rfl (lv_at hl 0 rfl) ?_
  refine lv_aload_n hx hb d_E_twice_283 rfl (lv_at hl 0 rfl) ?_
  refine pd_gE M hw 4 7 rfl (by decide) k_f_E_33 rfl d_E_twice_284 ?_
  refine pd_ine M d_E_twice_287 (tgt := 294) (by decide) (by omega) (fun h287 => ?_) (fun h287 => ?_)
  · refine lv_iload_n hx hb d_E_twice_294 rfl (lv_at hl 2 rfl) ?_
    refine pd_iconst (k := 1) M d_E_twice_295 (by decide) ?_
    refine pd_iadd M d_E_twice_296 ?_
    refine pd_pE M hw 4 8 rfl (by decide) k_f_E_41 rfl rfl rfl (Nat.le_of_ble_eq_true rfl) d_E_twice_297 (fun H locs hw => ?_)
    have hw : Hd A D (tyD cA) s (wd a cA n md my (gg + 1) tx bo re od2 pl co gr th se ct) H locs := hw
    refine pd_iconst (k := 0) M d_E_twice_300 (by decide) ?_
    refine lv_istore (lv' := [(4, .int (nI 0)), (0, .ref (a 4)), (1, .int (nI h)), (3, .int (nI gg))]) hx hb d_E_twice_301 hl (by decide) rfl (fun ls hl => ?_)
    exact tw8 M hm (fun gr2 H locs ls he hw => pd_vret M (od2, gr2, th, se, ct, gg + 1) hw (thI_end G hh (by omega) ho2 hks hth he) d_E_twice_332) (my + 1) 0 _ _ _ _ (by omega) (by omega) (fun i hi => by omega) hw (lv_sub hl [1, 0] rfl)
  · omega
end
section
/-! Ends.neighbours, Ends.make -/
set_option maxHeartbeats 4000000 in
set_option maxRecDepth 100000 in
theorem nb_in {p : Program} {l : Launch} {e : Env} {R : Room} {s : State} {m : MethodId} {args : Array Value} {below : List Frame} {meth : Method} {c : Code} {cells slots : Nat} {Q : State → Prop} {A : Nat → Prop} {D : va_G} {a : Nat → Nat} {cA : Nat → ClassId} {n md my gs : Nat} {tx bo re od pl co gr th se ct : Nat → Nat} (M : Mx b_E_neighbours R_E 5 none p s m meth c args) {k o : Nat} (hm : my ≤ 128) (ht : ∀ i, i < my → tx i < 4) (hk : k < my) (ho : o < my)
    (K : ∀ (H : Heap) (locs : List Loc) (ls : Array Slot), Hd A D (tyD cA) s (wd a cA n md my gs tx bo re od pl co gr th se ct) H locs → lv_has ls 5 [(0, .ref (a 4)), (1, .ref (a 1)), (2, .int (nI (lc tx my k o))), (3, .int (nI k))] → W p l e R s m args below meth c H locs cells slots Q (F0 m 89 ls [])) :
    ∀ (f : Nat) (q : Nat) (H : Heap) (locs : List Loc) (ls : Array Slot), my - (k + q) < f → q ≤ lc tx my k o → Hd A D (tyD cA) s (wd a cA n md my gs tx bo re od pl co gr th se ct) H locs → lv_has ls 5 [(0, .ref (a 4)), (1, .ref (a 1)), (2, .int (nI q)), (3, .int (nI k)), (4, .int (nI o))] → W p l e R s m args below meth c H locs cells slots Q (F0 m 48 ls []) := by
  obtain ⟨hx, hb, -, -, -, -, -⟩ := id M
  intro f
  induction f with
  | zero => intro q H locs ls hf; exact absurd hf (Nat.not_lt_zero _)
  | succ f ih =>
    intro q H locs ls hf hq hw hl
    have hb1 := lc_n (t := tx) (n := my) (i := k) (j := o) (by omega)
    have hb2 := lc_n2 (t := tx) (n := my) (i := k) (j := o) (by omega)
    refine lv_iload_n hx hb d_E_neighbours_48 rfl (lv_at hl 3 rfl) ?_
    refine lv_iload_n hx hb d_E_neighbours_49 rfl (lv_at hl 2 rfl) ?_
    refine pd_iadd M d_E_neighbours_50 ?_
    refine lv_aload_n hx hb d_E_neighbours_51 rfl (lv_at hl 0 rfl) ?_
    refine pd_gE M hw 4 7 rfl (by decide) k_f_E_33 rfl d_E_neighbours_52 ?_
    refine pd_cge M d_E_neighbours_55 (tgt := 89) (by decide) (by omega) (by omega) (fun h55 => ?_) (fun h55 => ?_)
    · obtain rfl : q = lc tx my k o := by omega
      exact K _ _ _ hw (lv_sub hl [0, 1, 2, 3] rfl)
    · refine lv_iload hx hb d_E_neighbours_58 (lv_at hl 4 rfl) ?_
      refine lv_iload_n hx hb d_E_neighbours_60 rfl (lv_at hl 2 rfl) ?_
      refine pd_iadd M d_E_neighbours_61 ?_
      refine lv_aload_n hx hb d_E_neighbours_62 rfl (lv_at hl 0 rfl) ?_
      refine pd_gE M hw 4 7 rfl (by decide) k_f_E_33 rfl d_E_neighbours_63 ?_
      refine pd_cge M d_E_neighbours_66 (tgt := 89) (by decide) (by omega) (by omega) (fun h66 => ?_) (fun h66 => ?_)
      · obtain rfl : q = lc tx my k o := by omega
        exact K _ _ _ hw (lv_sub hl [0, 1, 2, 3] rfl)
      · have ht1 := ht (k + q) h55
        have ht2 := ht (o + q) h66
        refine lv_aload_n hx hb d_E_neighbours_69 rfl (lv_at hl 1 rfl) ?_
        refine lv_iload_n hx hb d_E_neighbours_70 rfl (lv_at hl 3 rfl) ?_
        refine lv_iload_n hx hb d_E_neighbours_71 rfl (lv_at hl 2 rfl) ?_
        refine pd_iadd M d_E_neighbours_72 ?_
        refine pd_ald M hw 1 0 rfl rfl (by omega) (by decide) d_E_neighbours_73 ?_
        refine lv_aload_n hx hb d_E_neighbours_74 rfl (lv_at hl 1 rfl) ?_
        refine lv_iload hx hb d_E_neighbours_75 (lv_at hl 4 rfl) ?_
        refine lv_iload_n hx hb d_E_neighbours_77 rfl (lv_at hl 2 rfl) ?_
        refine pd_iadd M d_E_neighbours_78 ?_
        refine pd_ald M hw 1 0 rfl rfl (by omega) (by decide) d_E_neighbours_79 ?_
        refine pd_cne M d_E_neighbours_80 (tgt := 89) (by decide) (by omega) (by omega) (fun h80 => ?_) (fun h80 => ?_)
        · have hle : lc tx my k o ≤ q := by
            rcases Nat.lt_or_ge q (lc tx my k o) with z | z
            · exact absurd (lc_all (t := tx) (n := my) q k o z).2.2 h80
            · exact z
          obtain rfl : q = lc tx my k o := by omega
          exact K _ _ _ hw (lv_sub hl [0, 1, 2, 3] rfl)
        · have hlt : q < lc tx my k o := by
            rcases Nat.lt_or_ge q (lc tx my k o) with z | z
            · exact z
            · have e9 : q = lc tx my k o := by omega
              rw [e9] at h55 h66 h80
              exact absurd ⟨h55, h66, h80⟩ (lc_end tx my k o)
          refine pd_iinc (j := 1) (lv' := [(2, .int (nI (q + 1))), (0, .ref (a 4)), (1, .ref (a 1)), (3, .int (nI k)), (4, .int (nI o))]) M d_E_neighbours_83 hl (k := 2) rfl (by decide) (by decide) rfl (fun ls hl => ?_)
          refine lv_goto (tgt := 48) hx hb d_E_neighbours_86 (by decide) ?_
          exact ih _ _ _ _ (by omega) (by omega) hw (lv_sub hl [1, 2, 0, 3, 4] rfl)
set_option maxHeartbeats 4000000 in
set_option maxRecDepth 100000 in
theorem nb_out {p : Program} {l : Launch} {e : Env} {R : Room} {s : State} {m : MethodId} {args : Array Value} {below : List Frame} {meth : Method} {c : Code} {cells slots : Nat} {Q : State → Prop} {A : Nat → Prop} {D : va_G} {a : Nat → Nat} {cA : Nat → ClassId} {n md my gs : Nat} {tx bo re od pl gr th se ct : Nat → Nat} (M : Mx b_E_neighbours R_E 5 none p s m meth c args) (hm : my ≤ 128) (ht : ∀ i, i < my → tx i < 4) (O : Ord tx my od pl)
    (K : ∀ (co : Nat → Nat) (H : Heap) (locs : List Loc) (ls : Array Slot), SA tx my od pl co → Hd A D (tyD cA) s (wd a cA n md my gs tx bo re od pl co gr th se ct) H locs → W p l e R s m args below meth c H locs cells slots Q (F0 m 114 ls [])) :
    ∀ (f : Nat) (k : Nat) (q : Nat) (co : Nat → Nat) (H : Heap) (locs : List Loc) (ls : Array Slot), my - k < f → k ≤ my → nbI tx my od pl k q co → Hd A D (tyD cA) s (wd a cA n md my gs tx bo re od pl co gr th se ct) H locs → lv_has ls 5 [(0, .ref (a 4)), (1, .ref (a 1)), (2, .int (nI q)), (3, .int (nI k))] → W p l e R s m args below meth c H locs cells slots Q (F0 m 4 ls []) := by
  obtain ⟨hx, hb, -, -, -, -, -⟩ := id M
  intro f
  induction f with
  | zero => intro k q co H locs ls hf; exact absurd hf (Nat.not_lt_zero _)
  | succ f ih =>
    intro k q co H locs ls hf hk hI hw hl
    refine lv_iload_n hx hb d_E_neighbours_4 rfl (lv_at hl 3 rfl) ?_
    refine lv_aload_n hx hb d_E_neighbours_5 rfl (lv_at hl 0 rfl) ?_
    refine pd_gE M hw 4 7 rfl (by decide) k_f_E_33 rfl d_E_neighbours_6 ?_
    refine pd_cge M d_E_neighbours_9 (tgt := 114) (by decide) (by omega) (by omega) (fun h9 => ?_) (fun h9 => ?_)
    · obtain rfl : k = my := by omega
      exact K _ _ _ _ (nbI_end O hI) hw
    · have hp1 := (O.pl_at h9).1
      refine lv_aload_n hx hb d_E_neighbours_12 rfl (lv_at hl 0 rfl) ?_
      refine pd_gE M hw 4 1 rfl (by decide) k_f_E_15 rfl d_E_neighbours_13 ?_
      refine lv_iload_n hx hb d_E_neighbours_16 rfl (lv_at hl 3 rfl) ?_
      refine pd_ald M hw 6 4 rfl rfl (by omega) (by decide) d_E_neighbours_17 ?_
      refine pd_ine M d_E_neighbours_18 (tgt := 33) (by decide) (by omega) (fun h18 => ?_) (fun h18 => ?_)
      · refine lv_aload_n hx hb d_E_neighbours_33 rfl (lv_at hl 0 rfl) ?_
        refine pd_gE M hw 4 0 rfl (by decide) k_f_E_9 rfl d_E_neighbours_34 ?_
        refine lv_aload_n hx hb d_E_neighbours_37 rfl (lv_at hl 0 rfl) ?_
        refine pd_gE M hw 4 1 rfl (by decide) k_f_E_15 rfl d_E_neighbours_38 ?_
        refine lv_iload_n hx hb d_E_neighbours_41 rfl (lv_at hl 3 rfl) ?_
        refine pd_ald M hw 6 4 rfl rfl (by omega) (by decide) d_E_neighbours_42 ?_
        refine pd_iconst (k := 1) M d_E_neighbours_43 (by decide) ?_
        refine pd_isub M d_E_neighbours_44 (by omega) ?_
        refine pd_ald M hw 5 3 rfl rfl (by omega) (by decide) d_E_neighbours_45 ?_
        refine lv_istore (lv' := [(4, .int (nI (od ((pl k) - 1)))), (0, .ref (a 4)), (1, .ref (a 1)), (2, .int (nI q)), (3, .int (nI k))]) hx hb d_E_neighbours_46 hl (by decide) rfl (fun ls hl => ?_)
        have hpl : pl k - 1 < my := by omega
        have hoo := O.1.1 (pl k - 1) hpl
        refine nb_in M (k := k) (o := od (pl k - 1)) hm ht h9 hoo (fun H locs ls hw hl => ?_) (my + 1) q _ _ _ (by omega) (hI.2.1 h9 (by omega)) hw (lv_sub hl [1, 2, 3, 4, 0] rfl)
        have hb1 := lc_n (t := tx) (n := my) (i := k) (j := od (pl k - 1)) (by omega)
        refine lv_aload_n hx hb d_E_neighbours_89 rfl (lv_at hl 0 rfl) ?_
        refine pd_gE M hw 4 2 rfl (by decide) k_f_E_18 rfl d_E_neighbours_90 ?_
        refine lv_aload_n hx hb d_E_neighbours_93 rfl (lv_at hl 0 rfl) ?_
        refine pd_gE M hw 4 1 rfl (by decide) k_f_E_15 rfl d_E_neighbours_94 ?_
        refine lv_iload_n hx hb d_E_neighbours_97 rfl (lv_at hl 3 rfl) ?_
        refine pd_ald M hw 6 4 rfl rfl (by omega) (by decide) d_E_neighbours_98 ?_
        refine lv_iload_n hx hb d_E_neighbours_99 rfl (lv_at hl 2 rfl) ?_
        refine pd_ast M hw 7 5 rfl rfl (by omega) (by decide) d_E_neighbours_100 (fun H locs hw => ?_)
        have hw : Hd A D (tyD cA) s (wd a cA n md my gs tx bo re od pl (va_up co (pl k) (lc tx my k (od (pl k - 1)))) gr th se ct) H locs := hw
        refine lv_iload_n hx hb d_E_neighbours_101 rfl (lv_at hl 2 rfl) ?_
        refine pd_ile M d_E_neighbours_102 (tgt := 108) (by decide) (by omega) (fun h102 => ?_) (fun h102 => ?_)
        · rw [show lc tx my k (od (pl k - 1)) = lc tx my k (od (pl k - 1)) - 1 by omega] at hl
          refine pd_iinc (j := 1) (lv' := [(3, .int (nI (k + 1))), (0, .ref (a 4)), (1, .ref (a 1)), (2, .int (nI (lc tx my k (od (pl k - 1)) - 1)))]) M d_E_neighbours_108 hl (k := 3) rfl (by decide) (by decide) rfl (fun ls hl => ?_)
          refine lv_goto (tgt := 4) hx hb d_E_neighbours_111 (by decide) ?_
          exact ih _ _ _ _ _ _ (by omega) (by omega) (nbI_s O hI h9 (by omega) rfl) hw (lv_sub hl [1, 2, 3, 0] rfl)
        · refine pd_idec (lv' := [(2, .int (nI ((lc tx my k (od (pl k - 1))) - 1))), (0, .ref (a 4)), (1, .ref (a 1)), (3, .int (nI k))]) M d_E_neighbours_105 hl (k := 2) rfl (by decide) (by omega) (by decide) rfl (fun ls hl => ?_)
          refine pd_iinc (j := 1) (lv' := [(3, .int (nI (k + 1))), (2, .int (nI ((lc tx my k (od (pl k - 1))) - 1))), (0, .ref (a 4)), (1, .ref (a 1))]) M d_E_neighbours_108 hl (k := 3) rfl (by decide) (by decide) rfl (fun ls hl => ?_)
          refine lv_goto (tgt := 4) hx hb d_E_neighbours_111 (by decide) ?_
          exact ih _ _ _ _ _ _ (by omega) (by omega) (nbI_s O hI h9 (by omega) rfl) hw (lv_sub hl [2, 3, 1, 0] rfl)
      · refine lv_aload_n hx hb d_E_neighbours_21 rfl (lv_at hl 0 rfl) ?_
        refine pd_gE M hw 4 2 rfl (by decide) k_f_E_18 rfl d_E_neighbours_22 ?_
        refine pd_iconst (k := 0) M d_E_neighbours_25 (by decide) ?_
        refine pd_iconst (k := 0) M d_E_neighbours_26 (by decide) ?_
        refine pd_ast M hw 7 5 rfl rfl (by omega) (by decide) d_E_neighbours_27 (fun H locs hw => ?_)
        have hw : Hd A D (tyD cA) s (wd a cA n md my gs tx bo re od pl (va_up co 0 0) gr th se ct) H locs := hw
        refine pd_iconst (k := 0) M d_E_neighbours_28 (by decide) ?_
        refine lv_istore_n (lv' := [(2, .int (nI 0)), (0, .ref (a 4)), (1, .ref (a 1)), (3, .int (nI k))]) hx hb d_E_neighbours_29 rfl hl (by decide) rfl (fun ls hl => ?_)
        refine lv_goto (tgt := 108) hx hb d_E_neighbours_30 (by decide) ?_
        refine pd_iinc (j := 1) (lv' := [(3, .int (nI (k + 1))), (2, .int (nI 0)), (0, .ref (a 4)), (1, .ref (a 1))]) M d_E_neighbours_108 hl (k := 3) rfl (by decide) (by decide) rfl (fun ls hl => ?_)
        refine lv_goto (tgt := 4) hx hb d_E_neighbours_111 (by decide) ?_
        exact ih _ _ _ _ _ _ (by omega) (by omega) (nbI_z O hI h9 h18) hw (lv_sub hl [2, 3, 1, 0] rfl)
set_option maxHeartbeats 4000000 in
set_option maxRecDepth 100000 in
theorem c_E_neighbours (l : Launch) (D : va_G) (a : Nat → Nat) (cA : Nat → ClassId) (n md my gs : Nat) (tx bo re od pl co gr th se ct : Nat → Nat) (hm : my ≤ 128) (ht : ∀ i, i < my → tx i < 4) (O : Ord tx my od pl) : Cv l y_E_neighbours b_E_neighbours 5 0 0 D (tyD cA) [.ref (a 4), .ref (a 1)] (wd a cA n md my gs tx bo re od pl co gr th se ct) (Nat → Nat) (fun co2 => SA tx my od pl co2) (fun co2 => (wd a cA n md my gs tx bo re od pl co2 gr th se ct)) := by
  refine Cv_of (by decide) (Nat.le_of_ble_eq_true rfl) ?_
  intro p e s m below meth c A ls M hw hl
  have M : Mx b_E_neighbours R_E 5 none p s m meth c ([.ref (a 4), .ref (a 1)] : List Value).toArray := M
  have hl : lv_has ls 5 [(0, .ref (a 4)), (1, .ref (a 1))] := hl
  obtain ⟨hx, hb, -, -, -, -, -⟩ := id M
  refine pd_iconst (k := 0) M d_E_neighbours_0 (by decide) ?_
  refine lv_istore_n (lv' := [(2, .int (nI 0)), (0, .ref (a 4)), (1, .ref (a 1))]) hx hb d_E_neighbours_1 rfl hl (by decide) rfl (fun ls hl => ?_)
  refine pd_iconst (k := 0) M d_E_neighbours_2 (by decide) ?_
  refine lv_istore_n (lv' := [(3, .int (nI 0)), (2, .int (nI 0)), (0, .ref (a 4)), (1, .ref (a 1))]) hx hb d_E_neighbours_3 rfl hl (by decide) rfl (fun ls hl => ?_)
  exact nb_out M hm ht O (fun co2 H locs ls hs hw => pd_vret M co2 hw hs d_E_neighbours_114) (my + 1) 0 0 _ _ _ _ (by omega) (by omega) nbI_0 hw (lv_sub hl [2, 3, 1, 0] rfl)
set_option maxHeartbeats 4000000 in
set_option maxRecDepth 100000 in
theorem mk1 {p : Program} {l : Launch} {e : Env} {s : State} {m : MethodId} {args : Array Value} {below : List Frame} {meth : Method} {c : Code} {Q : State → Prop} {A : Nat → Prop} {D : va_G} {a : Nat → Nat} {cA : Nat → ClassId} {n md my : Nat} {tx bo re pl co : Nat → Nat} (M : Mx b_E_make R_E 4 none p s m meth c args) (hm : my ≤ 128)
    (K : ∀ (h gs : Nat) (od gr th se ct : Nat → Nat) (H : Heap) (locs : List Loc) (ls : Array Slot), GI tx my h gr od gs → my ≤ gs → Hd A D (tyD cA) s (wd a cA n md my gs tx bo re od pl co gr th se ct) H locs → lv_has ls 4 [(0, .ref (a 4)), (1, .ref (a 1)), (2, .int (nI my))] → W p l e { frames := 3, cells := 0, slots := 0, locals := 69 } s m args below meth c H locs 0 0 Q (F0 m 32 ls [])) :
    ∀ (f : Nat) (h : Nat) (gs : Nat) (od : Nat → Nat) (gr : Nat → Nat) (th : Nat → Nat) (se : Nat → Nat) (ct : Nat → Nat) (H : Heap) (locs : List Loc) (ls : Array Slot), my - h < f → 1 ≤ h → GI tx my h gr od gs → Hd A D (tyD cA) s (wd a cA n md my gs tx bo re od pl co gr th se ct) H locs → lv_has ls 4 [(0, .ref (a 4)), (1, .ref (a 1)), (2, .int (nI my)), (3, .int (nI h))] → W p l e { frames := 3, cells := 0, slots := 0, locals := 69 } s m args below meth c H locs 0 0 Q (F0 m 12 ls []) := by
  obtain ⟨hx, hb, -, -, -, -, -⟩ := id M
  intro f
  induction f with
  | zero => intro h gs od gr th se ct H locs ls hf; exact absurd hf (Nat.not_lt_zero _)
  | succ f ih =>
    intro h gs od gr th se ct H locs ls hf hh hI hw hl
    refine lv_aload_n hx hb d_E_make_12 rfl (lv_at hl 0 rfl) ?_
    refine pd_gE M hw 4 8 rfl (by decide) k_f_E_41 rfl d_E_make_13 ?_
    refine lv_iload_n hx hb d_E_make_16 rfl (lv_at hl 2 rfl) ?_
    have hgs := hI.gs_le
    refine pd_cge M d_E_make_17 (tgt := 32) (by decide) (by omega) (by omega) (fun h17 => ?_) (fun h17 => ?_)
    · exact K _ _ _ _ _ _ _ _ _ _ hI h17 hw (lv_sub hl [0, 1, 2] rfl)
    · have hlt := hI.more h17
      refine lv_aload_n hx hb d_E_make_20 rfl (lv_at hl 0 rfl) ?_
      refine lv_iload_n hx hb d_E_make_21 rfl (lv_at hl 3 rfl) ?_
      refine pd_callv (As := [.int (nI h)]) (rest := []) (wr := []) M hw (c_E_twice l D a cA n md my gs tx bo re od pl co gr th se ct h hm hh hlt hI) k_l_E_44 k_i_E_twice k_s_E_twice k_in_E k_c_E_twice k_d_E_twice ⟨Nat.le_of_ble_eq_true rfl, Nat.le_of_ble_eq_true rfl⟩ ⟨Nat.le_of_ble_eq_true rfl, Nat.le_of_ble_eq_true rfl⟩ [0, 1, 2, 3, 4, 5, 6, 7, 8, 9, 10, 11] [] [0, 1, 2, 3, 4, 5, 6, 7, 8, 9] rfl rfl rfl rfl (by decide) rfl rfl 4 rfl hl.1 (Nat.le_of_ble_eq_true rfl) rfl d_E_make_22 (fun u H locs h22 hw => ?_)
      obtain ⟨od2, gr2, th2, se2, ct2, gs2⟩ := u
      have hw : Hd A D (tyD cA) s (wd a cA n md my gs2 tx bo re od2 pl co gr2 th2 se2 ct2) H locs := hw
      refine pd_iconst (k := 2) M d_E_make_25 (by decide) ?_
      refine lv_iload_n hx hb d_E_make_26 rfl (lv_at hl 3 rfl) ?_
      refine pd_imul M d_E_make_27 ?_
      refine lv_istore_n (lv' := [(3, .int (nI (2 * h))), (0, .ref (a 4)), (1, .ref (a 1)), (2, .int (nI my))]) hx hb d_E_make_28 rfl hl (by decide) rfl (fun ls hl => ?_)
      refine lv_goto (tgt := 12) hx hb d_E_make_29 (by decide) ?_
      exact ih _ _ _ _ _ _ _ _ _ _ (by omega) (by omega) h22 hw (lv_sub hl [1, 2, 3, 0] rfl)
set_option maxHeartbeats 4000000 in
set_option maxRecDepth 100000 in
theorem mk2 {p : Program} {l : Launch} {e : Env} {R : Room} {s : State} {m : MethodId} {args : Array Value} {below : List Frame} {meth : Method} {c : Code} {cells slots : Nat} {Q : State → Prop} {A : Nat → Prop} {D : va_G} {a : Nat → Nat} {cA : Nat → ClassId} {n md my gs : Nat} {tx bo re od co gr th se ct : Nat → Nat} (M : Mx b_E_make R_E 4 none p s m meth c args) (hm : my ≤ 128) (hod : Inj my od)
    (K : ∀ (pl : Nat → Nat) (H : Heap) (locs : List Loc) (ls : Array Slot), (∀ i, i < my → pl (od i) = i) → Hd A D (tyD cA) s (wd a cA n md my gs tx bo re od pl co gr th se ct) H locs → lv_has ls 4 [(0, .ref (a 4)), (1, .ref (a 1)), (2, .int (nI my))] → W p l e R s m args below meth c H locs cells slots Q (F0 m 57 ls [])) :
    ∀ (f : Nat) (k : Nat) (pl : Nat → Nat) (H : Heap) (locs : List Loc) (ls : Array Slot), my - k < f → k ≤ my → (∀ i, i < k → pl (od i) = i) → Hd A D (tyD cA) s (wd a cA n md my gs tx bo re od pl co gr th se ct) H locs → lv_has ls 4 [(0, .ref (a 4)), (1, .ref (a 1)), (2, .int (nI my)), (3, .int (nI k))] → W p l e R s m args below meth c H locs cells slots Q (F0 m 34 ls []) := by
  obtain ⟨hx, hb, -, -, -, -, -⟩ := id M
  intro f
  induction f with
  | zero => intro k pl H locs ls hf; exact absurd hf (Nat.not_lt_zero _)
  | succ f ih =>
    intro k pl H locs ls hf hk hI hw hl
    refine lv_iload_n hx hb d_E_make_34 rfl (lv_at hl 3 rfl) ?_
    refine lv_iload_n hx hb d_E_make_35 rfl (lv_at hl 2 rfl) ?_
    refine pd_cge M d_E_make_36 (tgt := 57) (by decide) (by omega) (by omega) (fun h36 => ?_) (fun h36 => ?_)
    · obtain rfl : k = my := by omega
      exact K _ _ _ _ hI hw (lv_sub hl [0, 1, 2] rfl)
    · have ho := hod.1 k h36
      refine lv_aload_n hx hb d_E_make_39 rfl (lv_at hl 0 rfl) ?_
      refine pd_gE M hw 4 1 rfl (by decide) k_f_E_15 rfl d_E_make_40 ?_
      refine lv_aload_n hx hb d_E_make_43 rfl (lv_at hl 0 rfl) ?_
      refine pd_gE M hw 4 0 rfl (by decide) k_f_E_9 rfl d_E_make_44 ?_
      refine lv_iload_n hx hb d_E_make_47 rfl (lv_at hl 3 rfl) ?_
      refine pd_ald M hw 5 3 rfl rfl (by omega) (by decide) d_E_make_48 ?_
      refine lv_iload_n hx hb d_E_make_49 rfl (lv_at hl 3 rfl) ?_
      refine pd_ast M hw 6 4 rfl rfl (by omega) (by decide) d_E_make_50 (fun H locs hw => ?_)
      have hw : Hd A D (tyD cA) s (wd a cA n md my gs tx bo re od (va_up pl (od k) k) co gr th se ct) H locs := hw
      refine pd_iinc (j := 1) (lv' := [(3, .int (nI (k + 1))), (0, .ref (a 4)), (1, .ref (a 1)), (2, .int (nI my))]) M d_E_make_51 hl (k := 3) rfl (by decide) (by decide) rfl (fun ls hl => ?_)
      refine lv_goto (tgt := 34) hx hb d_E_make_54 (by decide) ?_
      exact ih _ _ _ _ _ (by omega) (by omega) (fun i hi => by by_cases e9 : i = k; rw [e9, up_s]; rw [up_n (fun z => e9 (hod.2 i k (by omega) h36 z))]; exact hI i (by omega)) hw (lv_sub hl [1, 2, 3, 0] rfl)
set_option maxHeartbeats 4000000 in
set_option maxRecDepth 100000 in
theorem c_E_make (l : Launch) (D : va_G) (a : Nat → Nat) (cA : Nat → ClassId) (n md my gs : Nat) (tx bo re od pl co gr th se ct : Nat → Nat) (hm : n ≤ 128) (ht : ∀ i, i < n → tx i < 4) : Cv l y_E_make b_E_make 4 3 69 D (tyD cA) [.ref (a 4), .ref (a 1), .int (nI n)] (wd a cA n md my gs tx bo re od pl co gr th se ct) (Nat × (Nat → Nat) × (Nat → Nat) × (Nat → Nat) × (Nat → Nat) × (Nat → Nat) × (Nat → Nat) × (Nat → Nat)) (fun u => SA tx n u.2.1 u.2.2.1 u.2.2.2.1) (fun u => (wd a cA n md n u.1 tx bo re u.2.1 u.2.2.1 u.2.2.2.1 u.2.2.2.2.1 u.2.2.2.2.2.1 u.2.2.2.2.2.2.1 u.2.2.2.2.2.2.2)) := by
  refine Cv_of (by decide) (Nat.le_of_ble_eq_true rfl) ?_
  intro p e s m below meth c A ls M hw hl
  have M : Mx b_E_make R_E 4 none p s m meth c ([.ref (a 4), .ref (a 1), .int (nI n)] : List Value).toArray := M
  have hl : lv_has ls 4 [(0, .ref (a 4)), (1, .ref (a 1)), (2, .int (nI n))] := hl
  obtain ⟨hx, hb, -, -, -, -, -⟩ := id M
  refine lv_aload_n hx hb d_E_make_0 rfl (lv_at hl 0 rfl) ?_
  refine lv_iload_n hx hb d_E_make_1 rfl (lv_at hl 2 rfl) ?_
  refine pd_pE M hw 4 7 rfl (by decide) k_f_E_33 rfl rfl rfl (Nat.le_of_ble_eq_true rfl) d_E_make_2 (fun H locs hw => ?_)
  have hw : Hd A D (tyD cA) s (wd a cA n md n gs tx bo re od pl co gr th se ct) H locs := hw
  refine lv_aload_n hx hb d_E_make_5 rfl (lv_at hl 0 rfl) ?_
  refine lv_aload_n hx hb d_E_make_6 rfl (lv_at hl 1 rfl) ?_
  refine pd_callv (As := [.ref (a 1)]) (rest := []) (wr := []) M hw (c_E_byLetters l D a cA n md n gs tx bo re od pl co gr th se ct hm ht) k_l_E_37 k_i_E_byLetters k_s_E_byLetters k_in_E k_c_E_byLetters k_d_E_byLetters ⟨Nat.le_of_ble_eq_true rfl, Nat.le_of_ble_eq_true rfl⟩ ⟨Nat.le_of_ble_eq_true rfl, Nat.le_of_ble_eq_true rfl⟩ [0, 1, 2, 3, 4, 5, 6, 7, 8, 9, 10, 11] [] [0, 1, 2, 3, 4, 5, 6, 7, 8, 9] rfl rfl rfl rfl (by decide) rfl rfl 4 rfl hl.1 (Nat.le_of_ble_eq_true rfl) rfl d_E_make_7 (fun u H locs h7 hw => ?_)
  obtain ⟨od2, gr2, gs2⟩ := u
  have hw : Hd A D (tyD cA) s (wd a cA n md n gs2 tx bo re od2 pl co gr2 th se ct) H locs := hw
  refine pd_iconst (k := 1) M d_E_make_10 (by decide) ?_
  refine lv_istore_n (lv' := [(3, .int (nI 1)), (0, .ref (a 4)), (1, .ref (a 1)), (2, .int (nI n))]) hx hb d_E_make_11 rfl hl (by decide) rfl (fun ls hl => ?_)
  refine mk1 M hm (fun h gs3 od3 gr3 th3 se3 ct3 H locs ls hG hge hw hl => ?_) (n + 1) 1 _ _ _ _ _ _ _ _ _ (by omega) (by omega) h7 hw (lv_sub hl [1, 2, 3, 0] rfl)
  refine pd_iconst (k := 0) M d_E_make_32 (by decide) ?_
  refine lv_istore_n (lv' := [(3, .int (nI 0)), (0, .ref (a 4)), (1, .ref (a 1)), (2, .int (nI n))]) hx hb d_E_make_33 rfl hl (by decide) rfl (fun ls hl => ?_)
  refine mk2 M hm hG.1 (fun pl2 H locs ls hpl hw hl => ?_) (n + 1) 0 _ _ _ _ (by omega) (by omega) (fun i hi => by omega) hw (lv_sub hl [1, 2, 3, 0] rfl)
  refine lv_aload_n hx hb d_E_make_57 rfl (lv_at hl 0 rfl) ?_
  refine lv_aload_n hx hb d_E_make_58 rfl (lv_at hl 1 rfl) ?_
  refine pd_callv (As := [.ref (a 1)]) (rest := []) (wr := []) M hw (c_E_neighbours l D a cA n md n gs3 tx bo re od3 pl2 co gr3 th3 se3 ct3 hm ht ⟨hG.1, hG.done hge, hpl⟩) k_l_E_48 k_i_E_neighbours k_s_E_neighbours k_in_E k_c_E_neighbours k_d_E_neighbours ⟨Nat.le_of_ble_eq_true rfl, Nat.le_of_ble_eq_true rfl⟩ ⟨Nat.le_of_ble_eq_true rfl, Nat.le_of_ble_eq_true rfl⟩ [0, 1, 2, 3, 4, 5, 6, 7, 8, 9, 10, 11] [] [0, 1, 2, 3, 4, 5, 6, 7, 8, 9] rfl rfl rfl rfl (by decide) rfl rfl 4 rfl hl.1 (Nat.le_of_ble_eq_true rfl) rfl d_E_make_59 (fun co2 H locs h59 hw => ?_)
  have hw : Hd A D (tyD cA) s (wd a cA n md n gs3 tx bo re od3 pl2 co2 gr3 th3 se3 ct3) H locs := hw
  exact pd_vret M (gs3, od3, pl2, co2, gr3, th3, se3, ct3) hw h59 d_E_make_62
end
section
/-! the desk: ready, different, longest, times, rank -/
set_option maxHeartbeats 4000000 in
set_option maxRecDepth 100000 in
theorem c_D_ready (l : Launch) (D : va_G) (a : Nat → Nat) (cA : Nat → ClassId) (n md my gs : Nat) (tx bo re od pl co gr th se ct : Nat → Nat) (hn : n ≤ 128) (ht : ∀ i, i < n → tx i < 4) (hmd : md ≤ 1) (hsa : md = 1 → SA tx n od pl co) : Cv l y_D_ready b_D_ready 1 4 92 D (tyD cA) [.ref (a 0)] (wd a cA n md my gs tx bo re od pl co gr th se ct) (Nat × Nat × (Nat → Nat) × (Nat → Nat) × (Nat → Nat) × (Nat → Nat) × (Nat → Nat) × (Nat → Nat) × (Nat → Nat)) (fun u => SA tx n u.2.2.1 u.2.2.2.1 u.2.2.2.2.1) (fun u => (wd a cA n 1 u.1 u.2.1 tx bo re u.2.2.1 u.2.2.2.1 u.2.2.2.2.1 u.2.2.2.2.2.1 u.2.2.2.2.2.2.1 u.2.2.2.2.2.2.2.1 u.2.2.2.2.2.2.2.2)) := by
  refine Cv_of (by decide) (Nat.le_of_ble_eq_true rfl) ?_
  intro p e s m below meth c A ls M hw hl
  have M : Mx b_D_ready R_D 1 none p s m meth c ([.ref (a 0)] : List Value).toArray := M
  have hl : lv_has ls 1 [(0, .ref (a 0))] := hl
  obtain ⟨hx, hb, -, -, -, -, -⟩ := id M
  refine lv_aload_n hx hb d_D_ready_0 rfl (lv_at hl 0 rfl) ?_
  refine pd_gD M hw 0 5 rfl (by decide) k_f_D_30 rfl d_D_ready_1 ?_
  refine pd_ine M d_D_ready_4 (tgt := 22) (by decide) (by omega) (fun h4 => ?_) (fun h4 => ?_)
  · refine lv_aload_n hx hb d_D_ready_22 rfl (lv_at hl 0 rfl) ?_
    refine pd_iconst (k := 1) M d_D_ready_23 (by decide) ?_
    refine pd_pD M hw 0 5 rfl (by decide) k_f_D_30 rfl rfl rfl (Nat.le_of_ble_eq_true rfl) d_D_ready_24 (fun H locs hw => ?_)
    have hw : Hd A D (tyD cA) s (wd a cA n 1 my gs tx bo re od pl co gr th se ct) H locs := hw
    exact pd_vret M (my, gs, od, pl, co, gr, th, se, ct) hw (hsa (by omega)) d_D_ready_27
  · refine lv_aload_n hx hb d_D_ready_7 rfl (lv_at hl 0 rfl) ?_
    refine pd_gD M hw 0 3 rfl (by decide) k_f_D_22 rfl d_D_ready_8 ?_
    refine lv_aload_n hx hb d_D_ready_11 rfl (lv_at hl 0 rfl) ?_
    refine pd_gD M hw 0 0 rfl (by decide) k_f_D_9 rfl d_D_ready_12 ?_
    refine lv_aload_n hx hb d_D_ready_15 rfl (lv_at hl 0 rfl) ?_
    refine pd_gD M hw 0 4 rfl (by decide) k_f_D_26 rfl d_D_ready_16 ?_
    refine pd_callv (As := [.ref (a 1), .int (nI n)]) (rest := []) (wr := []) M hw (c_E_make l D a cA n md my gs tx bo re od pl co gr th se ct hn ht) k_l_D_38 k_i_E_make k_s_E_make k_in_E k_c_E_make k_d_E_make ⟨Nat.le_of_ble_eq_true rfl, Nat.le_of_ble_eq_true rfl⟩ ⟨Nat.le_of_ble_eq_true rfl, Nat.le_of_ble_eq_true rfl⟩ [0, 1, 2, 3, 4, 5, 6, 7, 8, 9, 10, 11] [] [0, 1, 2, 3, 4, 5, 6, 7, 8, 9] rfl rfl rfl rfl (by decide) rfl rfl 4 rfl hl.1 (Nat.le_of_ble_eq_true rfl) rfl d_D_ready_19 (fun u H locs h19 hw => ?_)
    obtain ⟨gs2, od2, pl2, co2, gr2, th2, se2, ct2⟩ := u
    have hw : Hd A D (tyD cA) s (wd a cA n md n gs2 tx bo re od2 pl2 co2 gr2 th2 se2 ct2) H locs := hw
    refine lv_aload_n hx hb d_D_ready_22 rfl (lv_at hl 0 rfl) ?_
    refine pd_iconst (k := 1) M d_D_ready_23 (by decide) ?_
    refine pd_pD M hw 0 5 rfl (by decide) k_f_D_30 rfl rfl rfl (Nat.le_of_ble_eq_true rfl) d_D_ready_24 (fun H locs hw => ?_)
    have hw : Hd A D (tyD cA) s (wd a cA n 1 n gs2 tx bo re od2 pl2 co2 gr2 th2 se2 ct2) H locs := hw
    exact pd_vret M (n, gs2, od2, pl2, co2, gr2, th2, se2, ct2) hw h19 d_D_ready_27
set_option maxHeartbeats 4000000 in
set_option maxRecDepth 100000 in
theorem ddi {p : Program} {l : Launch} {e : Env} {R : Room} {s : State} {m : MethodId} {args : Array Value} {below : List Frame} {meth : Method} {c : Code} {cells slots : Nat} {Q : State → Prop} {A : Nat → Prop} {D : va_G} {a : Nat → Nat} {cA : Nat → ClassId} {n md my gs : Nat} {tx bo re od pl co gr th se ct : Nat → Nat} (M : Mx b_D_different R_D 3 (some .int) p s m meth c args) (hn : n ≤ 128) (hS : SA tx n od pl co)
    (K : ∀ (H : Heap) (locs : List Loc) (ls : Array Slot), Hd A D (tyD cA) s (wd a cA n md my gs tx bo re od pl co gr th se ct) H locs → lv_has ls 3 [(1, .int (nI (dif tx n)))] → W p l e R s m args below meth c H locs cells slots Q (F0 m 49 ls [])) :
    ∀ (f : Nat) (k : Nat) (H : Heap) (locs : List Loc) (ls : Array Slot), n - k < f → k ≤ n → Hd A D (tyD cA) s (wd a cA n md my gs tx bo re od pl co gr th se ct) H locs → lv_has ls 3 [(0, .ref (a 0)), (1, .int (nI (smm (fun k => n - od k - co k) k))), (2, .int (nI k))] → W p l e R s m args below meth c H locs cells slots Q (F0 m 8 ls []) := by
  obtain ⟨hx, hb, -, -, -, -, -⟩ := id M
  intro f
  induction f with
  | zero => intro k H locs ls hf; exact absurd hf (Nat.not_lt_zero _)
  | succ f ih =>
    intro k H locs ls hf hk hw hl
    refine lv_iload_n hx hb d_D_different_8 rfl (lv_at hl 2 rfl) ?_
    refine lv_aload_n hx hb d_D_different_9 rfl (lv_at hl 0 rfl) ?_
    refine pd_gD M hw 0 4 rfl (by decide) k_f_D_26 rfl d_D_different_10 ?_
    refine pd_cge M d_D_different_13 (tgt := 49) (by decide) (by omega) (by omega) (fun h13 => ?_) (fun h13 => ?_)
    · obtain rfl : k = n := by omega
      rw [hS.dif] at hl
      exact K _ _ _ hw (lv_sub hl [1] rfl)
    · have hc1 := hS.co_le h13
      refine lv_iload_n hx hb d_D_different_16 rfl (lv_at hl 1 rfl) ?_
      refine lv_aload_n hx hb d_D_different_17 rfl (lv_at hl 0 rfl) ?_
      refine pd_gD M hw 0 4 rfl (by decide) k_f_D_26 rfl d_D_different_18 ?_
      refine lv_aload_n hx hb d_D_different_21 rfl (lv_at hl 0 rfl) ?_
      refine pd_gD M hw 0 3 rfl (by decide) k_f_D_22 rfl d_D_different_22 ?_
      refine pd_gE M hw 4 0 rfl (by decide) k_f_D_45 rfl d_D_different_25 ?_
      refine lv_iload_n hx hb d_D_different_28 rfl (lv_at hl 2 rfl) ?_
      refine pd_ald M hw 5 3 rfl rfl (by omega) (by decide) d_D_different_29 ?_
      refine pd_isub M d_D_different_30 (by omega) ?_
      refine lv_aload_n hx hb d_D_different_31 rfl (lv_at hl 0 rfl) ?_
      refine pd_gD M hw 0 3 rfl (by decide) k_f_D_22 rfl d_D_different_32 ?_
      refine pd_gE M hw 4 2 rfl (by decide) k_f_D_48 rfl d_D_different_35 ?_
      refine lv_iload_n hx hb d_D_different_38 rfl (lv_at hl 2 rfl) ?_
      refine pd_ald M hw 7 5 rfl rfl (by omega) (by decide) d_D_different_39 ?_
      refine pd_isub M d_D_different_40 (by omega) ?_
      refine pd_iadd M d_D_different_41 ?_
      refine pd_top (b := smm (fun k => n - od k - co k) (k + 1)) (rfl) ?_
      refine lv_istore_n (lv' := [(1, .int (nI (smm (fun k => n - od k - co k) (k + 1)))), (0, .ref (a 0)), (2, .int (nI k))]) hx hb d_D_different_42 rfl hl (by decide) rfl (fun ls hl => ?_)
      refine pd_iinc (j := 1) (lv' := [(2, .int (nI (k + 1))), (1, .int (nI (smm (fun k => n - od k - co k) (k + 1)))), (0, .ref (a 0))]) M d_D_different_43 hl (k := 2) rfl (by decide) (by decide) rfl (fun ls hl => ?_)
      refine lv_goto (tgt := 8) hx hb d_D_different_46 (by decide) ?_
      exact ih _ _ _ _ (by omega) (by omega) hw (lv_sub hl [2, 1, 0] rfl)
set_option maxHeartbeats 4000000 in
set_option maxRecDepth 100000 in
theorem c_D_different (l : Launch) (D : va_G) (a : Nat → Nat) (cA : Nat → ClassId) (n md my gs : Nat) (tx bo re od pl co gr th se ct : Nat → Nat) (hn : n ≤ 128) (ht : ∀ i, i < n → tx i < 4) (hmd : md ≤ 1) (hsa : md = 1 → SA tx n od pl co) : Ci l y_D_different b_D_different 3 (some .int) 5 112 D (tyD cA) [.ref (a 0)] (wd a cA n md my gs tx bo re od pl co gr th se ct) (Nat × Nat × (Nat → Nat) × (Nat → Nat) × (Nat → Nat) × (Nat → Nat) × (Nat → Nat) × (Nat → Nat) × (Nat → Nat)) (fun r u => r = nI (dif tx n) ∧ SA tx n u.2.2.1 u.2.2.2.1 u.2.2.2.2.1) (fun u => (wd a cA n 1 u.1 u.2.1 tx bo re u.2.2.1 u.2.2.2.1 u.2.2.2.2.1 u.2.2.2.2.2.1 u.2.2.2.2.2.2.1 u.2.2.2.2.2.2.2.1 u.2.2.2.2.2.2.2.2)) := by
  refine Ci_of (by decide) (Nat.le_of_ble_eq_true rfl) ?_
  intro p e s m below meth c A ls M hw hl
  have M : Mx b_D_different R_D 3 (some .int) p s m meth c ([.ref (a 0)] : List Value).toArray := M
  have hl : lv_has ls 3 [(0, .ref (a 0))] := hl
  obtain ⟨hx, hb, -, -, -, -, -⟩ := id M
  refine lv_aload_n hx hb d_D_different_0 rfl (lv_at hl 0 rfl) ?_
  refine pd_callv (As := []) (rest := []) (wr := []) M hw (c_D_ready l D a cA n md my gs tx bo re od pl co gr th se ct hn ht hmd hsa) k_l_D_42 k_i_D_ready k_s_D_ready k_in_D k_c_D_ready k_d_D_ready ⟨Nat.le_of_ble_eq_true rfl, Nat.le_of_ble_eq_true rfl⟩ ⟨Nat.le_of_ble_eq_true rfl, Nat.le_of_ble_eq_true rfl⟩ [0, 1, 2, 3, 4, 5, 6, 7, 8, 9, 10, 11] [] [0, 1, 2, 3, 4, 5, 6, 7, 8, 9] rfl rfl rfl rfl (by decide) rfl rfl 0 rfl hl.1 (Nat.le_of_ble_eq_true rfl) rfl d_D_different_1 (fun u H locs hr1 hw => ?_)
  obtain ⟨my2, gs2, od2, pl2, co2, gr2, th2, se2, ct2⟩ := u
  have hS : SA tx n od2 pl2 co2 := hr1
  have hw : Hd A D (tyD cA) s (wd a cA n 1 my2 gs2 tx bo re od2 pl2 co2 gr2 th2 se2 ct2) H locs := hw
  refine pd_iconst (k := 0) M d_D_different_4 (by decide) ?_
  refine lv_istore_n (lv' := [(1, .int (nI 0)), (0, .ref (a 0))]) hx hb d_D_different_5 rfl hl (by decide) rfl (fun ls hl => ?_)
  refine pd_iconst (k := 0) M d_D_different_6 (by decide) ?_
  refine lv_istore_n (lv' := [(2, .int (nI 0)), (1, .int (nI 0)), (0, .ref (a 0))]) hx hb d_D_different_7 rfl hl (by decide) rfl (fun ls hl => ?_)
  refine ddi M hn hS (fun H locs ls hw hl => ?_) (n + 1) 0 _ _ _ (by omega) (by omega) hw (lv_sub hl [2, 1, 0] rfl)
  refine lv_iload_n hx hb d_D_different_49 rfl (lv_at hl 0 rfl) ?_
  exact pd_ret M (my2, gs2, od2, pl2, co2, gr2, th2, se2, ct2) hw rfl ⟨rfl, hS⟩ d_D_different_50
theorem mc_le {co : Nat → Nat} {n : Nat} (h : ∀ k, k < n → co k ≤ n) : ∀ k, k ≤ n → mc co k ≤ n := by
  intro k
  induction k with
  | zero => intro _; exact Nat.zero_le _
  | succ k ih =>
    intro hk
    have h1 := ih (by omega)
    have h2 := h k (by omega)
    show max (mc co k) (co k) ≤ n
    omega
set_option maxHeartbeats 4000000 in
set_option maxRecDepth 100000 in
theorem dlo {p : Program} {l : Launch} {e : Env} {s : State} {m : MethodId} {args : Array Value} {below : List Frame} {meth : Method} {c : Code} {Q : State → Prop} {A : Nat → Prop} {D : va_G} {a : Nat → Nat} {cA : Nat → ClassId} {n md my gs : Nat} {tx bo re od pl co gr th se ct : Nat → Nat} (M : Mx b_D_longest R_D 3 (some .int) p s m meth c args) (hn : n ≤ 128) (hS : SA tx n od pl co)
    (K : ∀ (H : Heap) (locs : List Loc) (ls : Array Slot), Hd A D (tyD cA) s (wd a cA n md my gs tx bo re od pl co gr th se ct) H locs → lv_has ls 3 [(1, .int (nI (ml tx n n)))] → W p l e { frames := 5, cells := 0, slots := 0, locals := 112 } s m args below meth c H locs 0 0 Q (F0 m 36 ls [])) :
    ∀ (f : Nat) (k : Nat) (H : Heap) (locs : List Loc) (ls : Array Slot), n - k < f → k ≤ n → Hd A D (tyD cA) s (wd a cA n md my gs tx bo re od pl co gr th se ct) H locs → lv_has ls 3 [(0, .ref (a 0)), (1, .int (nI (mc co k))), (2, .int (nI k))] → W p l e { frames := 5, cells := 0, slots := 0, locals := 112 } s m args below meth c H locs 0 0 Q (F0 m 8 ls []) := by
  obtain ⟨hx, hb, -, -, -, -, -⟩ := id M
  intro f
  induction f with
  | zero => intro k H locs ls hf; exact absurd hf (Nat.not_lt_zero _)
  | succ f ih =>
    intro k H locs ls hf hk hw hl
    refine lv_iload_n hx hb d_D_longest_8 rfl (lv_at hl 2 rfl) ?_
    refine lv_aload_n hx hb d_D_longest_9 rfl (lv_at hl 0 rfl) ?_
    refine pd_gD M hw 0 4 rfl (by decide) k_f_D_26 rfl d_D_longest_10 ?_
    refine pd_cge M d_D_longest_13 (tgt := 36) (by decide) (by omega) (by omega) (fun h13 => ?_) (fun h13 => ?_)
    · obtain rfl : k = n := by omega
      rw [hS.lg] at hl
      exact K _ _ _ hw (lv_sub hl [1] rfl)
    · have hc1 := hS.co_le h13
      have hc2 := mc_le (co := co) (n := n) (fun j hj => by have := hS.co_le hj; omega) k hk
      refine lv_iload_n hx hb d_D_longest_16 rfl (lv_at hl 1 rfl) ?_
      refine lv_aload_n hx hb d_D_longest_17 rfl (lv_at hl 0 rfl) ?_
      refine pd_gD M hw 0 3 rfl (by decide) k_f_D_22 rfl d_D_longest_18 ?_
      refine pd_gE M hw 4 2 rfl (by decide) k_f_D_48 rfl d_D_longest_21 ?_
      refine lv_iload_n hx hb d_D_longest_24 rfl (lv_at hl 2 rfl) ?_
      refine pd_ald M hw 7 5 rfl rfl (by omega) (by decide) d_D_longest_25 ?_
      refine pd_max M hl.1 k_l_D_51 (Nat.le_of_ble_eq_true rfl) (Nat.le_of_ble_eq_true rfl) (Nat.le_of_ble_eq_true rfl) (Nat.le_of_ble_eq_true rfl) (by omega) (by omega) d_D_longest_26 ?_
      refine pd_top (b := mc co (k + 1)) (rfl) ?_
      refine lv_istore_n (lv' := [(1, .int (nI (mc co (k + 1)))), (0, .ref (a 0)), (2, .int (nI k))]) hx hb d_D_longest_29 rfl hl (by decide) rfl (fun ls hl => ?_)
      refine pd_iinc (j := 1) (lv' := [(2, .int (nI (k + 1))), (1, .int (nI (mc co (k + 1)))), (0, .ref (a 0))]) M d_D_longest_30 hl (k := 2) rfl (by decide) (by decide) rfl (fun ls hl => ?_)
      refine lv_goto (tgt := 8) hx hb d_D_longest_33 (by decide) ?_
      exact ih _ _ _ _ (by omega) (by omega) hw (lv_sub hl [2, 1, 0] rfl)
set_option maxHeartbeats 4000000 in
set_option maxRecDepth 100000 in
theorem c_D_longest (l : Launch) (D : va_G) (a : Nat → Nat) (cA : Nat → ClassId) (n md my gs : Nat) (tx bo re od pl co gr th se ct : Nat → Nat) (hn : n ≤ 128) (ht : ∀ i, i < n → tx i < 4) (hmd : md ≤ 1) (hsa : md = 1 → SA tx n od pl co) : Ci l y_D_longest b_D_longest 3 (some .int) 5 112 D (tyD cA) [.ref (a 0)] (wd a cA n md my gs tx bo re od pl co gr th se ct) (Nat × Nat × (Nat → Nat) × (Nat → Nat) × (Nat → Nat) × (Nat → Nat) × (Nat → Nat) × (Nat → Nat) × (Nat → Nat)) (fun r u => r = nI (ml tx n n) ∧ SA tx n u.2.2.1 u.2.2.2.1 u.2.2.2.2.1) (fun u => (wd a cA n 1 u.1 u.2.1 tx bo re u.2.2.1 u.2.2.2.1 u.2.2.2.2.1 u.2.2.2.2.2.1 u.2.2.2.2.2.2.1 u.2.2.2.2.2.2.2.1 u.2.2.2.2.2.2.2.2)) := by
  refine Ci_of (by decide) (Nat.le_of_ble_eq_true rfl) ?_
  intro p e s m below meth c A ls M hw hl
  have M : Mx b_D_longest R_D 3 (some .int) p s m meth c ([.ref (a 0)] : List Value).toArray := M
  have hl : lv_has ls 3 [(0, .ref (a 0))] := hl
  obtain ⟨hx, hb, -, -, -, -, -⟩ := id M
  refine lv_aload_n hx hb d_D_longest_0 rfl (lv_at hl 0 rfl) ?_
  refine pd_callv (As := []) (rest := []) (wr := []) M hw (c_D_ready l D a cA n md my gs tx bo re od pl co gr th se ct hn ht hmd hsa) k_l_D_42 k_i_D_ready k_s_D_ready k_in_D k_c_D_ready k_d_D_ready ⟨Nat.le_of_ble_eq_true rfl, Nat.le_of_ble_eq_true rfl⟩ ⟨Nat.le_of_ble_eq_true rfl, Nat.le_of_ble_eq_true rfl⟩ [0, 1, 2, 3, 4, 5, 6, 7, 8, 9, 10, 11] [] [0, 1, 2, 3, 4, 5, 6, 7, 8, 9] rfl rfl rfl rfl (by decide) rfl rfl 0 rfl hl.1 (Nat.le_of_ble_eq_true rfl) rfl d_D_longest_1 (fun u H locs hr1 hw => ?_)
  obtain ⟨my2, gs2, od2, pl2, co2, gr2, th2, se2, ct2⟩ := u
  have hS : SA tx n od2 pl2 co2 := hr1
  have hw : Hd A D (tyD cA) s (wd a cA n 1 my2 gs2 tx bo re od2 pl2 co2 gr2 th2 se2 ct2) H locs := hw
  refine pd_iconst (k := 0) M d_D_longest_4 (by decide) ?_
  refine lv_istore_n (lv' := [(1, .int (nI 0)), (0, .ref (a 0))]) hx hb d_D_longest_5 rfl hl (by decide) rfl (fun ls hl => ?_)
  refine pd_iconst (k := 1) M d_D_longest_6 (by decide) ?_
  refine lv_istore_n (lv' := [(2, .int (nI 1)), (1, .int (nI 0)), (0, .ref (a 0))]) hx hb d_D_longest_7 rfl hl (by decide) rfl (fun ls hl => ?_)
  rcases Nat.eq_zero_or_pos n with h0 | h0
  · refine lv_iload_n hx hb d_D_longest_8 rfl (lv_at hl 0 rfl) ?_
    refine lv_aload_n hx hb d_D_longest_9 rfl (lv_at hl 2 rfl) ?_
    refine pd_gD M hw 0 4 rfl (by decide) k_f_D_26 rfl d_D_longest_10 ?_
    refine pd_cge M d_D_longest_13 (tgt := 36) (by decide) (by omega) (by omega) (fun h13 => ?_) (fun h13 => ?_)
    · refine lv_iload_n hx hb d_D_longest_36 rfl (lv_at hl 1 rfl) ?_
      exact pd_ret M (my2, gs2, od2, pl2, co2, gr2, th2, se2, ct2) hw rfl ⟨by rw [h0]; rfl, hS⟩ d_D_longest_37
    · omega
  · have e0 : mc co2 1 = 0 := by show max 0 (co2 0) = 0; rw [hS.2.2.2.2 h0]; rfl
    have hl : lv_has ls 3 [(2, .int (nI 1)), (1, .int (nI (mc co2 1))), (0, .ref (a 0))] := by rw [e0]; exact hl
    refine dlo M hn hS (fun H locs ls hw hl => ?_) (n + 1) 1 _ _ _ (by omega) (by omega) hw (lv_sub hl [2, 1, 0] rfl)
    refine lv_iload_n hx hb d_D_longest_36 rfl (lv_at hl 0 rfl) ?_
    exact pd_ret M (my2, gs2, od2, pl2, co2, gr2, th2, se2, ct2) hw rfl ⟨rfl, hS⟩ d_D_longest_37
set_option maxHeartbeats 4000000 in
set_option maxRecDepth 100000 in
theorem dt1 {p : Program} {l : Launch} {e : Env} {R : Room} {s : State} {m : MethodId} {args : Array Value} {below : List Frame} {meth : Method} {c : Code} {cells slots : Nat} {Q : State → Prop} {A : Nat → Prop} {D : va_G} {a : Nat → Nat} {cA : Nat → ClassId} {n md my gs : Nat} {tx bo re od pl co gr th se ct : Nat → Nat} (M : Mx b_D_times R_D 7 (some .int) p s m meth c args) (hn : n ≤ 128) (hS : SA tx n od pl co) {m0 P hi : Nat} (hP : P < n) (hm : m0 ≤ n)
    (K : ∀ (lo : Nat) (H : Heap) (locs : List Loc) (ls : Array Slot), lo ≤ P → (∀ q, lo < q → q ≤ P → m0 ≤ co q) → (lo = 0 ∨ co lo < m0) → Hd A D (tyD cA) s (wd a cA n md my gs tx bo re od pl co gr th se ct) H locs → lv_has ls 7 [(0, .ref (a 0)), (4, .int (nI m0)), (5, .int (nI lo)), (6, .int (nI hi))] → W p l e R s m args below meth c H locs cells slots Q (F0 m 77 ls [])) :
    ∀ (f : Nat) (lo : Nat) (H : Heap) (locs : List Loc) (ls : Array Slot), lo < f → lo ≤ P → (∀ q, lo < q → q ≤ P → m0 ≤ co q) → Hd A D (tyD cA) s (wd a cA n md my gs tx bo re od pl co gr th se ct) H locs → lv_has ls 7 [(0, .ref (a 0)), (4, .int (nI m0)), (5, .int (nI lo)), (6, .int (nI hi))] → W p l e R s m args below meth c H locs cells slots Q (F0 m 51 ls []) := by
  obtain ⟨hx, hb, -, -, -, -, -⟩ := id M
  intro f
  induction f with
  | zero => intro lo H locs ls hf; exact absurd hf (Nat.not_lt_zero _)
  | succ f ih =>
    intro lo H locs ls hf hlo hq hw hl
    refine lv_iload hx hb d_D_times_51 (lv_at hl 2 rfl) ?_
    refine pd_ile M d_D_times_53 (tgt := 77) (by decide) (by omega) (fun h53 => ?_) (fun h53 => ?_)
    · exact K _ _ _ _ hlo hq (Or.inl h53) hw (lv_sub hl [0, 1, 2, 3] rfl)
    · have hc1 := hS.co_le (show lo < n by omega)
      refine lv_aload_n hx hb d_D_times_56 rfl (lv_at hl 0 rfl) ?_
      refine pd_gD M hw 0 3 rfl (by decide) k_f_D_22 rfl d_D_times_57 ?_
      refine pd_gE M hw 4 2 rfl (by decide) k_f_D_48 rfl d_D_times_60 ?_
      refine lv_iload hx hb d_D_times_63 (lv_at hl 2 rfl) ?_
      refine pd_ald M hw 7 5 rfl rfl (by omega) (by decide) d_D_times_65 ?_
      refine lv_iload hx hb d_D_times_66 (lv_at hl 1 rfl) ?_
      refine pd_clt M d_D_times_68 (tgt := 77) (by decide) (by omega) (by omega) (fun h68 => ?_) (fun h68 => ?_)
      · exact K _ _ _ _ hlo hq (Or.inr h68) hw (lv_sub hl [0, 1, 2, 3] rfl)
      · refine pd_idec (lv' := [(5, .int (nI (lo - 1))), (0, .ref (a 0)), (4, .int (nI m0)), (6, .int (nI hi))]) M d_D_times_71 hl (k := 2) rfl (by decide) (by omega) (by decide) rfl (fun ls hl => ?_)
        refine lv_goto (tgt := 51) hx hb d_D_times_74 (by decide) ?_
        exact ih _ _ _ _ (by omega) (by omega) (fun q a b => by by_cases e9 : q = lo; rw [e9]; exact h68; exact hq q (by omega) b) hw (lv_sub hl [1, 2, 0, 3] rfl)
set_option maxHeartbeats 4000000 in
set_option maxRecDepth 100000 in
theorem dt2 {p : Program} {l : Launch} {e : Env} {R : Room} {s : State} {m : MethodId} {args : Array Value} {below : List Frame} {meth : Method} {c : Code} {cells slots : Nat} {Q : State → Prop} {A : Nat → Prop} {D : va_G} {a : Nat → Nat} {cA : Nat → ClassId} {n md my gs : Nat} {tx bo re od pl co gr th se ct : Nat → Nat} (M : Mx b_D_times R_D 7 (some .int) p s m meth c args) (hn : n ≤ 128) (hS : SA tx n od pl co) {m0 P lo : Nat} (hm : m0 ≤ n)
    (K : ∀ (hi : Nat) (H : Heap) (locs : List Loc) (ls : Array Slot), P ≤ hi → hi < n → (∀ q, P < q → q ≤ hi → m0 ≤ co q) → (n ≤ hi + 1 ∨ co (hi + 1) < m0) → Hd A D (tyD cA) s (wd a cA n md my gs tx bo re od pl co gr th se ct) H locs → lv_has ls 7 [(5, .int (nI lo)), (6, .int (nI hi))] → W p l e R s m args below meth c H locs cells slots Q (F0 m 111 ls [])) :
    ∀ (f : Nat) (hi : Nat) (H : Heap) (locs : List Loc) (ls : Array Slot), n - hi < f → P ≤ hi → hi < n → (∀ q, P < q → q ≤ hi → m0 ≤ co q) → Hd A D (tyD cA) s (wd a cA n md my gs tx bo re od pl co gr th se ct) H locs → lv_has ls 7 [(0, .ref (a 0)), (4, .int (nI m0)), (5, .int (nI lo)), (6, .int (nI hi))] → W p l e R s m args below meth c H locs cells slots Q (F0 m 77 ls []) := by
  obtain ⟨hx, hb, -, -, -, -, -⟩ := id M
  intro f
  induction f with
  | zero => intro hi H locs ls hf; exact absurd hf (Nat.not_lt_zero _)
  | succ f ih =>
    intro hi H locs ls hf hP hhi hq hw hl
    refine lv_iload hx hb d_D_times_77 (lv_at hl 3 rfl) ?_
    refine pd_iconst (k := 1) M d_D_times_79 (by decide) ?_
    refine pd_iadd M d_D_times_80 ?_
    refine lv_aload_n hx hb d_D_times_81 rfl (lv_at hl 0 rfl) ?_
    refine pd_gD M hw 0 4 rfl (by decide) k_f_D_26 rfl d_D_times_82 ?_
    refine pd_cge M d_D_times_85 (tgt := 111) (by decide) (by omega) (by omega) (fun h85 => ?_) (fun h85 => ?_)
    · exact K _ _ _ _ hP hhi hq (Or.inl h85) hw (lv_sub hl [2, 3] rfl)
    · have hc1 := hS.co_le h85
      refine lv_aload_n hx hb d_D_times_88 rfl (lv_at hl 0 rfl) ?_
      refine pd_gD M hw 0 3 rfl (by decide) k_f_D_22 rfl d_D_times_89 ?_
      refine pd_gE M hw 4 2 rfl (by decide) k_f_D_48 rfl d_D_times_92 ?_
      refine lv_iload hx hb d_D_times_95 (lv_at hl 3 rfl) ?_
      refine pd_iconst (k := 1) M d_D_times_97 (by decide) ?_
      refine pd_iadd M d_D_times_98 ?_
      refine pd_ald M hw 7 5 rfl rfl (by omega) (by decide) d_D_times_99 ?_
      refine lv_iload hx hb d_D_times_100 (lv_at hl 1 rfl) ?_
      refine pd_clt M d_D_times_102 (tgt := 111) (by decide) (by omega) (by omega) (fun h102 => ?_) (fun h102 => ?_)
      · exact K _ _ _ _ hP hhi hq (Or.inr h102) hw (lv_sub hl [2, 3] rfl)
      · refine pd_iinc (j := 1) (lv' := [(6, .int (nI (hi + 1))), (0, .ref (a 0)), (4, .int (nI m0)), (5, .int (nI lo))]) M d_D_times_105 hl (k := 3) rfl (by decide) (by decide) rfl (fun ls hl => ?_)
        refine lv_goto (tgt := 77) hx hb d_D_times_108 (by decide) ?_
        exact ih _ _ _ _ (by omega) (by omega) (by omega) (fun q a b => by by_cases e9 : q = hi + 1; rw [e9]; exact h102; exact hq q a (by omega)) hw (lv_sub hl [1, 2, 3, 0] rfl)
set_option maxHeartbeats 4000000 in
set_option maxRecDepth 100000 in
theorem c_D_times (l : Launch) (D : va_G) (a : Nat → Nat) (cA : Nat → ClassId) (n md my gs : Nat) (tx bo re od pl co gr th se ct : Nat → Nat) (x1 x2 : Int32) (h0 : 0 < n) (hn : n ≤ 128) (ht : ∀ i, i < n → tx i < 4) (hmd : md ≤ 1) (hsa : md = 1 → SA tx n od pl co) : Ci l y_D_times b_D_times 7 (some .int) 5 112 D (tyD cA) [.ref (a 0), .int x1, .int x2] (wd a cA n md my gs tx bo re od pl co gr th se ct) (Nat × Nat × (Nat → Nat) × (Nat → Nat) × (Nat → Nat) × (Nat → Nat) × (Nat → Nat) × (Nat → Nat) × (Nat → Nat)) (fun r u => r = nI (tms tx n (b31 x1 % n) (1 + b31 x2 % (n - b31 x1 % n))) ∧ SA tx n u.2.2.1 u.2.2.2.1 u.2.2.2.2.1) (fun u => (wd a cA n 1 u.1 u.2.1 tx bo re u.2.2.1 u.2.2.2.1 u.2.2.2.2.1 u.2.2.2.2.2.1 u.2.2.2.2.2.2.1 u.2.2.2.2.2.2.2.1 u.2.2.2.2.2.2.2.2)) := by
  refine Ci_of (by decide) (Nat.le_of_ble_eq_true rfl) ?_
  intro p e s m below meth c A ls M hw hl
  have M : Mx b_D_times R_D 7 (some .int) p s m meth c ([.ref (a 0), .int x1, .int x2] : List Value).toArray := M
  have hl : lv_has ls 7 [(0, .ref (a 0)), (1, .int x1), (2, .int x2)] := hl
  obtain ⟨hx, hb, -, -, -, -, -⟩ := id M
  refine lv_aload_n hx hb d_D_times_0 rfl (lv_at hl 0 rfl) ?_
  refine pd_gD M hw 0 4 rfl (by decide) k_f_D_26 rfl d_D_times_1 ?_
  refine pd_ine M d_D_times_4 (tgt := 9) (by decide) (by omega) (fun h4 => ?_) (fun h4 => ?_)
  · refine lv_aload_n hx hb d_D_times_9 rfl (lv_at hl 0 rfl) ?_
    refine pd_callv (As := []) (rest := []) (wr := []) M hw (c_D_ready l D a cA n md my gs tx bo re od pl co gr th se ct hn ht hmd hsa) k_l_D_42 k_i_D_ready k_s_D_ready k_in_D k_c_D_ready k_d_D_ready ⟨Nat.le_of_ble_eq_true rfl, Nat.le_of_ble_eq_true rfl⟩ ⟨Nat.le_of_ble_eq_true rfl, Nat.le_of_ble_eq_true rfl⟩ [0, 1, 2, 3, 4, 5, 6, 7, 8, 9, 10, 11] [] [0, 1, 2, 3, 4, 5, 6, 7, 8, 9] rfl rfl rfl rfl (by decide) rfl rfl 0 rfl hl.1 (Nat.le_of_ble_eq_true rfl) rfl d_D_times_10 (fun u H locs hr1 hw => ?_)
    obtain ⟨my2, gs2, od2, pl2, co2, gr2, th2, se2, ct2⟩ := u
    have hS : SA tx n od2 pl2 co2 := hr1
    have hw : Hd A D (tyD cA) s (wd a cA n 1 my2 gs2 tx bo re od2 pl2 co2 gr2 th2 se2 ct2) H locs := hw
    refine lv_iload_n hx hb d_D_times_13 rfl (lv_at hl 1 rfl) ?_
    refine lv_aload_n hx hb d_D_times_14 rfl (lv_at hl 0 rfl) ?_
    refine pd_gD M hw 0 4 rfl (by decide) k_f_D_26 rfl d_D_times_15 ?_
    have hb1 := b31_lt x1
    have hb2 := b31_lt x2
    have hb3 := Nat.mod_lt (b31 x1) h0
    refine pd_calls (As := [.int x1, .int (nI n)]) (rest := []) M hw (c_D_below l D x1 n (by omega) (by omega)) k_l_D_60 k_st_D_below k_in_D k_c_D_below k_d_D_below ⟨Nat.le_of_ble_eq_true rfl, Nat.le_of_ble_eq_true rfl⟩ ⟨Nat.le_of_ble_eq_true rfl, Nat.le_of_ble_eq_true rfl⟩ hl.1 (Nat.le_of_ble_eq_true rfl) rfl d_D_times_18 (fun r u H locs h18 hw => ?_)
    obtain rfl := h18
    refine lv_istore_n (lv' := [(3, .int (nI (b31 x1 % n))), (0, .ref (a 0)), (1, .int x1), (2, .int x2)]) hx hb d_D_times_21 rfl hl (by decide) rfl (fun ls hl => ?_)
    refine pd_iconst (k := 1) M d_D_times_22 (by decide) ?_
    refine lv_iload_n hx hb d_D_times_23 rfl (lv_at hl 3 rfl) ?_
    refine lv_aload_n hx hb d_D_times_24 rfl (lv_at hl 1 rfl) ?_
    refine pd_gD M hw 0 4 rfl (by decide) k_f_D_26 rfl d_D_times_25 ?_
    refine lv_iload_n hx hb d_D_times_28 rfl (lv_at hl 0 rfl) ?_
    refine pd_isub M d_D_times_29 (by omega) ?_
    have hb4 := Nat.mod_lt (b31 x2) (show 0 < n - b31 x1 % n by omega)
    refine pd_calls (As := [.int x2, .int (nI (n - (b31 x1 % n)))]) (rest := [.int (nI 1)]) M hw (c_D_below l D x2 (n - (b31 x1 % n)) (by omega) (by omega)) k_l_D_60 k_st_D_below k_in_D k_c_D_below k_d_D_below ⟨Nat.le_of_ble_eq_true rfl, Nat.le_of_ble_eq_true rfl⟩ ⟨Nat.le_of_ble_eq_true rfl, Nat.le_of_ble_eq_true rfl⟩ hl.1 (Nat.le_of_ble_eq_true rfl) rfl d_D_times_30 (fun r u H locs h30 hw => ?_)
    obtain rfl := h30
    refine pd_iadd M d_D_times_33 ?_
    refine lv_istore (lv' := [(4, .int (nI (1 + (b31 x2 % (n - (b31 x1 % n)))))), (3, .int (nI (b31 x1 % n))), (0, .ref (a 0)), (1, .int x1), (2, .int x2)]) hx hb d_D_times_34 hl (by decide) rfl (fun ls hl => ?_)
    refine lv_aload_n hx hb d_D_times_36 rfl (lv_at hl 2 rfl) ?_
    refine pd_gD M hw 0 3 rfl (by decide) k_f_D_22 rfl d_D_times_37 ?_
    refine pd_gE M hw 4 1 rfl (by decide) k_f_D_63 rfl d_D_times_40 ?_
    refine lv_iload_n hx hb d_D_times_43 rfl (lv_at hl 1 rfl) ?_
    refine pd_ald M hw 6 4 rfl rfl (by omega) (by decide) d_D_times_44 ?_
    have hp0 := (hS.at_ hb3).1
    refine lv_istore (lv' := [(5, .int (nI (pl2 (b31 x1 % n)))), (4, .int (nI (1 + (b31 x2 % (n - (b31 x1 % n)))))), (3, .int (nI (b31 x1 % n))), (0, .ref (a 0)), (1, .int x1), (2, .int x2)]) hx hb d_D_times_45 hl (by decide) rfl (fun ls hl => ?_)
    refine lv_iload hx hb d_D_times_47 (lv_at hl 0 rfl) ?_
    refine lv_istore (lv' := [(6, .int (nI (pl2 (b31 x1 % n)))), (5, .int (nI (pl2 (b31 x1 % n)))), (4, .int (nI (1 + (b31 x2 % (n - (b31 x1 % n)))))), (3, .int (nI (b31 x1 % n))), (0, .ref (a 0)), (1, .int x1), (2, .int x2)]) hx hb d_D_times_49 hl (by decide) rfl (fun ls hl => ?_)
    have hp := hS.at_ hb3
    refine dt1 M hn hS (P := pl2 (b31 x1 % n)) hp.1 (by omega) (fun lo H locs ls hlo hlq hl0 hw hl => ?_) (n + 1) _ _ _ _ (by omega) (Nat.le_refl _) (fun q a b => by omega) hw (lv_sub hl [4, 2, 1, 0] rfl)
    refine dt2 M hn hS (P := pl2 (b31 x1 % n)) (by omega) (fun hi H locs ls hhi hhn hhq hh0 hw hl => ?_) (n + 1) _ _ _ _ (by omega) (Nat.le_refl _) hp.1 (fun q a b => by omega) hw hl
    have htm := hS.tm hb3 (show 1 + b31 x2 % (n - b31 x1 % n) ≤ n - b31 x1 % n by omega) hlo hhi hhn hlq hhq hl0 hh0
    refine lv_iload hx hb d_D_times_111 (lv_at hl 1 rfl) ?_
    refine lv_iload hx hb d_D_times_113 (lv_at hl 0 rfl) ?_
    refine pd_isub M d_D_times_115 (by omega) ?_
    refine pd_iconst (k := 1) M d_D_times_116 (by decide) ?_
    refine pd_iadd M d_D_times_117 ?_
    exact pd_ret M (my2, gs2, od2, pl2, co2, gr2, th2, se2, ct2) hw rfl ⟨by rw [htm], hS⟩ d_D_times_118
  · omega
set_option maxHeartbeats 4000000 in
set_option maxRecDepth 100000 in
theorem c_D_times0 (l : Launch) (D : va_G) (a : Nat → Nat) (cA : Nat → ClassId) (n md my gs : Nat) (tx bo re od pl co gr th se ct : Nat → Nat) (x1 x2 : Int32) (h0 : n = 0) : Ci l y_D_times b_D_times 7 (some .int) 0 0 D (tyD cA) [.ref (a 0), .int x1, .int x2] (wd a cA n md my gs tx bo re od pl co gr th se ct) (Unit) (fun r _ => r = nI 0) (fun _ => (wd a cA n md my gs tx bo re od pl co gr th se ct)) := by
  refine Ci_of (by decide) (Nat.le_of_ble_eq_true rfl) ?_
  intro p e s m below meth c A ls M hw hl
  have M : Mx b_D_times R_D 7 (some .int) p s m meth c ([.ref (a 0), .int x1, .int x2] : List Value).toArray := M
  have hl : lv_has ls 7 [(0, .ref (a 0)), (1, .int x1), (2, .int x2)] := hl
  obtain ⟨hx, hb, -, -, -, -, -⟩ := id M
  refine lv_aload_n hx hb d_D_times_0 rfl (lv_at hl 0 rfl) ?_
  refine pd_gD M hw 0 4 rfl (by decide) k_f_D_26 rfl d_D_times_1 ?_
  refine pd_ine M d_D_times_4 (tgt := 9) (by decide) (by omega) (fun h4 => ?_) (fun h4 => ?_)
  · omega
  · refine pd_iconst (k := 0) M d_D_times_7 (by decide) ?_
    exact pd_ret M () hw rfl rfl d_D_times_8
set_option maxHeartbeats 4000000 in
set_option maxRecDepth 100000 in
theorem c_D_rank (l : Launch) (D : va_G) (a : Nat → Nat) (cA : Nat → ClassId) (n md my gs : Nat) (tx bo re od pl co gr th se ct : Nat → Nat) (x1 : Int32) (h0 : 0 < n) (hn : n ≤ 128) (ht : ∀ i, i < n → tx i < 4) (hmd : md ≤ 1) (hsa : md = 1 → SA tx n od pl co) : Ci l y_D_rank b_D_rank 2 (some .int) 5 112 D (tyD cA) [.ref (a 0), .int x1] (wd a cA n md my gs tx bo re od pl co gr th se ct) (Nat × Nat × (Nat → Nat) × (Nat → Nat) × (Nat → Nat) × (Nat → Nat) × (Nat → Nat) × (Nat → Nat) × (Nat → Nat)) (fun r u => r = nI (rnk tx n (b31 x1 % n)) ∧ SA tx n u.2.2.1 u.2.2.2.1 u.2.2.2.2.1) (fun u => (wd a cA n 1 u.1 u.2.1 tx bo re u.2.2.1 u.2.2.2.1 u.2.2.2.2.1 u.2.2.2.2.2.1 u.2.2.2.2.2.2.1 u.2.2.2.2.2.2.2.1 u.2.2.2.2.2.2.2.2)) := by
  refine Ci_of (by decide) (Nat.le_of_ble_eq_true rfl) ?_
  intro p e s m below meth c A ls M hw hl
  have M : Mx b_D_rank R_D 2 (some .int) p s m meth c ([.ref (a 0), .int x1] : List Value).toArray := M
  have hl : lv_has ls 2 [(0, .ref (a 0)), (1, .int x1)] := hl
  obtain ⟨hx, hb, -, -, -, -, -⟩ := id M
  refine lv_aload_n hx hb d_D_rank_0 rfl (lv_at hl 0 rfl) ?_
  refine pd_gD M hw 0 4 rfl (by decide) k_f_D_26 rfl d_D_rank_1 ?_
  refine pd_ine M d_D_rank_4 (tgt := 9) (by decide) (by omega) (fun h4 => ?_) (fun h4 => ?_)
  · refine lv_aload_n hx hb d_D_rank_9 rfl (lv_at hl 0 rfl) ?_
    refine pd_callv (As := []) (rest := []) (wr := []) M hw (c_D_ready l D a cA n md my gs tx bo re od pl co gr th se ct hn ht hmd hsa) k_l_D_42 k_i_D_ready k_s_D_ready k_in_D k_c_D_ready k_d_D_ready ⟨Nat.le_of_ble_eq_true rfl, Nat.le_of_ble_eq_true rfl⟩ ⟨Nat.le_of_ble_eq_true rfl, Nat.le_of_ble_eq_true rfl⟩ [0, 1, 2, 3, 4, 5, 6, 7, 8, 9, 10, 11] [] [0, 1, 2, 3, 4, 5, 6, 7, 8, 9] rfl rfl rfl rfl (by decide) rfl rfl 0 rfl hl.1 (Nat.le_of_ble_eq_true rfl) rfl d_D_rank_10 (fun u H locs hr1 hw => ?_)
    obtain ⟨my2, gs2, od2, pl2, co2, gr2, th2, se2, ct2⟩ := u
    have hS : SA tx n od2 pl2 co2 := hr1
    have hw : Hd A D (tyD cA) s (wd a cA n 1 my2 gs2 tx bo re od2 pl2 co2 gr2 th2 se2 ct2) H locs := hw
    refine lv_aload_n hx hb d_D_rank_13 rfl (lv_at hl 0 rfl) ?_
    refine pd_gD M hw 0 3 rfl (by decide) k_f_D_22 rfl d_D_rank_14 ?_
    refine pd_gE M hw 4 1 rfl (by decide) k_f_D_63 rfl d_D_rank_17 ?_
    refine lv_iload_n hx hb d_D_rank_20 rfl (lv_at hl 1 rfl) ?_
    refine lv_aload_n hx hb d_D_rank_21 rfl (lv_at hl 0 rfl) ?_
    refine pd_gD M hw 0 4 rfl (by decide) k_f_D_26 rfl d_D_rank_22 ?_
    have hb1 := b31_lt x1
    have hb3 := Nat.mod_lt (b31 x1) h0
    refine pd_calls (As := [.int x1, .int (nI n)]) (rest := [.ref (a 6)]) M hw (c_D_below l D x1 n (by omega) (by omega)) k_l_D_60 k_st_D_below k_in_D k_c_D_below k_d_D_below ⟨Nat.le_of_ble_eq_true rfl, Nat.le_of_ble_eq_true rfl⟩ ⟨Nat.le_of_ble_eq_true rfl, Nat.le_of_ble_eq_true rfl⟩ hl.1 (Nat.le_of_ble_eq_true rfl) rfl d_D_rank_25 (fun r u H locs h25 hw => ?_)
    obtain rfl := h25
    refine pd_ald M hw 6 4 rfl rfl (by omega) (by decide) d_D_rank_28 ?_
    exact pd_ret M (my2, gs2, od2, pl2, co2, gr2, th2, se2, ct2) hw rfl ⟨by rw [hS.rk hb3], hS⟩ d_D_rank_29
  · omega
set_option maxHeartbeats 4000000 in
set_option maxRecDepth 100000 in
theorem c_D_rank0 (l : Launch) (D : va_G) (a : Nat → Nat) (cA : Nat → ClassId) (n md my gs : Nat) (tx bo re od pl co gr th se ct : Nat → Nat) (x1 : Int32) (h0 : n = 0) : Ci l y_D_rank b_D_rank 2 (some .int) 0 0 D (tyD cA) [.ref (a 0), .int x1] (wd a cA n md my gs tx bo re od pl co gr th se ct) (Unit) (fun r _ => r = -1) (fun _ => (wd a cA n md my gs tx bo re od pl co gr th se ct)) := by
  refine Ci_of (by decide) (Nat.le_of_ble_eq_true rfl) ?_
  intro p e s m below meth c A ls M hw hl
  have M : Mx b_D_rank R_D 2 (some .int) p s m meth c ([.ref (a 0), .int x1] : List Value).toArray := M
  have hl : lv_has ls 2 [(0, .ref (a 0)), (1, .int x1)] := hl
  obtain ⟨hx, hb, -, -, -, -, -⟩ := id M
  refine lv_aload_n hx hb d_D_rank_0 rfl (lv_at hl 0 rfl) ?_
  refine pd_gD M hw 0 4 rfl (by decide) k_f_D_26 rfl d_D_rank_1 ?_
  refine pd_ine M d_D_rank_4 (tgt := 9) (by decide) (by omega) (fun h4 => ?_) (fun h4 => ?_)
  · omega
  · refine lv_iconst (v := -1) hx hb d_D_rank_7 (by decide) ?_
    exact pd_ret M () hw rfl rfl d_D_rank_8
end
section
/-! the desk: period, mirror -/
set_option maxHeartbeats 4000000 in
set_option maxRecDepth 100000 in
theorem dp_in {p : Program} {l : Launch} {e : Env} {R : Room} {s : State} {m : MethodId} {args : Array Value} {below : List Frame} {meth : Method} {c : Code} {cells slots : Nat} {Q : State → Prop} {A : Nat → Prop} {D : va_G} {a : Nat → Nat} {cA : Nat → ClassId} {n md my gs : Nat} {tx bo re od pl co gr th se ct : Nat → Nat} (M : Mx b_D_period R_D 3 (some .int) p s m meth c args) (hn : n ≤ 128) (ht : ∀ i, i < n → tx i < 4) {k : Nat} (hk : k < n) (hI : kmI tx k bo)
    (K : ∀ (q : Nat) (H : Heap) (locs : List Loc) (ls : Array Slot), kmJ tx k q → (q = 0 ∨ tx q = tx k) → Hd A D (tyD cA) s (wd a cA n md my gs tx bo re od pl co gr th se ct) H locs → lv_has ls 3 [(0, .ref (a 0)), (1, .int (nI q)), (2, .int (nI k))] → W p l e R s m args below meth c H locs cells slots Q (F0 m 62 ls [])) :
    ∀ (f : Nat) (q : Nat) (H : Heap) (locs : List Loc) (ls : Array Slot), q < f → kmJ tx k q → Hd A D (tyD cA) s (wd a cA n md my gs tx bo re od pl co gr th se ct) H locs → lv_has ls 3 [(0, .ref (a 0)), (1, .int (nI q)), (2, .int (nI k))] → W p l e R s m args below meth c H locs cells slots Q (F0 m 33 ls []) := by
  obtain ⟨hx, hb, -, -, -, -, -⟩ := id M
  intro f
  induction f with
  | zero => intro q H locs ls hf; exact absurd hf (Nat.not_lt_zero _)
  | succ f ih =>
    intro q H locs ls hf hJ hw hl
    have hq := hJ.1
    have ht1 := ht q (by omega)
    have ht2 := ht k hk
    refine lv_iload_n hx hb d_D_period_33 rfl (lv_at hl 1 rfl) ?_
    refine pd_ile M d_D_period_34 (tgt := 62) (by decide) (by omega) (fun h34 => ?_) (fun h34 => ?_)
    · exact K _ _ _ _ hJ (Or.inl h34) hw (lv_sub hl [0, 1, 2] rfl)
    · refine lv_aload_n hx hb d_D_period_37 rfl (lv_at hl 0 rfl) ?_
      refine pd_gD M hw 0 0 rfl (by decide) k_f_D_9 rfl d_D_period_38 ?_
      refine lv_iload_n hx hb d_D_period_41 rfl (lv_at hl 1 rfl) ?_
      refine pd_ald M hw 1 0 rfl rfl (by omega) (by decide) d_D_period_42 ?_
      refine lv_aload_n hx hb d_D_period_43 rfl (lv_at hl 0 rfl) ?_
      refine pd_gD M hw 0 0 rfl (by decide) k_f_D_9 rfl d_D_period_44 ?_
      refine lv_iload_n hx hb d_D_period_47 rfl (lv_at hl 2 rfl) ?_
      refine pd_ald M hw 1 0 rfl rfl (by omega) (by decide) d_D_period_48 ?_
      refine pd_ceq M d_D_period_49 (tgt := 62) (by decide) (by omega) (by omega) (fun h49 => ?_) (fun h49 => ?_)
      · exact K _ _ _ _ hJ (Or.inr h49) hw (lv_sub hl [0, 1, 2] rfl)
      · have hbk := kmJ_back hI hJ h34 h49
        refine lv_aload_n hx hb d_D_period_52 rfl (lv_at hl 0 rfl) ?_
        refine pd_gD M hw 0 1 rfl (by decide) k_f_D_13 rfl d_D_period_53 ?_
        refine lv_iload_n hx hb d_D_period_56 rfl (lv_at hl 1 rfl) ?_
        refine pd_ald M hw 2 1 rfl rfl (by omega) (by decide) d_D_period_57 ?_
        refine lv_istore_n (lv' := [(1, .int (nI (bo q))), (0, .ref (a 0)), (2, .int (nI k))]) hx hb d_D_period_58 rfl hl (by decide) rfl (fun ls hl => ?_)
        refine lv_goto (tgt := 33) hx hb d_D_period_59 (by decide) ?_
        exact ih _ _ _ _ (by omega) hbk.1 hw (lv_sub hl [1, 0, 2] rfl)
set_option maxHeartbeats 4000000 in
set_option maxRecDepth 100000 in
theorem dp_out {p : Program} {l : Launch} {e : Env} {R : Room} {s : State} {m : MethodId} {args : Array Value} {below : List Frame} {meth : Method} {c : Code} {cells slots : Nat} {Q : State → Prop} {A : Nat → Prop} {D : va_G} {a : Nat → Nat} {cA : Nat → ClassId} {n md my gs : Nat} {tx re od pl co gr th se ct : Nat → Nat} (M : Mx b_D_period R_D 3 (some .int) p s m meth c args) (hn : n ≤ 128) (ht : ∀ i, i < n → tx i < 4)
    (K : ∀ (bo : Nat → Nat) (H : Heap) (locs : List Loc) (ls : Array Slot), kmI tx n bo → Hd A D (tyD cA) s (wd a cA n md my gs tx bo re od pl co gr th se ct) H locs → lv_has ls 3 [(0, .ref (a 0))] → W p l e R s m args below meth c H locs cells slots Q (F0 m 95 ls [])) :
    ∀ (f : Nat) (k : Nat) (bo : Nat → Nat) (H : Heap) (locs : List Loc) (ls : Array Slot), n - k < f → 1 ≤ k → k ≤ n → kmI tx k bo → Hd A D (tyD cA) s (wd a cA n md my gs tx bo re od pl co gr th se ct) H locs → lv_has ls 3 [(0, .ref (a 0)), (1, .int (nI (bo k))), (2, .int (nI k))] → W p l e R s m args below meth c H locs cells slots Q (F0 m 25 ls []) := by
  obtain ⟨hx, hb, -, -, -, -, -⟩ := id M
  intro f
  induction f with
  | zero => intro k bo H locs ls hf; exact absurd hf (Nat.not_lt_zero _)
  | succ f ih =>
    intro k bo H locs ls hf hk1 hk hI hw hl
    refine lv_iload_n hx hb d_D_period_25 rfl (lv_at hl 2 rfl) ?_
    refine lv_aload_n hx hb d_D_period_26 rfl (lv_at hl 0 rfl) ?_
    refine pd_gD M hw 0 4 rfl (by decide) k_f_D_26 rfl d_D_period_27 ?_
    refine pd_cge M d_D_period_30 (tgt := 95) (by decide) (by omega) (by omega) (fun h30 => ?_) (fun h30 => ?_)
    · obtain rfl : k = n := by omega
      exact K _ _ _ _ hI hw (lv_sub hl [0] rfl)
    · refine dp_in M hn ht (k := k) h30 hI (fun q H locs ls hJ hor hw hl => ?_) (n + 1) _ _ _ _ (by have := (hI k hk1 (Nat.le_refl k)).1; omega) (kmJ_of hI hk1) hw (lv_sub hl [0, 1, 2] rfl)
      have hq := hJ.1
      have ht1 := ht q (by omega)
      have ht2 := ht k h30
      refine lv_aload_n hx hb d_D_period_62 rfl (lv_at hl 0 rfl) ?_
      refine pd_gD M hw 0 0 rfl (by decide) k_f_D_9 rfl d_D_period_63 ?_
      refine lv_iload_n hx hb d_D_period_66 rfl (lv_at hl 1 rfl) ?_
      refine pd_ald M hw 1 0 rfl rfl (by omega) (by decide) d_D_period_67 ?_
      refine lv_aload_n hx hb d_D_period_68 rfl (lv_at hl 0 rfl) ?_
      refine pd_gD M hw 0 0 rfl (by decide) k_f_D_9 rfl d_D_period_69 ?_
      refine lv_iload_n hx hb d_D_period_72 rfl (lv_at hl 2 rfl) ?_
      refine pd_ald M hw 1 0 rfl rfl (by omega) (by decide) d_D_period_73 ?_
      refine pd_cne M d_D_period_74 (tgt := 80) (by decide) (by omega) (by omega) (fun h74 => ?_) (fun h74 => ?_)
      · refine lv_aload_n hx hb d_D_period_80 rfl (lv_at hl 0 rfl) ?_
        refine pd_gD M hw 0 1 rfl (by decide) k_f_D_13 rfl d_D_period_81 ?_
        refine lv_iload_n hx hb d_D_period_84 rfl (lv_at hl 2 rfl) ?_
        refine pd_iconst (k := 1) M d_D_period_85 (by decide) ?_
        refine pd_iadd M d_D_period_86 ?_
        refine lv_iload_n hx hb d_D_period_87 rfl (lv_at hl 1 rfl) ?_
        refine pd_ast M hw 2 1 rfl rfl (by omega) (by decide) d_D_period_88 (fun H locs hw => ?_)
        have hw : Hd A D (tyD cA) s (wd a cA n md my gs tx (va_up bo (k + 1) q) re od pl co gr th se ct) H locs := hw
        refine pd_iinc (j := 1) (lv' := [(2, .int (nI (k + 1))), (0, .ref (a 0)), (1, .int (nI q))]) M d_D_period_89 hl (k := 2) rfl (by decide) (by decide) rfl (fun ls hl => ?_)
        refine lv_goto (tgt := 25) hx hb d_D_period_92 (by decide) ?_
        obtain rfl : q = 0 := by rcases hor with z | z; exact z; exact absurd z h74
        exact ih _ _ _ _ _ (by omega) (by omega) (by omega) (kmI_no hI hJ h74) hw (by rw [up_s]; exact (lv_sub hl [1, 2, 0] rfl))
      · refine pd_iinc (j := 1) (lv' := [(1, .int (nI (q + 1))), (0, .ref (a 0)), (2, .int (nI k))]) M d_D_period_77 hl (k := 1) rfl (by decide) (by decide) rfl (fun ls hl => ?_)
        refine lv_aload_n hx hb d_D_period_80 rfl (lv_at hl 1 rfl) ?_
        refine pd_gD M hw 0 1 rfl (by decide) k_f_D_13 rfl d_D_period_81 ?_
        refine lv_iload_n hx hb d_D_period_84 rfl (lv_at hl 2 rfl) ?_
        refine pd_iconst (k := 1) M d_D_period_85 (by decide) ?_
        refine pd_iadd M d_D_period_86 ?_
        refine lv_iload_n hx hb d_D_period_87 rfl (lv_at hl 0 rfl) ?_
        refine pd_ast M hw 2 1 rfl rfl (by omega) (by decide) d_D_period_88 (fun H locs hw => ?_)
        have hw : Hd A D (tyD cA) s (wd a cA n md my gs tx (va_up bo (k + 1) (q + 1)) re od pl co gr th se ct) H locs := hw
        refine pd_iinc (j := 1) (lv' := [(2, .int (nI (k + 1))), (1, .int (nI (q + 1))), (0, .ref (a 0))]) M d_D_period_89 hl (k := 2) rfl (by decide) (by decide) rfl (fun ls hl => ?_)
        refine lv_goto (tgt := 25) hx hb d_D_period_92 (by decide) ?_
        exact ih _ _ _ _ _ (by omega) (by omega) (by omega) (kmI_yes hI hJ h74) hw (by rw [up_s]; exact (lv_sub hl [2, 1, 0] rfl))
set_option maxHeartbeats 4000000 in
set_option maxRecDepth 100000 in
theorem c_D_period (l : Launch) (D : va_G) (a : Nat → Nat) (cA : Nat → ClassId) (n md my gs : Nat) (tx bo re od pl co gr th se ct : Nat → Nat) (hn : n ≤ 128) (ht : ∀ i, i < n → tx i < 4) : Ci l y_D_period b_D_period 3 (some .int) 0 0 D (tyD cA) [.ref (a 0)] (wd a cA n md my gs tx bo re od pl co gr th se ct) (Nat → Nat) (fun r _ => ∃ k, r = nI k ∧ isPer tx n k) (fun bo2 => (wd a cA n md my gs tx bo2 re od pl co gr th se ct)) := by
  refine Ci_of (by decide) (Nat.le_of_ble_eq_true rfl) ?_
  intro p e s m below meth c A ls M hw hl
  have M : Mx b_D_period R_D 3 (some .int) p s m meth c ([.ref (a 0)] : List Value).toArray := M
  have hl : lv_has ls 3 [(0, .ref (a 0))] := hl
  obtain ⟨hx, hb, -, -, -, -, -⟩ := id M
  refine pd_iconst (k := 0) M d_D_period_0 (by decide) ?_
  refine lv_istore_n (lv' := [(1, .int (nI 0)), (0, .ref (a 0))]) hx hb d_D_period_1 rfl hl (by decide) rfl (fun ls hl => ?_)
  refine lv_aload_n hx hb d_D_period_2 rfl (lv_at hl 1 rfl) ?_
  refine pd_gD M hw 0 1 rfl (by decide) k_f_D_13 rfl d_D_period_3 ?_
  refine pd_iconst (k := 0) M d_D_period_6 (by decide) ?_
  refine pd_iconst (k := 0) M d_D_period_7 (by decide) ?_
  refine pd_ast M hw 2 1 rfl rfl (by omega) (by decide) d_D_period_8 (fun H locs hw => ?_)
  have hw : Hd A D (tyD cA) s (wd a cA n md my gs tx (va_up bo 0 0) re od pl co gr th se ct) H locs := hw
  refine lv_aload_n hx hb d_D_period_9 rfl (lv_at hl 1 rfl) ?_
  refine pd_gD M hw 0 4 rfl (by decide) k_f_D_26 rfl d_D_period_10 ?_
  refine pd_ile M d_D_period_13 (tgt := 23) (by decide) (by omega) (fun h13 => ?_) (fun h13 => ?_)
  · refine pd_iconst (k := 1) M d_D_period_23 (by decide) ?_
    refine lv_istore_n (lv' := [(2, .int (nI 1)), (1, .int (nI 0)), (0, .ref (a 0))]) hx hb d_D_period_24 rfl hl (by decide) rfl (fun ls hl => ?_)
    refine lv_iload_n hx hb d_D_period_25 rfl (lv_at hl 0 rfl) ?_
    refine lv_aload_n hx hb d_D_period_26 rfl (lv_at hl 2 rfl) ?_
    refine pd_gD M hw 0 4 rfl (by decide) k_f_D_26 rfl d_D_period_27 ?_
    refine pd_cge M d_D_period_30 (tgt := 95) (by decide) (by omega) (by omega) (fun h30 => ?_) (fun h30 => ?_)
    · refine lv_aload_n hx hb d_D_period_95 rfl (lv_at hl 2 rfl) ?_
      refine pd_gD M hw 0 4 rfl (by decide) k_f_D_26 rfl d_D_period_96 ?_
      refine pd_ine M d_D_period_99 (tgt := 106) (by decide) (by omega) (fun h99 => ?_) (fun h99 => ?_)
      · omega
      · refine pd_iconst (k := 0) M d_D_period_102 (by decide) ?_
        refine lv_goto (tgt := 120) hx hb d_D_period_103 (by decide) ?_
        exact pd_ret M (va_up bo 0 0) hw rfl ⟨0, rfl, Or.inl h13.symm, fun q a b _ => by omega⟩ d_D_period_120
    · omega
  · refine lv_aload_n hx hb d_D_period_16 rfl (lv_at hl 1 rfl) ?_
    refine pd_gD M hw 0 1 rfl (by decide) k_f_D_13 rfl d_D_period_17 ?_
    refine pd_iconst (k := 1) M d_D_period_20 (by decide) ?_
    refine pd_iconst (k := 0) M d_D_period_21 (by decide) ?_
    refine pd_ast M hw 2 1 rfl rfl (by omega) (by decide) d_D_period_22 (fun H locs hw => ?_)
    have hw : Hd A D (tyD cA) s (wd a cA n md my gs tx (va_up (va_up bo 0 0) 1 0) re od pl co gr th se ct) H locs := hw
    refine pd_iconst (k := 1) M d_D_period_23 (by decide) ?_
    refine lv_istore_n (lv' := [(2, .int (nI 1)), (1, .int (nI 0)), (0, .ref (a 0))]) hx hb d_D_period_24 rfl hl (by decide) rfl (fun ls hl => ?_)
    have e0 : (va_up (va_up bo 0 0) 1 0) 1 = 0 := up_s
    have hl : lv_has ls 3 [(2, .int (nI 1)), (1, .int (nI ((va_up (va_up bo 0 0) 1 0) 1))), (0, .ref (a 0))] := by rw [e0]; exact hl
    refine dp_out M hn ht (fun bo2 H locs ls hI hw hl => ?_) (n + 1) 1 _ _ _ _ (by omega) (by omega) (by omega) (kmI_1 e0) hw (lv_sub hl [2, 1, 0] rfl)
    have hbn := (hI n (by omega) (Nat.le_refl n)).1
    refine lv_aload_n hx hb d_D_period_95 rfl (lv_at hl 0 rfl) ?_
    refine pd_gD M hw 0 4 rfl (by decide) k_f_D_26 rfl d_D_period_96 ?_
    refine pd_ine M d_D_period_99 (tgt := 106) (by decide) (by omega) (fun h99 => ?_) (fun h99 => ?_)
    · refine lv_aload_n hx hb d_D_period_106 rfl (lv_at hl 0 rfl) ?_
      refine pd_gD M hw 0 4 rfl (by decide) k_f_D_26 rfl d_D_period_107 ?_
      refine lv_aload_n hx hb d_D_period_110 rfl (lv_at hl 0 rfl) ?_
      refine pd_gD M hw 0 1 rfl (by decide) k_f_D_13 rfl d_D_period_111 ?_
      refine lv_aload_n hx hb d_D_period_114 rfl (lv_at hl 0 rfl) ?_
      refine pd_gD M hw 0 4 rfl (by decide) k_f_D_26 rfl d_D_period_115 ?_
      refine pd_ald M hw 2 1 rfl rfl (by omega) (by decide) d_D_period_118 ?_
      refine pd_isub M d_D_period_119 (by omega) ?_
      exact pd_ret M bo2 hw rfl ⟨_, rfl, kmI_per (by omega) hI⟩ d_D_period_120
    · omega
set_option maxHeartbeats 4000000 in
set_option maxRecDepth 100000 in
theorem dm_in {p : Program} {l : Launch} {e : Env} {R : Room} {s : State} {m : MethodId} {args : Array Value} {below : List Frame} {meth : Method} {c : Code} {cells slots : Nat} {Q : State → Prop} {A : Nat → Prop} {D : va_G} {a : Nat → Nat} {cA : Nat → ClassId} {n md my gs : Nat} {tx bo re od pl co gr th se ct : Nat → Nat} (M : Mx b_D_mirror R_D 6 (some .int) p s m meth c args) (hn : n ≤ 128) (ht : ∀ i, i < n → tx i < 4) {ce en be c0 : Nat} (hc : c0 ≤ 2 * n)
    (K : ∀ (H : Heap) (locs : List Loc) (ls : Array Slot), Hd A D (tyD cA) s (wd a cA n md my gs tx bo re od pl co gr th se ct) H locs → lv_has ls 6 [(0, .ref (a 0)), (1, .int (nI ce)), (2, .int (nI en)), (3, .int (nI be)), (4, .int (nI c0)), (5, .int (nI (rad tx n c0)))] → W p l e R s m args below meth c H locs cells slots Q (F0 m 118 ls [])) :
    ∀ (f : Nat) (r : Nat) (H : Heap) (locs : List Loc) (ls : Array Slot), c0 + 1 - r < f → r ≤ c0 → (∀ x, x < r → ext tx n c0 x) → Hd A D (tyD cA) s (wd a cA n md my gs tx bo re od pl co gr th se ct) H locs → lv_has ls 6 [(0, .ref (a 0)), (1, .int (nI ce)), (2, .int (nI en)), (3, .int (nI be)), (4, .int (nI c0)), (5, .int (nI r))] → W p l e R s m args below meth c H locs cells slots Q (F0 m 50 ls []) := by
  obtain ⟨hx, hb, -, -, -, -, -⟩ := id M
  intro f
  induction f with
  | zero => intro r H locs ls hf; exact absurd hf (Nat.not_lt_zero _)
  | succ f ih =>
    intro r H locs ls hf hr hI hw hl
    refine lv_iload hx hb d_D_mirror_50 (lv_at hl 4 rfl) ?_
    refine lv_iload hx hb d_D_mirror_52 (lv_at hl 5 rfl) ?_
    refine pd_isub M d_D_mirror_54 (by omega) ?_
    refine pd_ile M d_D_mirror_55 (tgt := 118) (by decide) (by omega) (fun h55 => ?_) (fun h55 => ?_)
    · obtain rfl : r = rad tx n c0 := rad_eq ⟨hI, fun z => by have := z.1; omega⟩
      exact K _ _ _ hw (lv_sub hl [0, 1, 2, 3, 4, 5] rfl)
    · refine lv_iload hx hb d_D_mirror_58 (lv_at hl 4 rfl) ?_
      refine lv_iload hx hb d_D_mirror_60 (lv_at hl 5 rfl) ?_
      refine pd_iadd M d_D_mirror_62 ?_
      refine pd_iconst (k := 2) M d_D_mirror_63 (by decide) ?_
      refine lv_aload_n hx hb d_D_mirror_64 rfl (lv_at hl 0 rfl) ?_
      refine pd_gD M hw 0 4 rfl (by decide) k_f_D_26 rfl d_D_mirror_65 ?_
      refine pd_imul M d_D_mirror_68 ?_
      refine pd_cge M d_D_mirror_69 (tgt := 118) (by decide) (by omega) (by omega) (fun h69 => ?_) (fun h69 => ?_)
      · obtain rfl : r = rad tx n c0 := rad_eq ⟨hI, fun z => by have := z.2.1; omega⟩
        exact K _ _ _ hw (lv_sub hl [0, 1, 2, 3, 4, 5] rfl)
      · refine lv_iload hx hb d_D_mirror_72 (lv_at hl 4 rfl) ?_
        refine lv_iload hx hb d_D_mirror_74 (lv_at hl 5 rfl) ?_
        refine pd_iadd M d_D_mirror_76 ?_
        refine pd_iconst (k := 2) M d_D_mirror_77 (by decide) ?_
        refine pd_irem M d_D_mirror_78 (by omega) (by omega) (by omega) ?_
        refine pd_iconst (k := 1) M d_D_mirror_79 (by decide) ?_
        refine pd_ceq M d_D_mirror_80 (tgt := 112) (by decide) (by omega) (by omega) (fun h80 => ?_) (fun h80 => ?_)
        · have hx1 : ext tx n c0 r := ⟨by omega, h69, Or.inl h80⟩
          refine pd_iinc (j := 1) (lv' := [(5, .int (nI (r + 1))), (0, .ref (a 0)), (1, .int (nI ce)), (2, .int (nI en)), (3, .int (nI be)), (4, .int (nI c0))]) M d_D_mirror_112 hl (k := 5) rfl (by decide) (by decide) rfl (fun ls hl => ?_)
          refine lv_goto (tgt := 50) hx hb d_D_mirror_115 (by decide) ?_
          exact ih _ _ _ _ (by omega) (by have := hx1.1; omega) (ext_up hI hx1) hw (lv_sub hl [1, 2, 3, 4, 5, 0] rfl)
        · have ht1 := ht ((c0 - r) / 2 - 1) (by omega)
          have ht2 := ht ((c0 + r) / 2) (by omega)
          refine lv_aload_n hx hb d_D_mirror_83 rfl (lv_at hl 0 rfl) ?_
          refine pd_gD M hw 0 0 rfl (by decide) k_f_D_9 rfl d_D_mirror_84 ?_
          refine lv_iload hx hb d_D_mirror_87 (lv_at hl 4 rfl) ?_
          refine lv_iload hx hb d_D_mirror_89 (lv_at hl 5 rfl) ?_
          refine pd_isub M d_D_mirror_91 (by omega) ?_
          refine pd_iconst (k := 2) M d_D_mirror_92 (by decide) ?_
          refine pd_idiv M d_D_mirror_93 (by omega) (by omega) (by omega) ?_
          refine pd_iconst (k := 1) M d_D_mirror_94 (by decide) ?_
          refine pd_isub M d_D_mirror_95 (by omega) ?_
          refine pd_ald M hw 1 0 rfl rfl (by omega) (by decide) d_D_mirror_96 ?_
          refine lv_aload_n hx hb d_D_mirror_97 rfl (lv_at hl 0 rfl) ?_
          refine pd_gD M hw 0 0 rfl (by decide) k_f_D_9 rfl d_D_mirror_98 ?_
          refine lv_iload hx hb d_D_mirror_101 (lv_at hl 4 rfl) ?_
          refine lv_iload hx hb d_D_mirror_103 (lv_at hl 5 rfl) ?_
          refine pd_iadd M d_D_mirror_105 ?_
          refine pd_iconst (k := 2) M d_D_mirror_106 (by decide) ?_
          refine pd_idiv M d_D_mirror_107 (by omega) (by omega) (by omega) ?_
          refine pd_ald M hw 1 0 rfl rfl (by omega) (by decide) d_D_mirror_108 ?_
          refine pd_cne M d_D_mirror_109 (tgt := 118) (by decide) (by omega) (by omega) (fun h109 => ?_) (fun h109 => ?_)
          · obtain rfl : r = rad tx n c0 := rad_eq ⟨hI, fun z => by rcases z.2.2 with w | w; exact h80 w; exact h109 w⟩
            exact K _ _ _ hw (lv_sub hl [0, 1, 2, 3, 4, 5] rfl)
          · have hx1 : ext tx n c0 r := ⟨by omega, h69, Or.inr h109⟩
            refine pd_iinc (j := 1) (lv' := [(5, .int (nI (r + 1))), (0, .ref (a 0)), (1, .int (nI ce)), (2, .int (nI en)), (3, .int (nI be)), (4, .int (nI c0))]) M d_D_mirror_112 hl (k := 5) rfl (by decide) (by decide) rfl (fun ls hl => ?_)
            refine lv_goto (tgt := 50) hx hb d_D_mirror_115 (by decide) ?_
            exact ih _ _ _ _ (by omega) (by have := hx1.1; omega) (ext_up hI hx1) hw (lv_sub hl [1, 2, 3, 4, 5, 0] rfl)
set_option maxHeartbeats 4000000 in
set_option maxRecDepth 100000 in
theorem dm_out {p : Program} {l : Launch} {e : Env} {s : State} {m : MethodId} {args : Array Value} {below : List Frame} {meth : Method} {c : Code} {Q : State → Prop} {A : Nat → Prop} {D : va_G} {a : Nat → Nat} {cA : Nat → ClassId} {n md my gs : Nat} {tx bo od pl co gr th se ct : Nat → Nat} (M : Mx b_D_mirror R_D 6 (some .int) p s m meth c args) (hn : n ≤ 128) (ht : ∀ i, i < n → tx i < 4)
    (K : ∀ (re : Nat → Nat) (H : Heap) (locs : List Loc) (ls : Array Slot), Hd A D (tyD cA) s (wd a cA n md my gs tx bo re od pl co gr th se ct) H locs → lv_has ls 6 [(3, .int (nI (mxs (rad tx n) (2 * n + 1))))] → W p l e { frames := 1, cells := 0, slots := 0, locals := 13 } s m args below meth c H locs 0 0 Q (F0 m 158 ls [])) :
    ∀ (f : Nat) (c0 : Nat) (ce : Nat) (en : Nat) (re : Nat → Nat) (H : Heap) (locs : List Loc) (ls : Array Slot), 2 * n + 1 - c0 < f → c0 ≤ 2 * n + 1 → (∀ x, x < c0 → re x = rad tx n x) → (en = 0 ∨ (ce < c0 ∧ en = ce + rad tx n ce)) → Hd A D (tyD cA) s (wd a cA n md my gs tx bo re od pl co gr th se ct) H locs → lv_has ls 6 [(0, .ref (a 0)), (1, .int (nI ce)), (2, .int (nI en)), (3, .int (nI (mxs (rad tx n) c0))), (4, .int (nI c0))] → W p l e { frames := 1, cells := 0, slots := 0, locals := 13 } s m args below meth c H locs 0 0 Q (F0 m 9 ls []) := by
  obtain ⟨hx, hb, -, -, -, -, -⟩ := id M
  intro f
  induction f with
  | zero => intro c0 ce en re H locs ls hf; exact absurd hf (Nat.not_lt_zero _)
  | succ f ih =>
    intro c0 ce en re H locs ls hf hc hre hen hw hl
    have hen2 : en ≤ 2 * n := by rcases hen with z | z; omega; have := (rad_le tx n ce).2 (by omega); omega
    refine lv_iload hx hb d_D_mirror_9 (lv_at hl 4 rfl) ?_
    refine pd_iconst (k := 2) M d_D_mirror_11 (by decide) ?_
    refine lv_aload_n hx hb d_D_mirror_12 rfl (lv_at hl 0 rfl) ?_
    refine pd_gD M hw 0 4 rfl (by decide) k_f_D_26 rfl d_D_mirror_13 ?_
    refine pd_imul M d_D_mirror_16 ?_
    refine pd_cgt M d_D_mirror_17 (tgt := 158) (by decide) (by omega) (by omega) (fun h17 => ?_) (fun h17 => ?_)
    · obtain rfl : c0 = 2 * n + 1 := by omega
      exact K _ _ _ _ hw (lv_sub hl [3] rfl)
    · refine lv_iload hx hb d_D_mirror_20 (lv_at hl 4 rfl) ?_
      refine lv_iload_n hx hb d_D_mirror_22 rfl (lv_at hl 2 rfl) ?_
      refine pd_cge M d_D_mirror_23 (tgt := 47) (by decide) (by omega) (by omega) (fun h23 => ?_) (fun h23 => ?_)
      · refine pd_iconst (k := 0) M d_D_mirror_47 (by decide) ?_
        refine lv_istore (lv' := [(5, .int (nI 0)), (0, .ref (a 0)), (1, .int (nI ce)), (2, .int (nI en)), (3, .int (nI (mxs (rad tx n) c0))), (4, .int (nI c0))]) hx hb d_D_mirror_48 hl (by decide) rfl (fun ls hl => ?_)
        refine dm_in M hn ht (c0 := c0) (by omega) (fun H locs ls hw hl => ?_) (c0 + 2) 0 _ _ _ (by omega) (Nat.zero_le _) (fun x hx => by omega) hw (lv_sub hl [1, 2, 3, 4, 5, 0] rfl)
        obtain ⟨hr1, hr2⟩ := rad_le tx n c0
        have hr2 := hr2 (by omega)
        have hmx := mxr_le tx n c0 (by omega)
        have hre2 : ∀ x, x < c0 + 1 → va_up re c0 (rad tx n c0) x = rad tx n x := fun x hx => by by_cases e9 : x = c0; rw [e9, up_s]; rw [up_n e9]; exact hre x (by omega)
        refine lv_aload_n hx hb d_D_mirror_118 rfl (lv_at hl 0 rfl) ?_
        refine pd_gD M hw 0 2 rfl (by decide) k_f_D_16 rfl d_D_mirror_119 ?_
        refine lv_iload hx hb d_D_mirror_122 (lv_at hl 4 rfl) ?_
        refine lv_iload hx hb d_D_mirror_124 (lv_at hl 5 rfl) ?_
        refine pd_ast M hw 3 2 rfl rfl (by omega) (by decide) d_D_mirror_126 (fun H locs hw => ?_)
        have hw : Hd A D (tyD cA) s (wd a cA n md my gs tx bo (va_up re c0 (rad tx n c0)) od pl co gr th se ct) H locs := hw
        refine lv_iload hx hb d_D_mirror_127 (lv_at hl 4 rfl) ?_
        refine lv_iload hx hb d_D_mirror_129 (lv_at hl 5 rfl) ?_
        refine pd_iadd M d_D_mirror_131 ?_
        refine lv_iload_n hx hb d_D_mirror_132 rfl (lv_at hl 2 rfl) ?_
        refine pd_cle M d_D_mirror_133 (tgt := 145) (by decide) (by omega) (by omega) (fun h133 => ?_) (fun h133 => ?_)
        · refine lv_iload_n hx hb d_D_mirror_145 rfl (lv_at hl 3 rfl) ?_
          refine lv_iload hx hb d_D_mirror_146 (lv_at hl 5 rfl) ?_
          refine pd_max M hl.1 k_l_D_51 (Nat.le_of_ble_eq_true rfl) (Nat.le_of_ble_eq_true rfl) (Nat.le_of_ble_eq_true rfl) (Nat.le_of_ble_eq_true rfl) (by omega) (by omega) d_D_mirror_148 ?_
          refine pd_top (b := mxs (rad tx n) (c0 + 1)) (rfl) ?_
          refine lv_istore_n (lv' := [(3, .int (nI (mxs (rad tx n) (c0 + 1)))), (0, .ref (a 0)), (1, .int (nI ce)), (2, .int (nI en)), (4, .int (nI c0)), (5, .int (nI (rad tx n c0)))]) hx hb d_D_mirror_151 rfl hl (by decide) rfl (fun ls hl => ?_)
          refine pd_iinc (j := 1) (lv' := [(4, .int (nI (c0 + 1))), (3, .int (nI (mxs (rad tx n) (c0 + 1)))), (0, .ref (a 0)), (1, .int (nI ce)), (2, .int (nI en)), (5, .int (nI (rad tx n c0)))]) M d_D_mirror_152 hl (k := 4) rfl (by decide) (by decide) rfl (fun ls hl => ?_)
          refine lv_goto (tgt := 9) hx hb d_D_mirror_155 (by decide) ?_
          exact ih _ _ _ _ _ _ _ (by omega) (by omega) hre2 (by rcases hen with z | z; exact Or.inl z; exact Or.inr ⟨by omega, z.2⟩) hw (lv_sub hl [2, 3, 4, 1, 0] rfl)
        · refine lv_iload hx hb d_D_mirror_136 (lv_at hl 4 rfl) ?_
          refine lv_istore_n (lv' := [(1, .int (nI c0)), (0, .ref (a 0)), (2, .int (nI en)), (3, .int (nI (mxs (rad tx n) c0))), (4, .int (nI c0)), (5, .int (nI (rad tx n c0)))]) hx hb d_D_mirror_138 rfl hl (by decide) rfl (fun ls hl => ?_)
          refine lv_iload hx hb d_D_mirror_139 (lv_at hl 4 rfl) ?_
          refine lv_iload hx hb d_D_mirror_141 (lv_at hl 5 rfl) ?_
          refine pd_iadd M d_D_mirror_143 ?_
          refine lv_istore_n (lv' := [(2, .int (nI (c0 + (rad tx n c0)))), (1, .int (nI c0)), (0, .ref (a 0)), (3, .int (nI (mxs (rad tx n) c0))), (4, .int (nI c0)), (5, .int (nI (rad tx n c0)))]) hx hb d_D_mirror_144 rfl hl (by decide) rfl (fun ls hl => ?_)
          refine lv_iload_n hx hb d_D_mirror_145 rfl (lv_at hl 3 rfl) ?_
          refine lv_iload hx hb d_D_mirror_146 (lv_at hl 5 rfl) ?_
          refine pd_max M hl.1 k_l_D_51 (Nat.le_of_ble_eq_true rfl) (Nat.le_of_ble_eq_true rfl) (Nat.le_of_ble_eq_true rfl) (Nat.le_of_ble_eq_true rfl) (by omega) (by omega) d_D_mirror_148 ?_
          refine pd_top (b := mxs (rad tx n) (c0 + 1)) (rfl) ?_
          refine lv_istore_n (lv' := [(3, .int (nI (mxs (rad tx n) (c0 + 1)))), (2, .int (nI (c0 + (rad tx n c0)))), (1, .int (nI c0)), (0, .ref (a 0)), (4, .int (nI c0)), (5, .int (nI (rad tx n c0)))]) hx hb d_D_mirror_151 rfl hl (by decide) rfl (fun ls hl => ?_)
          refine pd_iinc (j := 1) (lv' := [(4, .int (nI (c0 + 1))), (3, .int (nI (mxs (rad tx n) (c0 + 1)))), (2, .int (nI (c0 + (rad tx n c0)))), (1, .int (nI c0)), (0, .ref (a 0)), (5, .int (nI (rad tx n c0)))]) M d_D_mirror_152 hl (k := 4) rfl (by decide) (by decide) rfl (fun ls hl => ?_)
          refine lv_goto (tgt := 9) hx hb d_D_mirror_155 (by decide) ?_
          exact ih _ _ _ _ _ _ _ (by omega) (by omega) hre2 (Or.inr ⟨by omega, rfl⟩) hw (lv_sub hl [4, 3, 2, 1, 0] rfl)
      · have hce : ce < c0 ∧ en = ce + rad tx n ce := by rcases hen with z | z; omega; exact z
        have hrc := rad_le tx n ce
        have hrc2 := rad_le tx n (2 * ce - c0)
        refine lv_iload_n hx hb d_D_mirror_26 rfl (lv_at hl 2 rfl) ?_
        refine lv_iload hx hb d_D_mirror_27 (lv_at hl 4 rfl) ?_
        refine pd_isub M d_D_mirror_29 (by omega) ?_
        refine lv_aload_n hx hb d_D_mirror_30 rfl (lv_at hl 0 rfl) ?_
        refine pd_gD M hw 0 2 rfl (by decide) k_f_D_16 rfl d_D_mirror_31 ?_
        refine pd_iconst (k := 2) M d_D_mirror_34 (by decide) ?_
        refine lv_iload_n hx hb d_D_mirror_35 rfl (lv_at hl 1 rfl) ?_
        refine pd_imul M d_D_mirror_36 ?_
        refine lv_iload hx hb d_D_mirror_37 (lv_at hl 4 rfl) ?_
        refine pd_isub M d_D_mirror_39 (by omega) ?_
        refine pd_ald M hw 3 2 rfl rfl (by omega) (by decide) d_D_mirror_40 ?_
        refine pd_top (b := rad tx n (2 * ce - c0)) (hre _ (by omega)) ?_
        refine pd_min M hl.1 k_l_D_66 (Nat.le_of_ble_eq_true rfl) (Nat.le_of_ble_eq_true rfl) (Nat.le_of_ble_eq_true rfl) (Nat.le_of_ble_eq_true rfl) (by omega) (by omega) d_D_mirror_41 ?_
        refine lv_goto (tgt := 48) hx hb d_D_mirror_44 (by decide) ?_
        refine lv_istore (lv' := [(5, .int (nI (min (en - c0) (rad tx n (2 * ce - c0))))), (0, .ref (a 0)), (1, .int (nI ce)), (2, .int (nI en)), (3, .int (nI (mxs (rad tx n) c0))), (4, .int (nI c0))]) hx hb d_D_mirror_48 hl (by decide) rfl (fun ls hl => ?_)
        refine dm_in M hn ht (c0 := c0) (by omega) (fun H locs ls hw hl => ?_) (c0 + 2) (min (en - c0) (rad tx n (2 * ce - c0))) _ _ _ (by omega) (by omega) (by have hm := man (t := tx) (n := n) (q := ce) (c := c0) hce.1 (by omega) (by omega); rw [← hce.2] at hm; exact hm) hw (lv_sub hl [1, 2, 3, 4, 5, 0] rfl)
        obtain ⟨hr1, hr2⟩ := rad_le tx n c0
        have hr2 := hr2 (by omega)
        have hmx := mxr_le tx n c0 (by omega)
        have hre2 : ∀ x, x < c0 + 1 → va_up re c0 (rad tx n c0) x = rad tx n x := fun x hx => by by_cases e9 : x = c0; rw [e9, up_s]; rw [up_n e9]; exact hre x (by omega)
        refine lv_aload_n hx hb d_D_mirror_118 rfl (lv_at hl 0 rfl) ?_
        refine pd_gD M hw 0 2 rfl (by decide) k_f_D_16 rfl d_D_mirror_119 ?_
        refine lv_iload hx hb d_D_mirror_122 (lv_at hl 4 rfl) ?_
        refine lv_iload hx hb d_D_mirror_124 (lv_at hl 5 rfl) ?_
        refine pd_ast M hw 3 2 rfl rfl (by omega) (by decide) d_D_mirror_126 (fun H locs hw => ?_)
        have hw : Hd A D (tyD cA) s (wd a cA n md my gs tx bo (va_up re c0 (rad tx n c0)) od pl co gr th se ct) H locs := hw
        refine lv_iload hx hb d_D_mirror_127 (lv_at hl 4 rfl) ?_
        refine lv_iload hx hb d_D_mirror_129 (lv_at hl 5 rfl) ?_
        refine pd_iadd M d_D_mirror_131 ?_
        refine lv_iload_n hx hb d_D_mirror_132 rfl (lv_at hl 2 rfl) ?_
        refine pd_cle M d_D_mirror_133 (tgt := 145) (by decide) (by omega) (by omega) (fun h133 => ?_) (fun h133 => ?_)
        · refine lv_iload_n hx hb d_D_mirror_145 rfl (lv_at hl 3 rfl) ?_
          refine lv_iload hx hb d_D_mirror_146 (lv_at hl 5 rfl) ?_
          refine pd_max M hl.1 k_l_D_51 (Nat.le_of_ble_eq_true rfl) (Nat.le_of_ble_eq_true rfl) (Nat.le_of_ble_eq_true rfl) (Nat.le_of_ble_eq_true rfl) (by omega) (by omega) d_D_mirror_148 ?_
          refine pd_top (b := mxs (rad tx n) (c0 + 1)) (rfl) ?_
          refine lv_istore_n (lv' := [(3, .int (nI (mxs (rad tx n) (c0 + 1)))), (0, .ref (a 0)), (1, .int (nI ce)), (2, .int (nI en)), (4, .int (nI c0)), (5, .int (nI (rad tx n c0)))]) hx hb d_D_mirror_151 rfl hl (by decide) rfl (fun ls hl => ?_)
          refine pd_iinc (j := 1) (lv' := [(4, .int (nI (c0 + 1))), (3, .int (nI (mxs (rad tx n) (c0 + 1)))), (0, .ref (a 0)), (1, .int (nI ce)), (2, .int (nI en)), (5, .int (nI (rad tx n c0)))]) M d_D_mirror_152 hl (k := 4) rfl (by decide) (by decide) rfl (fun ls hl => ?_)
          refine lv_goto (tgt := 9) hx hb d_D_mirror_155 (by decide) ?_
          exact ih _ _ _ _ _ _ _ (by omega) (by omega) hre2 (by rcases hen with z | z; exact Or.inl z; exact Or.inr ⟨by omega, z.2⟩) hw (lv_sub hl [2, 3, 4, 1, 0] rfl)
        · refine lv_iload hx hb d_D_mirror_136 (lv_at hl 4 rfl) ?_
          refine lv_istore_n (lv' := [(1, .int (nI c0)), (0, .ref (a 0)), (2, .int (nI en)), (3, .int (nI (mxs (rad tx n) c0))), (4, .int (nI c0)), (5, .int (nI (rad tx n c0)))]) hx hb d_D_mirror_138 rfl hl (by decide) rfl (fun ls hl => ?_)
          refine lv_iload hx hb d_D_mirror_139 (lv_at hl 4 rfl) ?_
          refine lv_iload hx hb d_D_mirror_141 (lv_at hl 5 rfl) ?_
          refine pd_iadd M d_D_mirror_143 ?_
          refine lv_istore_n (lv' := [(2, .int (nI (c0 + (rad tx n c0)))), (1, .int (nI c0)), (0, .ref (a 0)), (3, .int (nI (mxs (rad tx n) c0))), (4, .int (nI c0)), (5, .int (nI (rad tx n c0)))]) hx hb d_D_mirror_144 rfl hl (by decide) rfl (fun ls hl => ?_)
          refine lv_iload_n hx hb d_D_mirror_145 rfl (lv_at hl 3 rfl) ?_
          refine lv_iload hx hb d_D_mirror_146 (lv_at hl 5 rfl) ?_
          refine pd_max M hl.1 k_l_D_51 (Nat.le_of_ble_eq_true rfl) (Nat.le_of_ble_eq_true rfl) (Nat.le_of_ble_eq_true rfl) (Nat.le_of_ble_eq_true rfl) (by omega) (by omega) d_D_mirror_148 ?_
          refine pd_top (b := mxs (rad tx n) (c0 + 1)) (rfl) ?_
          refine lv_istore_n (lv' := [(3, .int (nI (mxs (rad tx n) (c0 + 1)))), (2, .int (nI (c0 + (rad tx n c0)))), (1, .int (nI c0)), (0, .ref (a 0)), (4, .int (nI c0)), (5, .int (nI (rad tx n c0)))]) hx hb d_D_mirror_151 rfl hl (by decide) rfl (fun ls hl => ?_)
          refine pd_iinc (j := 1) (lv' := [(4, .int (nI (c0 + 1))), (3, .int (nI (mxs (rad tx n) (c0 + 1)))), (2, .int (nI (c0 + (rad tx n c0)))), (1, .int (nI c0)), (0, .ref (a 0)), (5, .int (nI (rad tx n c0)))]) M d_D_mirror_152 hl (k := 4) rfl (by decide) (by decide) rfl (fun ls hl => ?_)
          refine lv_goto (tgt := 9) hx hb d_D_mirror_155 (by decide) ?_
          exact ih _ _ _ _ _ _ _ (by omega) (by omega) hre2 (Or.inr ⟨by omega, rfl⟩) hw (lv_sub hl [4, 3, 2, 1, 0] rfl)
set_option maxHeartbeats 4000000 in
set_option maxRecDepth 100000 in
theorem c_D_mirror (l : Launch) (D : va_G) (a : Nat → Nat) (cA : Nat → ClassId) (n md my gs : Nat) (tx bo re od pl co gr th se ct : Nat → Nat) (hn : n ≤ 128) (ht : ∀ i, i < n → tx i < 4) : Ci l y_D_mirror b_D_mirror 6 (some .int) 1 13 D (tyD cA) [.ref (a 0)] (wd a cA n md my gs tx bo re od pl co gr th se ct) (Nat → Nat) (fun r _ => r = nI (mxs (rad tx n) (2 * n + 1))) (fun re2 => (wd a cA n md my gs tx bo re2 od pl co gr th se ct)) := by
  refine Ci_of (by decide) (Nat.le_of_ble_eq_true rfl) ?_
  intro p e s m below meth c A ls M hw hl
  have M : Mx b_D_mirror R_D 6 (some .int) p s m meth c ([.ref (a 0)] : List Value).toArray := M
  have hl : lv_has ls 6 [(0, .ref (a 0))] := hl
  obtain ⟨hx, hb, -, -, -, -, -⟩ := id M
  refine pd_iconst (k := 0) M d_D_mirror_0 (by decide) ?_
  refine lv_istore_n (lv' := [(1, .int (nI 0)), (0, .ref (a 0))]) hx hb d_D_mirror_1 rfl hl (by decide) rfl (fun ls hl => ?_)
  refine pd_iconst (k := 0) M d_D_mirror_2 (by decide) ?_
  refine lv_istore_n (lv' := [(2, .int (nI 0)), (1, .int (nI 0)), (0, .ref (a 0))]) hx hb d_D_mirror_3 rfl hl (by decide) rfl (fun ls hl => ?_)
  refine pd_iconst (k := 0) M d_D_mirror_4 (by decide) ?_
  refine lv_istore_n (lv' := [(3, .int (nI 0)), (2, .int (nI 0)), (1, .int (nI 0)), (0, .ref (a 0))]) hx hb d_D_mirror_5 rfl hl (by decide) rfl (fun ls hl => ?_)
  refine pd_iconst (k := 0) M d_D_mirror_6 (by decide) ?_
  refine lv_istore (lv' := [(4, .int (nI 0)), (3, .int (nI 0)), (2, .int (nI 0)), (1, .int (nI 0)), (0, .ref (a 0))]) hx hb d_D_mirror_7 hl (by decide) rfl (fun ls hl => ?_)
  refine dm_out M hn ht (fun re2 H locs ls hw hl => ?_) (2 * n + 2) 0 0 0 _ _ _ _ (by omega) (by omega) (fun x hx => by omega) (Or.inl rfl) hw (lv_sub hl [4, 3, 2, 1, 0] rfl)
  refine lv_iload_n hx hb d_D_mirror_158 rfl (lv_at hl 0 rfl) ?_
  exact pd_ret M re2 hw rfl rfl d_D_mirror_159
end
section
/-! constructors: contracts Cn, rows for new and <init>, the three constructors -/
def Cn (l : Launch) (y : MethodName) (yb : ByteArray) (yn fr mc ms lo : Nat) (D : va_G) (av : List Value) (wc : va_W) (X : State → Prop) (S : Type) (post : S → Prop) (w1 : S → va_W) (ty1 : S → List (ClassId × FieldType)) : Prop :=
  ∀ sz : Nat, Met l y (Cond.code y yb yn none :: std) { frames := fr, cells := mc, slots := ms, locals := lo } (va_Pc av (fun U => U.heap.size = sz ∧ va_P D classes wc U.heap ∧ va_K D classes [] U ∧ va_D (fun _ => True) wc ∧ X U)) (va_Qv post (fun u t => va_P D classes (w1 u) t.heap ∧ va_K D classes (ty1 u) t ∧ va_D (va_A wc sz) (w1 u)) (va_A wc sz)) mc ms (va_A wc sz)
section
variable {p : Program} {l : Launch} {e : Env} {R : Room} {s : State} {m : MethodId} {args : Array Value} {below : List Frame} {meth : Method} {c : Code} {H : Heap} {locs : List Loc} {cells slots : Nat} {Q : State → Prop} {cc : ByteArray} {own : String} {nL : Nat} {rt : Option FieldType} {pc : Nat} {ls : Array Slot} {rest : List Value} {A : Nat → Prop} {D : va_G} {tys : List (ClassId × FieldType)} {ws : va_W}
def pd_Qn (below : List Frame) (args : Array Value) (s : State) (A : Nat → Prop) (D : va_G) (mc ms : Nat) (S : Type) (post : S → Prop) (w1 : S → va_W) (ty1 : S → List (ClassId × FieldType)) : State → Prop :=
  MQ below (va_Qv post (fun u t => va_P D classes (w1 u) t.heap ∧ va_K D classes (ty1 u) t ∧ va_D A (w1 u)) A) args s mc ms A
theorem pd_nret {mc ms : Nat} {S : Type} {post : S → Prop} {w1 : S → va_W} {ty1 : S → List (ClassId × FieldType)} (M : Mx cc own nL none p s m meth c args) (u : S) (hw : Hd A D (ty1 u) s (w1 u) H locs) (hp : post u) (hdg : decode cc pc = .ok (.return_, 1)) :
    W p l e R s m args below meth c H locs mc ms (pd_Qn below args s A D mc ms S post w1 ty1) (F0 m pc ls []) :=
  W.vret M.1 M.2.1 M.2.2.1 (fun t ht hW => ⟨⟨u, rfl, hp, by rw [ht]; exact hw.1, va_K.moved hW.alike hw.2.2.2.1, hw.2.1⟩, hw.2.2.1.F ht⟩) hw.2.2.1.2.2 hdg M.2.2.2.2.2.2
theorem Cn_of {y : MethodName} {yb : ByteArray} {yn fr mc ms lo : Nat} {av : List Value} {wc : va_W} {X : State → Prop} {S : Type} {post : S → Prop} {w1 : S → va_W} {ty1 : S → List (ClassId × FieldType)} (hy : plainName y.cls = true) (hnm : y.name = "<init>") (hlen : (lg_sl av).length ≤ yn)
    (body : ∀ (p : Program) (e : Env) (s : State) (m : MethodId) (below : List Frame) (meth : Method) (c : Code) (A : Nat → Prop) (ls : Array Slot), Mx yb y.cls yn none p s m meth c av.toArray → meth.name = "<init>" → X s → Hd A D [] s wc s.heap [] → lv_has ls yn (lv_args 0 av) →
      W p l e { frames := fr, cells := mc, slots := ms, locals := lo } s m av.toArray below meth c s.heap [] 0 0 (pd_Qn below av.toArray s A D mc ms S post w1 ty1) (F0 m 0 ls [])) : Cn l y yb yn fr mc ms lo D av wc X S post w1 ty1 := by
  intro sz
  refine Met.ofW (cc := yb) (maxL := yn) (ret := none) hy rfl ?_
  intro p e s m args below meth c s₁ B hml hv
  obtain ⟨rfl, hsz, hP, hK, hD0, hX⟩ := hv
  subst hsz
  have hts := atoms_spec (ws := Cond.code y yb yn none :: std) B.pre
  have M : Mx yb y.cls yn none p s m meth c av.toArray := ⟨B.exec, B.bytes, B.returns, hml, findClass_of_methodNamed B.named, fun w hw => hts w (List.mem_cons_of_mem _ hw), B.notSynchronized⟩
  have hin : meth.name = "<init>" := (name_of_methodNamed B.named B.method).1.trans hnm
  rw [lg_entry_eq]
  exact body p e s m below meth c (va_A wc s.heap.size) _ M hin hX ⟨hP, hD0.self, va_S.rf, hK, fun q h => Or.inr h⟩ (lv_entry av hlen)
theorem pd_new {ci : Nat} {C : String} {T : u_T} {N : Nat} {ty0 : Nat → FieldType} (M : Mx cc own nL rt p s m meth c args) (hw : Hd A D tys s ws H locs) (hc : classes[ci]? = some (C, T, N)) (hin : ∀ w ∈ u_ws C T N, w ∈ std) (hty : ∀ k, k < N → parseFieldDescriptor (T k).2.2.1 = some (ty0 k)) {idx : Nat} (hcl : Cond.classLink own idx C ∈ std) (hinst : Cond.instantiable C N ∈ std) (hini : Cond.initialized C ∈ std) {fs : List Value} (hfs : ∀ j, j < N → defaultValue (ty0 j) = vp_V fs j) (hcells : cells + 1 ≤ R.cells) (hslots : slots + N ≤ R.slots) (hdg : decode cc pc = .ok (.new idx, 3))
    (kk : ∀ (q : Nat) (H1 : Heap), Hd A D tys s (ws ++ [(q, .inr (ci, fs))]) H1 locs → W p l e R s m args below meth c H1 locs (cells + 1) (slots + N) Q (F0 m (pc + 3) ls (.ref q :: rest))) : W p l e R s m args below meth c H locs cells slots Q (F0 m pc ls rest) :=
  va_new M.1 M.2.1 M.2.2.2.2.2.1 hin ty0 hty M.2.2.2.2.1 (M.2.2.2.2.2.1 _ hcl) (M.2.2.2.2.2.1 _ hinst) (M.2.2.2.2.2.1 _ hini) hw.2.2.2.1 hw.1 hw.2.1 hw.2.2.1 hw.2.2.2.2 hc hfs hcells hslots hdg (fun q H1 hP hD hS => kk q H1 ⟨hP, hD, hS, hw.2.2.2.1, hw.2.2.2.2⟩)
theorem pd_blindX {av : List Value} {sz : Nat} {wc : va_W} {X : State → Prop} (hXb : ∀ (U : State) (g : JFrame) (mk : MethodId) (a : Array Value), X U → X (U.calling g mk a)) : FrameBlind (va_Pc av (fun U => U.heap.size = sz ∧ va_P D classes wc U.heap ∧ va_K D classes [] U ∧ va_D (fun _ => True) wc ∧ X U)) := fun a U g mk q => by
  obtain ⟨q0, q1, qP, qK, qD, qX⟩ := q
  exact ⟨q0, q1, qP, va_K.moved (u := U) (U := U.calling g mk a) (Vm.Alike.refl U.vm) qK, qD, hXb U g mk a qX⟩
/-- a constructor's call: by its words (cw: of its own class or of a nest mate's, as 'run' takes them) -/
theorem pd_after {mc ms : Nat} {st0 : List Value} {a0 : Array Value} {wc wr : va_W} {S : Type} {post : S → Prop} {w1 : S → va_W} {ty1 : S → List (ClassId × FieldType)} (hw : Hd A D tys s ws H locs) (isC isR : List Nat) (hC : isC.map (fun i => ws[i]?) = wc.map some) (hRr : isR.map (fun i => ws[i]?) = wr.map some) (hnR : va_nd isR = true) (hdis : ∀ i ∈ isR, i ∉ isC)
    (run : va_Run p l e R s m args below meth c H locs cells slots mc ms (F0 m pc ls st0) rest (va_Qv post (fun u t => va_P D classes (w1 u) t.heap ∧ va_K D classes (ty1 u) t ∧ va_D (va_A wc H.size) (w1 u)) (va_A wc H.size) a0) (va_A wc H.size))
    (kk : ∀ (u : S) (H1 : Heap) (locs1 : List Loc), post u → Hd A D (tys ++ ty1 u) s (wr ++ w1 u) H1 locs1 → W p l e R s m args below meth c H1 locs1 (cells + mc) (slots + ms) Q (F0 m (pc + 3) ls rest)) : W p l e R s m args below meth c H locs cells slots Q (F0 m pc ls st0) := by
  obtain ⟨hP, hD, hS, hK, hA⟩ := id hw
  have hFc := va_free hD hS hA isC hC
  refine va_callv run hS (fun q _ h => hFc q h) hFc (fun u t H1 locs1 ht hvm hpo hB hz1 hk1 hS1 => ?_)
  obtain ⟨hP1, hK1, hD1⟩ := hB
  rw [ht] at hP1
  have hK1 := va_K.moved hvm.symm hK1
  obtain ⟨hP2, hD2⟩ := va_join hP hD isC isR hC hRr hnR hdis hk1 hFc hP1 hD1
  exact kk u H1 locs1 hpo ⟨hP2, hD2, hS1, hK.app hK1, hA⟩
theorem pd_preX {wc : va_W} {X : State → Prop} {b : Nat} {As : List Value} (hw : Hd A D tys s ws H locs) (isC : List Nat) (hC : isC.map (fun i => ws[i]?) = wc.map some) (hnC : va_nd isC = true) (hXb : ∀ (U : State) (g : JFrame) (mk : MethodId) (a : Array Value), X U → X (U.calling g mk a)) (hXw : ∀ U : State, s.WarmedH U.vm → X U) :
    PreS s H (va_Pc (.ref b :: As) (fun U => U.heap.size = H.size ∧ va_P D classes wc U.heap ∧ va_K D classes [] U ∧ va_D (fun _ => True) wc ∧ X U)) (.ref b :: As) := by
  obtain ⟨hP, hD, hS, hK, hA⟩ := id hw
  have hPc : va_P D classes wc H := hP.sub isC (pd_fm _ _ _ hC)
  have hDc : va_D A wc := hD.sub isC hnC hC
  have hKc : va_K D classes [] s := hK.sub [] rfl
  exact ⟨pd_blindX hXb, fun U hU hW => ⟨rfl, by rw [hU], by rw [hU]; exact hPc, va_K.moved hW.alike hKc, hDc.weaken (fun _ _ _ _ => trivial), hXw U hW⟩⟩
end
abbrev z0 : Nat → Nat := fun _ => 0
abbrev we (a : Nat → Nat) (cA : Nat → ClassId) (my gs : Nat) (od pl co gr th se ct : Nat → Nat) : va_W :=
  [(a 4, .inr (0, [.ref (a 5), .ref (a 6), .ref (a 7), .ref (a 8), .ref (a 9), .ref (a 10), .ref (a 11), .int (nI my), .int (nI gs)])), (a 5, .inl (cA 3, 128, .inl (aI od))), (a 6, .inl (cA 4, 128, .inl (aI pl))), (a 7, .inl (cA 5, 128, .inl (aI co))),
   (a 8, .inl (cA 6, 128, .inl (aI gr))), (a 9, .inl (cA 7, 128, .inl (aI th))), (a 10, .inl (cA 8, 128, .inl (aI se))), (a 11, .inl (cA 9, 129, .inl (aI ct)))]
abbrev tyE (cA : Nat → ClassId) : List (ClassId × FieldType) := [(cA 3, .int), (cA 4, .int), (cA 5, .int), (cA 6, .int), (cA 7, .int), (cA 8, .int), (cA 9, .int)]
set_option maxHeartbeats 4000000 in
set_option maxRecDepth 100000 in
theorem c_E_init (l : Launch) (D : va_G) (h0 : Nat) : Cn l y_E_init b_E_init 1 1 7 897 12 D [.ref h0] [(h0, .inr (0, [.null, .null, .null, .null, .null, .null, .null, .int (nI 0), .int (nI 0)]))] (fun _ => True) ((Nat → Nat) × (Nat → ClassId)) (fun u => u.1 4 = h0) (fun u => we u.1 u.2 0 0 z0 z0 z0 z0 z0 z0 z0) (fun u => tyE u.2) := by
  refine Cn_of (by decide) rfl (Nat.le_of_ble_eq_true rfl) ?_
  intro p e s m below meth c A ls M hin hX hw hl
  have M : Mx b_E_init R_E 1 none p s m meth c ([.ref h0] : List Value).toArray := M
  have hl : lv_has ls 1 [(0, .ref h0)] := hl
  obtain ⟨hx, hb, -, hml, hown, hts, -⟩ := id M
  refine lv_aload_n hx hb d_E_init_0 rfl (lv_at hl 0 rfl) ?_
  refine W.objInit hx hb hown (hts _ k_l_E_3) (hts _ k_i_obj) (hts _ k_c_obj) rfl (by rw [hml]; exact hl.1) rfl d_E_init_1 (Nat.le_of_ble_eq_true rfl) (Nat.le_of_ble_eq_true rfl) ?_
  refine W.eq (g2 := F0 m 4 ls []) rfl ?_
  refine lv_aload_n hx hb d_E_init_4 rfl (lv_at hl 0 rfl) ?_
  refine pd_sipush (k := 128) M d_E_init_5 (by decide) ?_
  refine pd_newa M hw (by decide) (by decide) (Nat.le_of_ble_eq_true rfl) (Nat.le_of_ble_eq_true rfl) d_E_init_8 (fun q5 c3 H hw => ?_)
  refine W.widen (k := 1) (n := 128) (Nat.le_of_ble_eq_true rfl) (Nat.le_of_ble_eq_true rfl) ?_
  have hw : Hd A D [(c3, .int)] s [(h0, .inr (0, [.null, .null, .null, .null, .null, .null, .null, .int (nI 0), .int (nI 0)])), (q5, .inl (c3, 128, .inl (aI z0)))] H _ := hw
  refine pd_putF (ci := 0) M hin hw rfl i_E t_E_ok n_E 0 0 rfl (by decide) k_f_E_9 rfl rfl rfl rfl (Nat.le_of_ble_eq_true rfl) d_E_init_10 (fun H locs hw => ?_)
  have hw : Hd A D [(c3, .int)] s [(h0, .inr (0, [.ref q5, .null, .null, .null, .null, .null, .null, .int (nI 0), .int (nI 0)])), (q5, .inl (c3, 128, .inl (aI z0)))] H locs := hw
  refine lv_aload_n hx hb d_E_init_13 rfl (lv_at hl 0 rfl) ?_
  refine pd_sipush (k := 128) M d_E_init_14 (by decide) ?_
  refine pd_newa M hw (by decide) (by decide) (Nat.le_of_ble_eq_true rfl) (Nat.le_of_ble_eq_true rfl) d_E_init_17 (fun q6 c4 H hw => ?_)
  refine W.widen (k := 2) (n := 256) (Nat.le_of_ble_eq_true rfl) (Nat.le_of_ble_eq_true rfl) ?_
  have hw : Hd A D [(c3, .int), (c4, .int)] s [(h0, .inr (0, [.ref q5, .null, .null, .null, .null, .null, .null, .int (nI 0), .int (nI 0)])), (q5, .inl (c3, 128, .inl (aI z0))), (q6, .inl (c4, 128, .inl (aI z0)))] H _ := hw
  refine pd_putF (ci := 0) M hin hw rfl i_E t_E_ok n_E 0 1 rfl (by decide) k_f_E_15 rfl rfl rfl rfl (Nat.le_of_ble_eq_true rfl) d_E_init_19 (fun H locs hw => ?_)
  have hw : Hd A D [(c3, .int), (c4, .int)] s [(h0, .inr (0, [.ref q5, .ref q6, .null, .null, .null, .null, .null, .int (nI 0), .int (nI 0)])), (q5, .inl (c3, 128, .inl (aI z0))), (q6, .inl (c4, 128, .inl (aI z0)))] H locs := hw
  refine lv_aload_n hx hb d_E_init_22 rfl (lv_at hl 0 rfl) ?_
  refine pd_sipush (k := 128) M d_E_init_23 (by decide) ?_
  refine pd_newa M hw (by decide) (by decide) (Nat.le_of_ble_eq_true rfl) (Nat.le_of_ble_eq_true rfl) d_E_init_26 (fun q7 c5 H hw => ?_)
  refine W.widen (k := 3) (n := 384) (Nat.le_of_ble_eq_true rfl) (Nat.le_of_ble_eq_true rfl) ?_
  have hw : Hd A D [(c3, .int), (c4, .int), (c5, .int)] s [(h0, .inr (0, [.ref q5, .ref q6, .null, .null, .null, .null, .null, .int (nI 0), .int (nI 0)])), (q5, .inl (c3, 128, .inl (aI z0))), (q6, .inl (c4, 128, .inl (aI z0))), (q7, .inl (c5, 128, .inl (aI z0)))] H _ := hw
  refine pd_putF (ci := 0) M hin hw rfl i_E t_E_ok n_E 0 2 rfl (by decide) k_f_E_18 rfl rfl rfl rfl (Nat.le_of_ble_eq_true rfl) d_E_init_28 (fun H locs hw => ?_)
  have hw : Hd A D [(c3, .int), (c4, .int), (c5, .int)] s [(h0, .inr (0, [.ref q5, .ref q6, .ref q7, .null, .null, .null, .null, .int (nI 0), .int (nI 0)])), (q5, .inl (c3, 128, .inl (aI z0))), (q6, .inl (c4, 128, .inl (aI z0))), (q7, .inl (c5, 128, .inl (aI z0)))] H locs := hw
  refine lv_aload_n hx hb d_E_init_31 rfl (lv_at hl 0 rfl) ?_
  refine pd_sipush (k := 128) M d_E_init_32 (by decide) ?_
  refine pd_newa M hw (by decide) (by decide) (Nat.le_of_ble_eq_true rfl) (Nat.le_of_ble_eq_true rfl) d_E_init_35 (fun q8 c6 H hw => ?_)
  refine W.widen (k := 4) (n := 512) (Nat.le_of_ble_eq_true rfl) (Nat.le_of_ble_eq_true rfl) ?_
  have hw : Hd A D [(c3, .int), (c4, .int), (c5, .int), (c6, .int)] s [(h0, .inr (0, [.ref q5, .ref q6, .ref q7, .null, .null, .null, .null, .int (nI 0), .int (nI 0)])), (q5, .inl (c3, 128, .inl (aI z0))), (q6, .inl (c4, 128, .inl (aI z0))), (q7, .inl (c5, 128, .inl (aI z0))), (q8, .inl (c6, 128, .inl (aI z0)))] H _ := hw
  refine pd_putF (ci := 0) M hin hw rfl i_E t_E_ok n_E 0 3 rfl (by decide) k_f_E_21 rfl rfl rfl rfl (Nat.le_of_ble_eq_true rfl) d_E_init_37 (fun H locs hw => ?_)
  have hw : Hd A D [(c3, .int), (c4, .int), (c5, .int), (c6, .int)] s [(h0, .inr (0, [.ref q5, .ref q6, .ref q7, .ref q8, .null, .null, .null, .int (nI 0), .int (nI 0)])), (q5, .inl (c3, 128, .inl (aI z0))), (q6, .inl (c4, 128, .inl (aI z0))), (q7, .inl (c5, 128, .inl (aI z0))), (q8, .inl (c6, 128, .inl (aI z0)))] H locs := hw
  refine lv_aload_n hx hb d_E_init_40 rfl (lv_at hl 0 rfl) ?_
  refine pd_sipush (k := 128) M d_E_init_41 (by decide) ?_
  refine pd_newa M hw (by decide) (by decide) (Nat.le_of_ble_eq_true rfl) (Nat.le_of_ble_eq_true rfl) d_E_init_44 (fun q9 c7 H hw => ?_)
  refine W.widen (k := 5) (n := 640) (Nat.le_of_ble_eq_true rfl) (Nat.le_of_ble_eq_true rfl) ?_
  have hw : Hd A D [(c3, .int), (c4, .int), (c5, .int), (c6, .int), (c7, .int)] s [(h0, .inr (0, [.ref q5, .ref q6, .ref q7, .ref q8, .null, .null, .null, .int (nI 0), .int (nI 0)])), (q5, .inl (c3, 128, .inl (aI z0))), (q6, .inl (c4, 128, .inl (aI z0))), (q7, .inl (c5, 128, .inl (aI z0))), (q8, .inl (c6, 128, .inl (aI z0))), (q9, .inl (c7, 128, .inl (aI z0)))] H _ := hw
  refine pd_putF (ci := 0) M hin hw rfl i_E t_E_ok n_E 0 4 rfl (by decide) k_f_E_24 rfl rfl rfl rfl (Nat.le_of_ble_eq_true rfl) d_E_init_46 (fun H locs hw => ?_)
  have hw : Hd A D [(c3, .int), (c4, .int), (c5, .int), (c6, .int), (c7, .int)] s [(h0, .inr (0, [.ref q5, .ref q6, .ref q7, .ref q8, .ref q9, .null, .null, .int (nI 0), .int (nI 0)])), (q5, .inl (c3, 128, .inl (aI z0))), (q6, .inl (c4, 128, .inl (aI z0))), (q7, .inl (c5, 128, .inl (aI z0))), (q8, .inl (c6, 128, .inl (aI z0))), (q9, .inl (c7, 128, .inl (aI z0)))] H locs := hw
  refine lv_aload_n hx hb d_E_init_49 rfl (lv_at hl 0 rfl) ?_
  refine pd_sipush (k := 128) M d_E_init_50 (by decide) ?_
  refine pd_newa M hw (by decide) (by decide) (Nat.le_of_ble_eq_true rfl) (Nat.le_of_ble_eq_true rfl) d_E_init_53 (fun q10 c8 H hw => ?_)
  refine W.widen (k := 6) (n := 768) (Nat.le_of_ble_eq_true rfl) (Nat.le_of_ble_eq_true rfl) ?_
  have hw : Hd A D [(c3, .int), (c4, .int), (c5, .int), (c6, .int), (c7, .int), (c8, .int)] s [(h0, .inr (0, [.ref q5, .ref q6, .ref q7, .ref q8, .ref q9, .null, .null, .int (nI 0), .int (nI 0)])), (q5, .inl (c3, 128, .inl (aI z0))), (q6, .inl (c4, 128, .inl (aI z0))), (q7, .inl (c5, 128, .inl (aI z0))), (q8, .inl (c6, 128, .inl (aI z0))), (q9, .inl (c7, 128, .inl (aI z0))), (q10, .inl (c8, 128, .inl (aI z0)))] H _ := hw
  refine pd_putF (ci := 0) M hin hw rfl i_E t_E_ok n_E 0 5 rfl (by decide) k_f_E_27 rfl rfl rfl rfl (Nat.le_of_ble_eq_true rfl) d_E_init_55 (fun H locs hw => ?_)
  have hw : Hd A D [(c3, .int), (c4, .int), (c5, .int), (c6, .int), (c7, .int), (c8, .int)] s [(h0, .inr (0, [.ref q5, .ref q6, .ref q7, .ref q8, .ref q9, .ref q10, .null, .int (nI 0), .int (nI 0)])), (q5, .inl (c3, 128, .inl (aI z0))), (q6, .inl (c4, 128, .inl (aI z0))), (q7, .inl (c5, 128, .inl (aI z0))), (q8, .inl (c6, 128, .inl (aI z0))), (q9, .inl (c7, 128, .inl (aI z0))), (q10, .inl (c8, 128, .inl (aI z0)))] H locs := hw
  refine lv_aload_n hx hb d_E_init_58 rfl (lv_at hl 0 rfl) ?_
  refine pd_sipush (k := 129) M d_E_init_59 (by decide) ?_
  refine pd_newa M hw (by decide) (by decide) (Nat.le_of_ble_eq_true rfl) (Nat.le_of_ble_eq_true rfl) d_E_init_62 (fun q11 c9 H hw => ?_)
  refine W.widen (k := 7) (n := 897) (Nat.le_of_ble_eq_true rfl) (Nat.le_of_ble_eq_true rfl) ?_
  have hw : Hd A D [(c3, .int), (c4, .int), (c5, .int), (c6, .int), (c7, .int), (c8, .int), (c9, .int)] s [(h0, .inr (0, [.ref q5, .ref q6, .ref q7, .ref q8, .ref q9, .ref q10, .null, .int (nI 0), .int (nI 0)])), (q5, .inl (c3, 128, .inl (aI z0))), (q6, .inl (c4, 128, .inl (aI z0))), (q7, .inl (c5, 128, .inl (aI z0))), (q8, .inl (c6, 128, .inl (aI z0))), (q9, .inl (c7, 128, .inl (aI z0))), (q10, .inl (c8, 128, .inl (aI z0))), (q11, .inl (c9, 129, .inl (aI z0)))] H _ := hw
  refine pd_putF (ci := 0) M hin hw rfl i_E t_E_ok n_E 0 6 rfl (by decide) k_f_E_30 rfl rfl rfl rfl (Nat.le_of_ble_eq_true rfl) d_E_init_64 (fun H locs hw => ?_)
  have hw : Hd A D [(c3, .int), (c4, .int), (c5, .int), (c6, .int), (c7, .int), (c8, .int), (c9, .int)] s [(h0, .inr (0, [.ref q5, .ref q6, .ref q7, .ref q8, .ref q9, .ref q10, .ref q11, .int (nI 0), .int (nI 0)])), (q5, .inl (c3, 128, .inl (aI z0))), (q6, .inl (c4, 128, .inl (aI z0))), (q7, .inl (c5, 128, .inl (aI z0))), (q8, .inl (c6, 128, .inl (aI z0))), (q9, .inl (c7, 128, .inl (aI z0))), (q10, .inl (c8, 128, .inl (aI z0))), (q11, .inl (c9, 129, .inl (aI z0)))] H locs := hw
  exact pd_nret M ((fun k => match k with | 4 => h0 | 5 => q5 | 6 => q6 | 7 => q7 | 8 => q8 | 9 => q9 | 10 => q10 | _ => q11), (fun k => match k with | 3 => c3 | 4 => c4 | 5 => c5 | 6 => c6 | 7 => c7 | 8 => c8 | _ => c9)) hw rfl d_E_init_67
set_option maxHeartbeats 4000000 in
set_option maxRecDepth 100000 in
theorem c_M_init (l : Launch) (D : va_G) (h0 : Nat) : Cn l y_M_init b_M_init 1 1 2 16769 12 D [.ref h0] [(h0, .inr (2, [.null, .int (nI 0), .null]))] (fun _ => True) ((Nat → Nat) × (Nat → ClassId)) (fun u => u.1 0 = h0) (fun u => wm u.1 u.2 0 z0 z0) (fun u => tyM u.2) := by
  refine Cn_of (by decide) rfl (Nat.le_of_ble_eq_true rfl) ?_
  intro p e s m below meth c A ls M hin hX hw hl
  have M : Mx b_M_init R_M 1 none p s m meth c ([.ref h0] : List Value).toArray := M
  have hl : lv_has ls 1 [(0, .ref h0)] := hl
  obtain ⟨hx, hb, -, hml, hown, hts, -⟩ := id M
  refine lv_aload_n hx hb d_M_init_0 rfl (lv_at hl 0 rfl) ?_
  refine W.objInit hx hb hown (hts _ k_l_M_1) (hts _ k_i_obj) (hts _ k_c_obj) rfl (by rw [hml]; exact hl.1) rfl d_M_init_1 (Nat.le_of_ble_eq_true rfl) (Nat.le_of_ble_eq_true rfl) ?_
  refine W.eq (g2 := F0 m 4 ls []) rfl ?_
  refine lv_aload_n hx hb d_M_init_4 rfl (lv_at hl 0 rfl) ?_
  refine pd_sipush (k := 128) M d_M_init_5 (by decide) ?_
  refine pd_newa M hw (by decide) (by decide) (Nat.le_of_ble_eq_true rfl) (Nat.le_of_ble_eq_true rfl) d_M_init_8 (fun q1 c0 H hw => ?_)
  refine W.widen (k := 1) (n := 128) (Nat.le_of_ble_eq_true rfl) (Nat.le_of_ble_eq_true rfl) ?_
  have hw : Hd A D [(c0, .int)] s [(h0, .inr (2, [.null, .int (nI 0), .null])), (q1, .inl (c0, 128, .inl (aI z0)))] H _ := hw
  refine pd_putF (ci := 2) M hin hw rfl i_M t_M_ok n_M 0 0 rfl (by decide) k_f_M_7 rfl rfl rfl rfl (Nat.le_of_ble_eq_true rfl) d_M_init_10 (fun H locs hw => ?_)
  have hw : Hd A D [(c0, .int)] s [(h0, .inr (2, [.ref q1, .int (nI 0), .null])), (q1, .inl (c0, 128, .inl (aI z0)))] H locs := hw
  refine lv_aload_n hx hb d_M_init_13 rfl (lv_at hl 0 rfl) ?_
  refine pd_sipush (k := 16641) M d_M_init_14 (by decide) ?_
  refine pd_newa M hw (by decide) (by decide) (Nat.le_of_ble_eq_true rfl) (Nat.le_of_ble_eq_true rfl) d_M_init_17 (fun q2 c1 H hw => ?_)
  refine W.widen (k := 2) (n := 16769) (Nat.le_of_ble_eq_true rfl) (Nat.le_of_ble_eq_true rfl) ?_
  have hw : Hd A D [(c0, .int), (c1, .int)] s [(h0, .inr (2, [.ref q1, .int (nI 0), .null])), (q1, .inl (c0, 128, .inl (aI z0))), (q2, .inl (c1, 16641, .inl (aI z0)))] H _ := hw
  refine pd_putF (ci := 2) M hin hw rfl i_M t_M_ok n_M 0 2 rfl (by decide) k_f_M_13 rfl rfl rfl rfl (Nat.le_of_ble_eq_true rfl) d_M_init_19 (fun H locs hw => ?_)
  have hw : Hd A D [(c0, .int), (c1, .int)] s [(h0, .inr (2, [.ref q1, .int (nI 0), .ref q2])), (q1, .inl (c0, 128, .inl (aI z0))), (q2, .inl (c1, 16641, .inl (aI z0)))] H locs := hw
  exact pd_nret M ((fun k => match k with | 0 => h0 | 1 => q1 | _ => q2), (fun k => match k with | 0 => c0 | _ => c1)) hw rfl d_M_init_22
set_option maxHeartbeats 4000000 in
set_option maxRecDepth 100000 in
theorem c_D_init (l : Launch) (D : va_G) (h0 : Nat) : Cn l y_D_init b_D_init 1 2 11 1420 32 D [.ref h0] [(h0, .inr (1, [.null, .null, .null, .null, .int (nI 0), .int (nI 0)]))] (fun U => va_Nw (.methodLinkNest R_D 21 y_E_init R_D) U) ((Nat → Nat) × (Nat → ClassId)) (fun u => u.1 0 = h0) (fun u => wd u.1 u.2 0 0 0 0 z0 z0 z0 z0 z0 z0 z0 z0 z0 z0) (fun u => tyD u.2) := by
  refine Cn_of (by decide) rfl (Nat.le_of_ble_eq_true rfl) ?_
  intro p e s m below meth c A ls M hin hX hw hl
  have M : Mx b_D_init R_D 1 none p s m meth c ([.ref h0] : List Value).toArray := M
  have hl : lv_has ls 1 [(0, .ref h0)] := hl
  obtain ⟨hx, hb, -, hml, hown, hts, -⟩ := id M
  refine lv_aload_n hx hb d_D_init_0 rfl (lv_at hl 0 rfl) ?_
  refine W.objInit hx hb hown (hts _ k_l_D_1) (hts _ k_i_obj) (hts _ k_c_obj) rfl (by rw [hml]; exact hl.1) rfl d_D_init_1 (Nat.le_of_ble_eq_true rfl) (Nat.le_of_ble_eq_true rfl) ?_
  refine W.eq (g2 := F0 m 4 ls []) rfl ?_
  refine lv_aload_n hx hb d_D_init_4 rfl (lv_at hl 0 rfl) ?_
  refine pd_sipush (k := 128) M d_D_init_5 (by decide) ?_
  refine pd_newa M hw (by decide) (by decide) (Nat.le_of_ble_eq_true rfl) (Nat.le_of_ble_eq_true rfl) d_D_init_8 (fun q1 c0 H hw => ?_)
  refine W.widen (k := 1) (n := 128) (Nat.le_of_ble_eq_true rfl) (Nat.le_of_ble_eq_true rfl) ?_
  have hw : Hd A D [(c0, .int)] s [(h0, .inr (1, [.null, .null, .null, .null, .int (nI 0), .int (nI 0)])), (q1, .inl (c0, 128, .inl (aI z0)))] H _ := hw
  refine pd_putF (ci := 1) M hin hw rfl i_D t_D_ok n_D 0 0 rfl (by decide) k_f_D_9 rfl rfl rfl rfl (Nat.le_of_ble_eq_true rfl) d_D_init_10 (fun H locs hw => ?_)
  have hw : Hd A D [(c0, .int)] s [(h0, .inr (1, [.ref q1, .null, .null, .null, .int (nI 0), .int (nI 0)])), (q1, .inl (c0, 128, .inl (aI z0)))] H locs := hw
  refine lv_aload_n hx hb d_D_init_13 rfl (lv_at hl 0 rfl) ?_
  refine pd_sipush (k := 129) M d_D_init_14 (by decide) ?_
  refine pd_newa M hw (by decide) (by decide) (Nat.le_of_ble_eq_true rfl) (Nat.le_of_ble_eq_true rfl) d_D_init_17 (fun q2 c1 H hw => ?_)
  refine W.widen (k := 2) (n := 257) (Nat.le_of_ble_eq_true rfl) (Nat.le_of_ble_eq_true rfl) ?_
  have hw : Hd A D [(c0, .int), (c1, .int)] s [(h0, .inr (1, [.ref q1, .null, .null, .null, .int (nI 0), .int (nI 0)])), (q1, .inl (c0, 128, .inl (aI z0))), (q2, .inl (c1, 129, .inl (aI z0)))] H _ := hw
  refine pd_putF (ci := 1) M hin hw rfl i_D t_D_ok n_D 0 1 rfl (by decide) k_f_D_13 rfl rfl rfl rfl (Nat.le_of_ble_eq_true rfl) d_D_init_19 (fun H locs hw => ?_)
  have hw : Hd A D [(c0, .int), (c1, .int)] s [(h0, .inr (1, [.ref q1, .ref q2, .null, .null, .int (nI 0), .int (nI 0)])), (q1, .inl (c0, 128, .inl (aI z0))), (q2, .inl (c1, 129, .inl (aI z0)))] H locs := hw
  refine lv_aload_n hx hb d_D_init_22 rfl (lv_at hl 0 rfl) ?_
  refine pd_sipush (k := 257) M d_D_init_23 (by decide) ?_
  refine pd_newa M hw (by decide) (by decide) (Nat.le_of_ble_eq_true rfl) (Nat.le_of_ble_eq_true rfl) d_D_init_26 (fun q3 c2 H hw => ?_)
  refine W.widen (k := 3) (n := 514) (Nat.le_of_ble_eq_true rfl) (Nat.le_of_ble_eq_true rfl) ?_
  have hw : Hd A D [(c0, .int), (c1, .int), (c2, .int)] s [(h0, .inr (1, [.ref q1, .ref q2, .null, .null, .int (nI 0), .int (nI 0)])), (q1, .inl (c0, 128, .inl (aI z0))), (q2, .inl (c1, 129, .inl (aI z0))), (q3, .inl (c2, 257, .inl (aI z0)))] H _ := hw
  refine pd_putF (ci := 1) M hin hw rfl i_D t_D_ok n_D 0 2 rfl (by decide) k_f_D_16 rfl rfl rfl rfl (Nat.le_of_ble_eq_true rfl) d_D_init_28 (fun H locs hw => ?_)
  have hw : Hd A D [(c0, .int), (c1, .int), (c2, .int)] s [(h0, .inr (1, [.ref q1, .ref q2, .ref q3, .null, .int (nI 0), .int (nI 0)])), (q1, .inl (c0, 128, .inl (aI z0))), (q2, .inl (c1, 129, .inl (aI z0))), (q3, .inl (c2, 257, .inl (aI z0)))] H locs := hw
  refine lv_aload_n hx hb d_D_init_31 rfl (lv_at hl 0 rfl) ?_
  refine pd_new (ci := 0) (fs := [.null, .null, .null, .null, .null, .null, .null, .int (nI 0), .int (nI 0)]) M hw rfl i_E t_E_ok k_cl_D_19 k_n_E k_in_E (fun j hj => by rcases (show j = 0 ∨ j = 1 ∨ j = 2 ∨ j = 3 ∨ j = 4 ∨ j = 5 ∨ j = 6 ∨ j = 7 ∨ j = 8 by omega) with rfl | rfl | rfl | rfl | rfl | rfl | rfl | rfl | rfl <;> rfl) (Nat.le_of_ble_eq_true rfl) (Nat.le_of_ble_eq_true rfl) d_D_init_32 (fun q4 H hw => ?_)
  refine W.widen (k := 4) (n := 523) (Nat.le_of_ble_eq_true rfl) (Nat.le_of_ble_eq_true rfl) ?_
  have hw : Hd A D [(c0, .int), (c1, .int), (c2, .int)] s [(h0, .inr (1, [.ref q1, .ref q2, .ref q3, .null, .int (nI 0), .int (nI 0)])), (q1, .inl (c0, 128, .inl (aI z0))), (q2, .inl (c1, 129, .inl (aI z0))), (q3, .inl (c2, 257, .inl (aI z0))), (q4, .inr (0, [.null, .null, .null, .null, .null, .null, .null, .int (nI 0), .int (nI 0)]))] H _ := hw
  refine lv_dup hx hb d_D_init_35 rfl ?_
  refine pd_after (wr := [(h0, .inr (1, [.ref q1, .ref q2, .ref q3, .null, .int (nI 0), .int (nI 0)])), (q1, .inl (c0, 128, .inl (aI z0))), (q2, .inl (c1, 129, .inl (aI z0))), (q3, .inl (c2, 257, .inl (aI z0)))]) (a0 := ([.ref q4] : List Value).toArray) (rest := [.ref q4, .ref h0]) hw [4] [0, 1, 2, 3] rfl rfl rfl (by decide) (va_runIN (As := []) ⟨hx, hb, hml, hown, hts⟩ (c_E_init l D q4 H.size) ⟨va_cnB 0 hts (std_in _ k_c_E_init) rfl rfl rfl hX (hts _ k_in_E) k_d_E_init ⟨Nat.le_of_ble_eq_true rfl, Nat.le_of_ble_eq_true rfl⟩, rfl, hts _ k_i_E_init⟩ (pd_preX hw [4] rfl rfl (fun _ _ _ _ z => z) (fun _ _ => trivial)) rfl rfl hl.1 rfl (lv_room (Nat.le_of_ble_eq_true rfl)) d_D_init_36 ⟨Nat.le_of_ble_eq_true rfl, Nat.le_of_ble_eq_true rfl⟩) (fun u H locs hu hw2 => ?_)
  obtain ⟨a1, cA1⟩ := u
  have hu : a1 4 = q4 := hu
  subst hu
  refine W.widen (k := 11) (n := 1420) (Nat.le_of_ble_eq_true rfl) (Nat.le_of_ble_eq_true rfl) ?_
  have hw : Hd A D ([(c0, .int), (c1, .int), (c2, .int)] ++ tyE cA1) s ([(h0, .inr (1, [.ref q1, .ref q2, .ref q3, .null, .int (nI 0), .int (nI 0)])), (q1, .inl (c0, 128, .inl (aI z0))), (q2, .inl (c1, 129, .inl (aI z0))), (q3, .inl (c2, 257, .inl (aI z0)))] ++ we a1 cA1 0 0 z0 z0 z0 z0 z0 z0 z0) H locs := hw2
  refine pd_putF (ci := 1) M hin hw rfl i_D t_D_ok n_D 0 3 rfl (by decide) k_f_D_22 rfl rfl rfl rfl (Nat.le_of_ble_eq_true rfl) d_D_init_39 (fun H locs hw => ?_)
  exact pd_nret M ((fun k => match k with | 0 => h0 | 1 => q1 | 2 => q2 | 3 => q3 | k => a1 k), (fun k => match k with | 0 => c0 | 1 => c1 | 2 => c2 | k => cA1 k)) hw rfl d_D_init_42
end
section
/-! the law: its rows, one lemma an order, its loop (the words lw_ .. are the skeleton's) -/
def R_law : String := "PartsDeskLaw"
def lw_P (b : Addr) (xs : List Int32) (args : Array Value) (s : State) : Prop := args = #[.ref b] ∧ s.IntsAt b xs ∧ xs.length ≤ 2560 ∧ (Jvm.Cond.and given_1 narrow_1).before args s = true
def lw_Q (_ : Array Value) (s : State) (o : Outcome) (t : State) : Prop := o = .returned (some (.int 1)) ∧ Framed s o t [] 15 18198
def lw_Z (below : List Frame) (a : Array Value) (s : State) : State → Prop := fun t => ∃ o, t.status = .running ∧ Ended t below o ∧ lw_Q a s o t
/-- the law's own end, with 1 on the stack, nothing written that was there before, its room as the claim has it -/
theorem lw_ret {p : Program} {l : Launch} {e : Env} {s : State} {m : MethodId} {below : List Frame} {meth : Method} {c : Code} {b : Nat} (hx : p.tables.exec = Jvm.exec) (hb : c.code = code) (hr : meth.sig.returnType = ret) (hlocks : meth.locks = false) {pc : Nat} {H : Heap} {ls : Array Slot} (hdg : decode code pc = .ok (.ireturn, 1)) : W p l e room_1 s m #[Value.ref b] below meth c H [] 15 18198 (lw_Z below #[Value.ref b] s) (F0 m pc ls [.int 1]) := by
  intro T hT X
  obtain ⟨fs, hret, hrun, hended, hW, hframe⟩ := X.leave (v := some (.int 1)) (hlocks := hlocks) (fun h => by rw [hr] at h; cases h)
  have hmeth' : T.vm.method? m = some meth := X.method'
  refine ⟨T.setFrames fs, ?_, .returned (some (.int 1)), hrun, hended, rfl, ⟨_, rfl⟩, hW, hframe⟩
  jvm_step X.here [X.here.top, hx, hb, hdg, hmeth', hr, ret, narrow_b1]
  (try refine ⟨rfl, ?_⟩); (try refine ⟨rfl, ?_⟩)
  first | (intro acts; rw [hret _ acts rfl rfl rfl]) | rw [hret _ _ rfl rfl rfl]
  exact Steps.refl _
/-- what holds at the law's entry: the machine, the code, the tables' words (any of lw_tbl by 'hts w (by decide +kernel)'), the script of L ints xs at the cell b, what the Statement gives of the start (any of its parts by flat_of_before) -/
def lw_At (p : Program) (s : State) (m : MethodId) (meth : Method) (c : Code) (b L : Nat) (xs : Nat → Int32) : Prop :=
  p.tables.exec = Jvm.exec ∧ c.code = code ∧ meth.sig.returnType = ret ∧ c.maxLocals = 4 ∧ s.vm.findClass R_law = some m.cls ∧ (∀ w ∈ lw_tbl, w.before #[Value.ref b] s = true) ∧ va_X b L xs s s.heap ∧ b < s.heap.size ∧ meth.locks = false ∧ (Jvm.Cond.and given_1 narrow_1).before #[Value.ref b] s = true
theorem pd_sld {p : Program} {l : Launch} {e : Env} {R : Room} {s : State} {m : MethodId} {args : Array Value} {below : List Frame} {meth : Method} {c : Code} {H : Heap} {locs : List Loc} {cells slots : Nat} {Q : State → Prop} {cc : ByteArray} {own : String} {nL : Nat} {rt : Option FieldType} {pc : Nat} {ls : Array Slot} {rest : List Value} {A : Nat → Prop} {D : va_G} {tys : List (ClassId × FieldType)} {ws : va_W} {b L : Nat} {xs : Nat → Int32} (M : Mx cc own nL rt p s m meth c args) (hX : va_X b L xs s s.heap) (hbl : b < s.heap.size) (hbA : ¬ A b) (hw : Hd A D tys s ws H locs) {i : Nat} (hi : i < L) (hL : L < 2 ^ 31) (hdg : decode cc pc = .ok (.iaload, 1))
    (kk : W p l e R s m args below meth c H locs cells slots Q (F0 m (pc + 1) ls (.int (xs i) :: rest))) : W p l e R s m args below meth c H locs cells slots Q (F0 m pc ls (.int (nI i) :: .ref b :: rest)) :=
  va_sld M.1 M.2.1 hX hbl hbA hw.2.2.1 (vp_in_nI hi hL) hdg (by rw [nI_clamp (Nat.lt_trans hi hL)]; exact kk)
theorem law_cmp {L i : Nat} (hL : L ≤ 2560) (hi : i ≤ 2560) : nI L - nI 5 < nI i ↔ L < i + 5 := by
  rw [Int32.lt_iff_toInt_lt, pk_sub_toInt (by omega) (by omega), nI_toInt (by omega)]
  omega
def LIv (n md : Nat) (tx od pl co : Nat → Nat) : Prop := n ≤ 128 ∧ (∀ i, i < n → tx i < 4) ∧ md ≤ 1 ∧ (md = 1 → SA tx n od pl co)
theorem LIv_add {n : Nat} {tx : Nat → Nat} (h : ∀ i, i < n → tx i < 4) (x : Int32) : ∀ i, i < n + 1 → va_up tx n (l4 x) i < 4 := fun i hi => by
  by_cases e : i = n
  · rw [e, up_s]; exact l4_lt x
  · rw [up_n e]; exact h i (by omega)
def KL (p : Program) (l : Launch) (e : Env) (s : State) (m : MethodId) (below : List Frame) (meth : Method) (c : Code) (Q : State → Prop) (A : Nat → Prop) (D : va_G) (a : Nat → Nat) (cA : Nat → ClassId) (bm : Nat → Nat) (cB : Nat → ClassId) (b i pc : Nat) : Prop :=
  ∀ (n md my gs : Nat) (tx bo re od pl co gr th se ct cm : Nat → Nat) (H : Heap) (locs : List Loc) (ls : Array Slot), LIv n md tx od pl co → Hd A D (tyD cA ++ tyM cB) s (wd a cA n md my gs tx bo re od pl co gr th se ct ++ wm bm cB n tx cm) H locs → lv_has ls 4 [(0, .ref b), (1, .ref (a 0)), (2, .ref (bm 0)), (3, .int (nI i))] → W p l e room_1 s m #[Value.ref b] below meth c H locs 15 18198 Q (F0 m pc ls [])
set_option maxHeartbeats 4000000 in
set_option maxRecDepth 100000 in
theorem op_put {p : Program} {l : Launch} {e : Env} {s : State} {m : MethodId} {below : List Frame} {meth : Method} {c : Code} {Q : State → Prop} {A : Nat → Prop} {D : va_G} {a : Nat → Nat} {cA : Nat → ClassId} {bm : Nat → Nat} {cB : Nat → ClassId} {b L : Nat} {xs : Nat → Int32} (M : Mx code R_L 4 ret p s m meth c #[Value.ref b]) (hX : va_X b L xs s s.heap) (hbl : b < s.heap.size) (hbA : ¬ A b) (hL : L ≤ 2560) {i : Nat} (hi : i + 5 ≤ L) (K : KL p l e s m below meth c Q A D a cA bm cB b i 298) {n md my gs : Nat} {tx bo re od pl co gr th se ct cm : Nat → Nat} (hI : LIv n md tx od pl co) (hc : n ≤ 124) {H : Heap} {locs : List Loc} {ls : Array Slot} (hw : Hd A D (tyD cA ++ tyM cB) s (wd a cA n md my gs tx bo re od pl co gr th se ct ++ wm bm cB n tx cm) H locs) (hl : lv_has ls 4 [(0, .ref b), (1, .ref (a 0)), (2, .ref (bm 0)), (3, .int (nI i))]) : W p l e room_1 s m #[Value.ref b] below meth c H locs 15 18198 Q (F0 m 88 ls []) := by
  obtain ⟨hx, hb, -, -, -, -, -⟩ := id M
  obtain ⟨hn, ht, hmd, hsa⟩ := id hI
  refine lv_aload_n hx hb d_L_law_88 rfl (lv_at hl 1 rfl) ?_
  refine lv_aload_n hx hb d_L_law_89 rfl (lv_at hl 0 rfl) ?_
  refine lv_iload_n hx hb d_L_law_90 rfl (lv_at hl 3 rfl) ?_
  refine pd_iconst (k := 1) M d_L_law_91 (by decide) ?_
  refine pd_iadd M d_L_law_92 ?_
  refine pd_sld M hX hbl hbA hw (by omega) (by omega) d_L_law_93 ?_
  refine lv_aload_n hx hb d_L_law_94 rfl (lv_at hl 0 rfl) ?_
  refine lv_iload_n hx hb d_L_law_95 rfl (lv_at hl 3 rfl) ?_
  refine pd_iconst (k := 2) M d_L_law_96 (by decide) ?_
  refine pd_iadd M d_L_law_97 ?_
  refine pd_sld M hX hbl hbA hw (by omega) (by omega) d_L_law_98 ?_
  refine lv_aload_n hx hb d_L_law_99 rfl (lv_at hl 0 rfl) ?_
  refine lv_iload_n hx hb d_L_law_100 rfl (lv_at hl 3 rfl) ?_
  refine pd_iconst (k := 3) M d_L_law_101 (by decide) ?_
  refine pd_iadd M d_L_law_102 ?_
  refine pd_sld M hX hbl hbA hw (by omega) (by omega) d_L_law_103 ?_
  refine lv_aload_n hx hb d_L_law_104 rfl (lv_at hl 0 rfl) ?_
  refine lv_iload_n hx hb d_L_law_105 rfl (lv_at hl 3 rfl) ?_
  refine pd_iconst (k := 4) M d_L_law_106 (by decide) ?_
  refine pd_iadd M d_L_law_107 ?_
  refine pd_sld M hX hbl hbA hw (by omega) (by omega) d_L_law_108 ?_
  refine pd_calli (As := [.int (xs (i + 1)), .int (xs (i + 2)), .int (xs (i + 3)), .int (xs (i + 4))]) (rest := []) (wr := wm bm cB n tx cm) M hw (c_D_put l D a cA n md my gs tx bo re od pl co gr th se ct (xs (i + 1)) (xs (i + 2)) (xs (i + 3)) (xs (i + 4)) hc) k_l_L_13 k_i_D_put k_s_D_put k_in_D k_c_D_put k_d_D_put ⟨Nat.le_of_ble_eq_true rfl, Nat.le_of_ble_eq_true rfl⟩ ⟨Nat.le_of_ble_eq_true rfl, Nat.le_of_ble_eq_true rfl⟩ [0, 1, 2, 3, 4, 5, 6, 7, 8, 9, 10, 11] [12, 13, 14] [0, 1, 2, 3, 4, 5, 6, 7, 8, 9] rfl rfl rfl rfl (by decide) rfl rfl 0 rfl hl.1 (Nat.le_of_ble_eq_true rfl) rfl d_L_law_109 (fun r1 u1 H locs h1 hw => ?_)
  have hw : Hd A D (tyD cA ++ tyM cB) s (wd a cA (n + 1 + 1 + 1 + 1) 0 my gs (va_up (va_up (va_up (va_up tx n (l4 (xs (i + 1)))) (n + 1) (l4 (xs (i + 2)))) (n + 1 + 1) (l4 (xs (i + 3)))) (n + 1 + 1 + 1) (l4 (xs (i + 4)))) bo re od pl co gr th se ct ++ wm bm cB n tx cm) H locs := Hd.sub hw [3, 4, 5, 6, 7, 8, 9, 10, 11, 12, 13, 14, 0, 1, 2] (by decide) rfl rfl
  refine lv_aload_n hx hb d_L_law_112 rfl (lv_at hl 2 rfl) ?_
  refine lv_aload_n hx hb d_L_law_113 rfl (lv_at hl 0 rfl) ?_
  refine lv_iload_n hx hb d_L_law_114 rfl (lv_at hl 3 rfl) ?_
  refine pd_iconst (k := 1) M d_L_law_115 (by decide) ?_
  refine pd_iadd M d_L_law_116 ?_
  refine pd_sld M hX hbl hbA hw (by omega) (by omega) d_L_law_117 ?_
  refine lv_aload_n hx hb d_L_law_118 rfl (lv_at hl 0 rfl) ?_
  refine lv_iload_n hx hb d_L_law_119 rfl (lv_at hl 3 rfl) ?_
  refine pd_iconst (k := 2) M d_L_law_120 (by decide) ?_
  refine pd_iadd M d_L_law_121 ?_
  refine pd_sld M hX hbl hbA hw (by omega) (by omega) d_L_law_122 ?_
  refine lv_aload_n hx hb d_L_law_123 rfl (lv_at hl 0 rfl) ?_
  refine lv_iload_n hx hb d_L_law_124 rfl (lv_at hl 3 rfl) ?_
  refine pd_iconst (k := 3) M d_L_law_125 (by decide) ?_
  refine pd_iadd M d_L_law_126 ?_
  refine pd_sld M hX hbl hbA hw (by omega) (by omega) d_L_law_127 ?_
  refine lv_aload_n hx hb d_L_law_128 rfl (lv_at hl 0 rfl) ?_
  refine lv_iload_n hx hb d_L_law_129 rfl (lv_at hl 3 rfl) ?_
  refine pd_iconst (k := 4) M d_L_law_130 (by decide) ?_
  refine pd_iadd M d_L_law_131 ?_
  refine pd_sld M hX hbl hbA hw (by omega) (by omega) d_L_law_132 ?_
  refine pd_calli (As := [.int (xs (i + 1)), .int (xs (i + 2)), .int (xs (i + 3)), .int (xs (i + 4))]) (rest := [.int r1]) (wr := wd a cA (n + 1 + 1 + 1 + 1) 0 my gs (va_up (va_up (va_up (va_up tx n (l4 (xs (i + 1)))) (n + 1) (l4 (xs (i + 2)))) (n + 1 + 1) (l4 (xs (i + 3)))) (n + 1 + 1 + 1) (l4 (xs (i + 4)))) bo re od pl co gr th se ct) M hw (c_M_put l D bm cB n tx cm (xs (i + 1)) (xs (i + 2)) (xs (i + 3)) (xs (i + 4)) hc) k_l_L_17 k_i_M_put k_s_M_put k_in_M k_c_M_put k_d_M_put ⟨Nat.le_of_ble_eq_true rfl, Nat.le_of_ble_eq_true rfl⟩ ⟨Nat.le_of_ble_eq_true rfl, Nat.le_of_ble_eq_true rfl⟩ [12, 13, 14] [0, 1, 2, 3, 4, 5, 6, 7, 8, 9, 10, 11] [10, 11] rfl rfl rfl rfl (by decide) rfl rfl 0 rfl hl.1 (Nat.le_of_ble_eq_true rfl) rfl d_L_law_133 (fun r2 u2 H locs h2 hw => ?_)
  have hw : Hd A D (tyD cA ++ tyM cB) s (wd a cA (n + 1 + 1 + 1 + 1) 0 my gs (va_up (va_up (va_up (va_up tx n (l4 (xs (i + 1)))) (n + 1) (l4 (xs (i + 2)))) (n + 1 + 1) (l4 (xs (i + 3)))) (n + 1 + 1 + 1) (l4 (xs (i + 4)))) bo re od pl co gr th se ct ++ wm bm cB (n + 1 + 1 + 1 + 1) (va_up (va_up (va_up (va_up tx n (l4 (xs (i + 1)))) (n + 1) (l4 (xs (i + 2)))) (n + 1 + 1) (l4 (xs (i + 3)))) (n + 1 + 1 + 1) (l4 (xs (i + 4)))) cm) H locs := hw
  refine lv_icmp_eq (tgt := 298) hx hb d_L_law_136 (by decide) (fun _ => ?_) (fun z => absurd (h1.trans h2.symm) z)
  exact K _ _ _ _ _ _ _ _ _ _ _ _ _ _ _ _ _ _ (⟨by omega, LIv_add (LIv_add (LIv_add (LIv_add ht _) _) _) _, Nat.zero_le _, fun z => by omega⟩) hw hl
set_option maxHeartbeats 4000000 in
set_option maxRecDepth 100000 in
theorem op_put0 {p : Program} {l : Launch} {e : Env} {s : State} {m : MethodId} {below : List Frame} {meth : Method} {c : Code} {Q : State → Prop} {A : Nat → Prop} {D : va_G} {a : Nat → Nat} {cA : Nat → ClassId} {bm : Nat → Nat} {cB : Nat → ClassId} {b L : Nat} {xs : Nat → Int32} (M : Mx code R_L 4 ret p s m meth c #[Value.ref b]) (hX : va_X b L xs s s.heap) (hbl : b < s.heap.size) (hbA : ¬ A b) (hL : L ≤ 2560) {i : Nat} (hi : i + 5 ≤ L) (K : KL p l e s m below meth c Q A D a cA bm cB b i 298) {n md my gs : Nat} {tx bo re od pl co gr th se ct cm : Nat → Nat} (hI : LIv n md tx od pl co) (hc : 124 < n) {H : Heap} {locs : List Loc} {ls : Array Slot} (hw : Hd A D (tyD cA ++ tyM cB) s (wd a cA n md my gs tx bo re od pl co gr th se ct ++ wm bm cB n tx cm) H locs) (hl : lv_has ls 4 [(0, .ref b), (1, .ref (a 0)), (2, .ref (bm 0)), (3, .int (nI i))]) : W p l e room_1 s m #[Value.ref b] below meth c H locs 15 18198 Q (F0 m 88 ls []) := by
  obtain ⟨hx, hb, -, -, -, -, -⟩ := id M
  obtain ⟨hn, ht, hmd, hsa⟩ := id hI
  refine lv_aload_n hx hb d_L_law_88 rfl (lv_at hl 1 rfl) ?_
  refine lv_aload_n hx hb d_L_law_89 rfl (lv_at hl 0 rfl) ?_
  refine lv_iload_n hx hb d_L_law_90 rfl (lv_at hl 3 rfl) ?_
  refine pd_iconst (k := 1) M d_L_law_91 (by decide) ?_
  refine pd_iadd M d_L_law_92 ?_
  refine pd_sld M hX hbl hbA hw (by omega) (by omega) d_L_law_93 ?_
  refine lv_aload_n hx hb d_L_law_94 rfl (lv_at hl 0 rfl) ?_
  refine lv_iload_n hx hb d_L_law_95 rfl (lv_at hl 3 rfl) ?_
  refine pd_iconst (k := 2) M d_L_law_96 (by decide) ?_
  refine pd_iadd M d_L_law_97 ?_
  refine pd_sld M hX hbl hbA hw (by omega) (by omega) d_L_law_98 ?_
  refine lv_aload_n hx hb d_L_law_99 rfl (lv_at hl 0 rfl) ?_
  refine lv_iload_n hx hb d_L_law_100 rfl (lv_at hl 3 rfl) ?_
  refine pd_iconst (k := 3) M d_L_law_101 (by decide) ?_
  refine pd_iadd M d_L_law_102 ?_
  refine pd_sld M hX hbl hbA hw (by omega) (by omega) d_L_law_103 ?_
  refine lv_aload_n hx hb d_L_law_104 rfl (lv_at hl 0 rfl) ?_
  refine lv_iload_n hx hb d_L_law_105 rfl (lv_at hl 3 rfl) ?_
  refine pd_iconst (k := 4) M d_L_law_106 (by decide) ?_
  refine pd_iadd M d_L_law_107 ?_
  refine pd_sld M hX hbl hbA hw (by omega) (by omega) d_L_law_108 ?_
  refine pd_calli (As := [.int (xs (i + 1)), .int (xs (i + 2)), .int (xs (i + 3)), .int (xs (i + 4))]) (rest := []) (wr := wm bm cB n tx cm) M hw (c_D_put0 l D a cA n md my gs tx bo re od pl co gr th se ct (xs (i + 1)) (xs (i + 2)) (xs (i + 3)) (xs (i + 4)) hc hn) k_l_L_13 k_i_D_put k_s_D_put k_in_D k_c_D_put k_d_D_put ⟨Nat.le_of_ble_eq_true rfl, Nat.le_of_ble_eq_true rfl⟩ ⟨Nat.le_of_ble_eq_true rfl, Nat.le_of_ble_eq_true rfl⟩ [0, 1, 2, 3, 4, 5, 6, 7, 8, 9, 10, 11] [12, 13, 14] [0, 1, 2, 3, 4, 5, 6, 7, 8, 9] rfl rfl rfl rfl (by decide) rfl rfl 0 rfl hl.1 (Nat.le_of_ble_eq_true rfl) rfl d_L_law_109 (fun r1 u1 H locs h1 hw => ?_)
  have hw : Hd A D (tyD cA ++ tyM cB) s (wd a cA n md my gs tx bo re od pl co gr th se ct ++ wm bm cB n tx cm) H locs := Hd.sub hw [3, 4, 5, 6, 7, 8, 9, 10, 11, 12, 13, 14, 0, 1, 2] (by decide) rfl rfl
  refine lv_aload_n hx hb d_L_law_112 rfl (lv_at hl 2 rfl) ?_
  refine lv_aload_n hx hb d_L_law_113 rfl (lv_at hl 0 rfl) ?_
  refine lv_iload_n hx hb d_L_law_114 rfl (lv_at hl 3 rfl) ?_
  refine pd_iconst (k := 1) M d_L_law_115 (by decide) ?_
  refine pd_iadd M d_L_law_116 ?_
  refine pd_sld M hX hbl hbA hw (by omega) (by omega) d_L_law_117 ?_
  refine lv_aload_n hx hb d_L_law_118 rfl (lv_at hl 0 rfl) ?_
  refine lv_iload_n hx hb d_L_law_119 rfl (lv_at hl 3 rfl) ?_
  refine pd_iconst (k := 2) M d_L_law_120 (by decide) ?_
  refine pd_iadd M d_L_law_121 ?_
  refine pd_sld M hX hbl hbA hw (by omega) (by omega) d_L_law_122 ?_
  refine lv_aload_n hx hb d_L_law_123 rfl (lv_at hl 0 rfl) ?_
  refine lv_iload_n hx hb d_L_law_124 rfl (lv_at hl 3 rfl) ?_
  refine pd_iconst (k := 3) M d_L_law_125 (by decide) ?_
  refine pd_iadd M d_L_law_126 ?_
  refine pd_sld M hX hbl hbA hw (by omega) (by omega) d_L_law_127 ?_
  refine lv_aload_n hx hb d_L_law_128 rfl (lv_at hl 0 rfl) ?_
  refine lv_iload_n hx hb d_L_law_129 rfl (lv_at hl 3 rfl) ?_
  refine pd_iconst (k := 4) M d_L_law_130 (by decide) ?_
  refine pd_iadd M d_L_law_131 ?_
  refine pd_sld M hX hbl hbA hw (by omega) (by omega) d_L_law_132 ?_
  refine pd_calli (As := [.int (xs (i + 1)), .int (xs (i + 2)), .int (xs (i + 3)), .int (xs (i + 4))]) (rest := [.int r1]) (wr := wd a cA n md my gs tx bo re od pl co gr th se ct) M hw (c_M_put0 l D bm cB n tx cm (xs (i + 1)) (xs (i + 2)) (xs (i + 3)) (xs (i + 4)) hc hn) k_l_L_17 k_i_M_put k_s_M_put k_in_M k_c_M_put k_d_M_put ⟨Nat.le_of_ble_eq_true rfl, Nat.le_of_ble_eq_true rfl⟩ ⟨Nat.le_of_ble_eq_true rfl, Nat.le_of_ble_eq_true rfl⟩ [12, 13, 14] [0, 1, 2, 3, 4, 5, 6, 7, 8, 9, 10, 11] [10, 11] rfl rfl rfl rfl (by decide) rfl rfl 0 rfl hl.1 (Nat.le_of_ble_eq_true rfl) rfl d_L_law_133 (fun r2 u2 H locs h2 hw => ?_)
  have hw : Hd A D (tyD cA ++ tyM cB) s (wd a cA n md my gs tx bo re od pl co gr th se ct ++ wm bm cB n tx cm) H locs := hw
  refine lv_icmp_eq (tgt := 298) hx hb d_L_law_136 (by decide) (fun _ => ?_) (fun z => absurd (h1.trans h2.symm) z)
  exact K _ _ _ _ _ _ _ _ _ _ _ _ _ _ _ _ _ _ (hI) hw hl
set_option maxHeartbeats 4000000 in
set_option maxRecDepth 100000 in
theorem op_one {p : Program} {l : Launch} {e : Env} {s : State} {m : MethodId} {below : List Frame} {meth : Method} {c : Code} {Q : State → Prop} {A : Nat → Prop} {D : va_G} {a : Nat → Nat} {cA : Nat → ClassId} {bm : Nat → Nat} {cB : Nat → ClassId} {b L : Nat} {xs : Nat → Int32} (M : Mx code R_L 4 ret p s m meth c #[Value.ref b]) (hX : va_X b L xs s s.heap) (hbl : b < s.heap.size) (hbA : ¬ A b) (hL : L ≤ 2560) {i : Nat} (hi : i + 5 ≤ L) (K : KL p l e s m below meth c Q A D a cA bm cB b i 298) {n md my gs : Nat} {tx bo re od pl co gr th se ct cm : Nat → Nat} (hI : LIv n md tx od pl co) (hc : n < 128) {H : Heap} {locs : List Loc} {ls : Array Slot} (hw : Hd A D (tyD cA ++ tyM cB) s (wd a cA n md my gs tx bo re od pl co gr th se ct ++ wm bm cB n tx cm) H locs) (hl : lv_has ls 4 [(0, .ref b), (1, .ref (a 0)), (2, .ref (bm 0)), (3, .int (nI i))]) : W p l e room_1 s m #[Value.ref b] below meth c H locs 15 18198 Q (F0 m 141 ls []) := by
  obtain ⟨hx, hb, -, -, -, -, -⟩ := id M
  obtain ⟨hn, ht, hmd, hsa⟩ := id hI
  refine lv_aload_n hx hb d_L_law_141 rfl (lv_at hl 1 rfl) ?_
  refine lv_aload_n hx hb d_L_law_142 rfl (lv_at hl 0 rfl) ?_
  refine lv_iload_n hx hb d_L_law_143 rfl (lv_at hl 3 rfl) ?_
  refine pd_iconst (k := 1) M d_L_law_144 (by decide) ?_
  refine pd_iadd M d_L_law_145 ?_
  refine pd_sld M hX hbl hbA hw (by omega) (by omega) d_L_law_146 ?_
  refine pd_calli (As := [.int (xs (i + 1))]) (rest := []) (wr := wm bm cB n tx cm) M hw (c_D_one l D a cA n md my gs tx bo re od pl co gr th se ct (xs (i + 1)) hc) k_l_L_18 k_i_D_one k_s_D_one k_in_D k_c_D_one k_d_D_one ⟨Nat.le_of_ble_eq_true rfl, Nat.le_of_ble_eq_true rfl⟩ ⟨Nat.le_of_ble_eq_true rfl, Nat.le_of_ble_eq_true rfl⟩ [0, 1, 2, 3, 4, 5, 6, 7, 8, 9, 10, 11] [12, 13, 14] [0, 1, 2, 3, 4, 5, 6, 7, 8, 9] rfl rfl rfl rfl (by decide) rfl rfl 0 rfl hl.1 (Nat.le_of_ble_eq_true rfl) rfl d_L_law_147 (fun r1 u1 H locs h1 hw => ?_)
  have hw : Hd A D (tyD cA ++ tyM cB) s (wd a cA (n + 1) 0 my gs (va_up tx n (l4 (xs (i + 1)))) bo re od pl co gr th se ct ++ wm bm cB n tx cm) H locs := Hd.sub hw [3, 4, 5, 6, 7, 8, 9, 10, 11, 12, 13, 14, 0, 1, 2] (by decide) rfl rfl
  refine lv_aload_n hx hb d_L_law_150 rfl (lv_at hl 2 rfl) ?_
  refine lv_aload_n hx hb d_L_law_151 rfl (lv_at hl 0 rfl) ?_
  refine lv_iload_n hx hb d_L_law_152 rfl (lv_at hl 3 rfl) ?_
  refine pd_iconst (k := 1) M d_L_law_153 (by decide) ?_
  refine pd_iadd M d_L_law_154 ?_
  refine pd_sld M hX hbl hbA hw (by omega) (by omega) d_L_law_155 ?_
  refine pd_calli (As := [.int (xs (i + 1))]) (rest := [.int r1]) (wr := wd a cA (n + 1) 0 my gs (va_up tx n (l4 (xs (i + 1)))) bo re od pl co gr th se ct) M hw (c_M_one l D bm cB n tx cm (xs (i + 1)) hc) k_l_L_22 k_i_M_one k_s_M_one k_in_M k_c_M_one k_d_M_one ⟨Nat.le_of_ble_eq_true rfl, Nat.le_of_ble_eq_true rfl⟩ ⟨Nat.le_of_ble_eq_true rfl, Nat.le_of_ble_eq_true rfl⟩ [12, 13, 14] [0, 1, 2, 3, 4, 5, 6, 7, 8, 9, 10, 11] [10, 11] rfl rfl rfl rfl (by decide) rfl rfl 0 rfl hl.1 (Nat.le_of_ble_eq_true rfl) rfl d_L_law_156 (fun r2 u2 H locs h2 hw => ?_)
  have hw : Hd A D (tyD cA ++ tyM cB) s (wd a cA (n + 1) 0 my gs (va_up tx n (l4 (xs (i + 1)))) bo re od pl co gr th se ct ++ wm bm cB (n + 1) (va_up tx n (l4 (xs (i + 1)))) cm) H locs := hw
  refine lv_icmp_eq (tgt := 298) hx hb d_L_law_159 (by decide) (fun _ => ?_) (fun z => absurd (h1.trans h2.symm) z)
  exact K _ _ _ _ _ _ _ _ _ _ _ _ _ _ _ _ _ _ (⟨by omega, LIv_add ht _, Nat.zero_le _, fun z => by omega⟩) hw hl
set_option maxHeartbeats 4000000 in
set_option maxRecDepth 100000 in
theorem op_one0 {p : Program} {l : Launch} {e : Env} {s : State} {m : MethodId} {below : List Frame} {meth : Method} {c : Code} {Q : State → Prop} {A : Nat → Prop} {D : va_G} {a : Nat → Nat} {cA : Nat → ClassId} {bm : Nat → Nat} {cB : Nat → ClassId} {b L : Nat} {xs : Nat → Int32} (M : Mx code R_L 4 ret p s m meth c #[Value.ref b]) (hX : va_X b L xs s s.heap) (hbl : b < s.heap.size) (hbA : ¬ A b) (hL : L ≤ 2560) {i : Nat} (hi : i + 5 ≤ L) (K : KL p l e s m below meth c Q A D a cA bm cB b i 298) {n md my gs : Nat} {tx bo re od pl co gr th se ct cm : Nat → Nat} (hI : LIv n md tx od pl co) (hc : n = 128) {H : Heap} {locs : List Loc} {ls : Array Slot} (hw : Hd A D (tyD cA ++ tyM cB) s (wd a cA n md my gs tx bo re od pl co gr th se ct ++ wm bm cB n tx cm) H locs) (hl : lv_has ls 4 [(0, .ref b), (1, .ref (a 0)), (2, .ref (bm 0)), (3, .int (nI i))]) : W p l e room_1 s m #[Value.ref b] below meth c H locs 15 18198 Q (F0 m 141 ls []) := by
  obtain ⟨hx, hb, -, -, -, -, -⟩ := id M
  obtain ⟨hn, ht, hmd, hsa⟩ := id hI
  refine lv_aload_n hx hb d_L_law_141 rfl (lv_at hl 1 rfl) ?_
  refine lv_aload_n hx hb d_L_law_142 rfl (lv_at hl 0 rfl) ?_
  refine lv_iload_n hx hb d_L_law_143 rfl (lv_at hl 3 rfl) ?_
  refine pd_iconst (k := 1) M d_L_law_144 (by decide) ?_
  refine pd_iadd M d_L_law_145 ?_
  refine pd_sld M hX hbl hbA hw (by omega) (by omega) d_L_law_146 ?_
  refine pd_calli (As := [.int (xs (i + 1))]) (rest := []) (wr := wm bm cB n tx cm) M hw (c_D_one0 l D a cA n md my gs tx bo re od pl co gr th se ct (xs (i + 1)) hc) k_l_L_18 k_i_D_one k_s_D_one k_in_D k_c_D_one k_d_D_one ⟨Nat.le_of_ble_eq_true rfl, Nat.le_of_ble_eq_true rfl⟩ ⟨Nat.le_of_ble_eq_true rfl, Nat.le_of_ble_eq_true rfl⟩ [0, 1, 2, 3, 4, 5, 6, 7, 8, 9, 10, 11] [12, 13, 14] [0, 1, 2, 3, 4, 5, 6, 7, 8, 9] rfl rfl rfl rfl (by decide) rfl rfl 0 rfl hl.1 (Nat.le_of_ble_eq_true rfl) rfl d_L_law_147 (fun r1 u1 H locs h1 hw => ?_)
  have hw : Hd A D (tyD cA ++ tyM cB) s (wd a cA n md my gs tx bo re od pl co gr th se ct ++ wm bm cB n tx cm) H locs := Hd.sub hw [3, 4, 5, 6, 7, 8, 9, 10, 11, 12, 13, 14, 0, 1, 2] (by decide) rfl rfl
  refine lv_aload_n hx hb d_L_law_150 rfl (lv_at hl 2 rfl) ?_
  refine lv_aload_n hx hb d_L_law_151 rfl (lv_at hl 0 rfl) ?_
  refine lv_iload_n hx hb d_L_law_152 rfl (lv_at hl 3 rfl) ?_
  refine pd_iconst (k := 1) M d_L_law_153 (by decide) ?_
  refine pd_iadd M d_L_law_154 ?_
  refine pd_sld M hX hbl hbA hw (by omega) (by omega) d_L_law_155 ?_
  refine pd_calli (As := [.int (xs (i + 1))]) (rest := [.int r1]) (wr := wd a cA n md my gs tx bo re od pl co gr th se ct) M hw (c_M_one0 l D bm cB n tx cm (xs (i + 1)) hc) k_l_L_22 k_i_M_one k_s_M_one k_in_M k_c_M_one k_d_M_one ⟨Nat.le_of_ble_eq_true rfl, Nat.le_of_ble_eq_true rfl⟩ ⟨Nat.le_of_ble_eq_true rfl, Nat.le_of_ble_eq_true rfl⟩ [12, 13, 14] [0, 1, 2, 3, 4, 5, 6, 7, 8, 9, 10, 11] [10, 11] rfl rfl rfl rfl (by decide) rfl rfl 0 rfl hl.1 (Nat.le_of_ble_eq_true rfl) rfl d_L_law_156 (fun r2 u2 H locs h2 hw => ?_)
  have hw : Hd A D (tyD cA ++ tyM cB) s (wd a cA n md my gs tx bo re od pl co gr th se ct ++ wm bm cB n tx cm) H locs := hw
  refine lv_icmp_eq (tgt := 298) hx hb d_L_law_159 (by decide) (fun _ => ?_) (fun z => absurd (h1.trans h2.symm) z)
  exact K _ _ _ _ _ _ _ _ _ _ _ _ _ _ _ _ _ _ (hI) hw hl
set_option maxHeartbeats 4000000 in
set_option maxRecDepth 100000 in
theorem op_cut {p : Program} {l : Launch} {e : Env} {s : State} {m : MethodId} {below : List Frame} {meth : Method} {c : Code} {Q : State → Prop} {A : Nat → Prop} {D : va_G} {a : Nat → Nat} {cA : Nat → ClassId} {bm : Nat → Nat} {cB : Nat → ClassId} {b L : Nat} {xs : Nat → Int32} (M : Mx code R_L 4 ret p s m meth c #[Value.ref b]) (hX : va_X b L xs s s.heap) (hbl : b < s.heap.size) (hbA : ¬ A b) (hL : L ≤ 2560) {i : Nat} (hi : i + 5 ≤ L) (K : KL p l e s m below meth c Q A D a cA bm cB b i 298) {n md my gs : Nat} {tx bo re od pl co gr th se ct cm : Nat → Nat} (hI : LIv n md tx od pl co) (hc : 0 < n) {H : Heap} {locs : List Loc} {ls : Array Slot} (hw : Hd A D (tyD cA ++ tyM cB) s (wd a cA n md my gs tx bo re od pl co gr th se ct ++ wm bm cB n tx cm) H locs) (hl : lv_has ls 4 [(0, .ref b), (1, .ref (a 0)), (2, .ref (bm 0)), (3, .int (nI i))]) : W p l e room_1 s m #[Value.ref b] below meth c H locs 15 18198 Q (F0 m 164 ls []) := by
  obtain ⟨hx, hb, -, -, -, -, -⟩ := id M
  obtain ⟨hn, ht, hmd, hsa⟩ := id hI
  refine lv_aload_n hx hb d_L_law_164 rfl (lv_at hl 1 rfl) ?_
  refine pd_calli (As := []) (rest := []) (wr := wm bm cB n tx cm) M hw (c_D_cut l D a cA n md my gs tx bo re od pl co gr th se ct hn hc) k_l_L_23 k_i_D_cut k_s_D_cut k_in_D k_c_D_cut k_d_D_cut ⟨Nat.le_of_ble_eq_true rfl, Nat.le_of_ble_eq_true rfl⟩ ⟨Nat.le_of_ble_eq_true rfl, Nat.le_of_ble_eq_true rfl⟩ [0, 1, 2, 3, 4, 5, 6, 7, 8, 9, 10, 11] [12, 13, 14] [0, 1, 2, 3, 4, 5, 6, 7, 8, 9] rfl rfl rfl rfl (by decide) rfl rfl 0 rfl hl.1 (Nat.le_of_ble_eq_true rfl) rfl d_L_law_165 (fun r1 u1 H locs h1 hw => ?_)
  have hw : Hd A D (tyD cA ++ tyM cB) s (wd a cA (n - 1) 0 my gs tx bo re od pl co gr th se ct ++ wm bm cB n tx cm) H locs := Hd.sub hw [3, 4, 5, 6, 7, 8, 9, 10, 11, 12, 13, 14, 0, 1, 2] (by decide) rfl rfl
  refine lv_aload_n hx hb d_L_law_168 rfl (lv_at hl 2 rfl) ?_
  refine pd_calli (As := []) (rest := [.int r1]) (wr := wd a cA (n - 1) 0 my gs tx bo re od pl co gr th se ct) M hw (c_M_cut l D bm cB n tx cm hn hc) k_l_L_27 k_i_M_cut k_s_M_cut k_in_M k_c_M_cut k_d_M_cut ⟨Nat.le_of_ble_eq_true rfl, Nat.le_of_ble_eq_true rfl⟩ ⟨Nat.le_of_ble_eq_true rfl, Nat.le_of_ble_eq_true rfl⟩ [12, 13, 14] [0, 1, 2, 3, 4, 5, 6, 7, 8, 9, 10, 11] [10, 11] rfl rfl rfl rfl (by decide) rfl rfl 0 rfl hl.1 (Nat.le_of_ble_eq_true rfl) rfl d_L_law_169 (fun r2 u2 H locs h2 hw => ?_)
  have hw : Hd A D (tyD cA ++ tyM cB) s (wd a cA (n - 1) 0 my gs tx bo re od pl co gr th se ct ++ wm bm cB (n - 1) tx cm) H locs := hw
  refine lv_icmp_eq (tgt := 298) hx hb d_L_law_172 (by decide) (fun _ => ?_) (fun z => absurd (h1.trans h2.symm) z)
  exact K _ _ _ _ _ _ _ _ _ _ _ _ _ _ _ _ _ _ (⟨by omega, fun i hi => ht i (by omega), Nat.zero_le _, fun z => by omega⟩) hw hl
set_option maxHeartbeats 4000000 in
set_option maxRecDepth 100000 in
theorem op_cut0 {p : Program} {l : Launch} {e : Env} {s : State} {m : MethodId} {below : List Frame} {meth : Method} {c : Code} {Q : State → Prop} {A : Nat → Prop} {D : va_G} {a : Nat → Nat} {cA : Nat → ClassId} {bm : Nat → Nat} {cB : Nat → ClassId} {b L : Nat} {xs : Nat → Int32} (M : Mx code R_L 4 ret p s m meth c #[Value.ref b]) (hX : va_X b L xs s s.heap) (hbl : b < s.heap.size) (hbA : ¬ A b) (hL : L ≤ 2560) {i : Nat} (hi : i + 5 ≤ L) (K : KL p l e s m below meth c Q A D a cA bm cB b i 298) {n md my gs : Nat} {tx bo re od pl co gr th se ct cm : Nat → Nat} (hI : LIv n md tx od pl co) (hc : n = 0) {H : Heap} {locs : List Loc} {ls : Array Slot} (hw : Hd A D (tyD cA ++ tyM cB) s (wd a cA n md my gs tx bo re od pl co gr th se ct ++ wm bm cB n tx cm) H locs) (hl : lv_has ls 4 [(0, .ref b), (1, .ref (a 0)), (2, .ref (bm 0)), (3, .int (nI i))]) : W p l e room_1 s m #[Value.ref b] below meth c H locs 15 18198 Q (F0 m 164 ls []) := by
  obtain ⟨hx, hb, -, -, -, -, -⟩ := id M
  obtain ⟨hn, ht, hmd, hsa⟩ := id hI
  refine lv_aload_n hx hb d_L_law_164 rfl (lv_at hl 1 rfl) ?_
  refine pd_calli (As := []) (rest := []) (wr := wm bm cB n tx cm) M hw (c_D_cut0 l D a cA n md my gs tx bo re od pl co gr th se ct hc) k_l_L_23 k_i_D_cut k_s_D_cut k_in_D k_c_D_cut k_d_D_cut ⟨Nat.le_of_ble_eq_true rfl, Nat.le_of_ble_eq_true rfl⟩ ⟨Nat.le_of_ble_eq_true rfl, Nat.le_of_ble_eq_true rfl⟩ [0, 1, 2, 3, 4, 5, 6, 7, 8, 9, 10, 11] [12, 13, 14] [0, 1, 2, 3, 4, 5, 6, 7, 8, 9] rfl rfl rfl rfl (by decide) rfl rfl 0 rfl hl.1 (Nat.le_of_ble_eq_true rfl) rfl d_L_law_165 (fun r1 u1 H locs h1 hw => ?_)
  have hw : Hd A D (tyD cA ++ tyM cB) s (wd a cA n md my gs tx bo re od pl co gr th se ct ++ wm bm cB n tx cm) H locs := Hd.sub hw [3, 4, 5, 6, 7, 8, 9, 10, 11, 12, 13, 14, 0, 1, 2] (by decide) rfl rfl
  refine lv_aload_n hx hb d_L_law_168 rfl (lv_at hl 2 rfl) ?_
  refine pd_calli (As := []) (rest := [.int r1]) (wr := wd a cA n md my gs tx bo re od pl co gr th se ct) M hw (c_M_cut0 l D bm cB n tx cm hc) k_l_L_27 k_i_M_cut k_s_M_cut k_in_M k_c_M_cut k_d_M_cut ⟨Nat.le_of_ble_eq_true rfl, Nat.le_of_ble_eq_true rfl⟩ ⟨Nat.le_of_ble_eq_true rfl, Nat.le_of_ble_eq_true rfl⟩ [12, 13, 14] [0, 1, 2, 3, 4, 5, 6, 7, 8, 9, 10, 11] [10, 11] rfl rfl rfl rfl (by decide) rfl rfl 0 rfl hl.1 (Nat.le_of_ble_eq_true rfl) rfl d_L_law_169 (fun r2 u2 H locs h2 hw => ?_)
  have hw : Hd A D (tyD cA ++ tyM cB) s (wd a cA n md my gs tx bo re od pl co gr th se ct ++ wm bm cB n tx cm) H locs := hw
  refine lv_icmp_eq (tgt := 298) hx hb d_L_law_172 (by decide) (fun _ => ?_) (fun z => absurd (h1.trans h2.symm) z)
  exact K _ _ _ _ _ _ _ _ _ _ _ _ _ _ _ _ _ _ (hI) hw hl
set_option maxHeartbeats 4000000 in
set_option maxRecDepth 100000 in
theorem op_length {p : Program} {l : Launch} {e : Env} {s : State} {m : MethodId} {below : List Frame} {meth : Method} {c : Code} {Q : State → Prop} {A : Nat → Prop} {D : va_G} {a : Nat → Nat} {cA : Nat → ClassId} {bm : Nat → Nat} {cB : Nat → ClassId} {b L : Nat} {xs : Nat → Int32} (M : Mx code R_L 4 ret p s m meth c #[Value.ref b]) (hX : va_X b L xs s s.heap) (hbl : b < s.heap.size) (hbA : ¬ A b) (hL : L ≤ 2560) {i : Nat} (hi : i + 5 ≤ L) (K : KL p l e s m below meth c Q A D a cA bm cB b i 298) {n md my gs : Nat} {tx bo re od pl co gr th se ct cm : Nat → Nat} (hI : LIv n md tx od pl co)  {H : Heap} {locs : List Loc} {ls : Array Slot} (hw : Hd A D (tyD cA ++ tyM cB) s (wd a cA n md my gs tx bo re od pl co gr th se ct ++ wm bm cB n tx cm) H locs) (hl : lv_has ls 4 [(0, .ref b), (1, .ref (a 0)), (2, .ref (bm 0)), (3, .int (nI i))]) : W p l e room_1 s m #[Value.ref b] below meth c H locs 15 18198 Q (F0 m 177 ls []) := by
  obtain ⟨hx, hb, -, -, -, -, -⟩ := id M
  obtain ⟨hn, ht, hmd, hsa⟩ := id hI
  refine lv_aload_n hx hb d_L_law_177 rfl (lv_at hl 1 rfl) ?_
  refine pd_calli (As := []) (rest := []) (wr := wm bm cB n tx cm) M hw (c_D_length l D a cA n md my gs tx bo re od pl co gr th se ct) k_l_L_28 k_i_D_length k_s_D_length k_in_D k_c_D_length k_d_D_length ⟨Nat.le_of_ble_eq_true rfl, Nat.le_of_ble_eq_true rfl⟩ ⟨Nat.le_of_ble_eq_true rfl, Nat.le_of_ble_eq_true rfl⟩ [0, 1, 2, 3, 4, 5, 6, 7, 8, 9, 10, 11] [12, 13, 14] [0, 1, 2, 3, 4, 5, 6, 7, 8, 9] rfl rfl rfl rfl (by decide) rfl rfl 0 rfl hl.1 (Nat.le_of_ble_eq_true rfl) rfl d_L_law_178 (fun r1 u1 H locs h1 hw => ?_)
  have hw : Hd A D (tyD cA ++ tyM cB) s (wd a cA n md my gs tx bo re od pl co gr th se ct ++ wm bm cB n tx cm) H locs := Hd.sub hw [3, 4, 5, 6, 7, 8, 9, 10, 11, 12, 13, 14, 0, 1, 2] (by decide) rfl rfl
  refine lv_aload_n hx hb d_L_law_181 rfl (lv_at hl 2 rfl) ?_
  refine pd_calli (As := []) (rest := [.int r1]) (wr := wd a cA n md my gs tx bo re od pl co gr th se ct) M hw (c_M_length l D bm cB n tx cm) k_l_L_32 k_i_M_length k_s_M_length k_in_M k_c_M_length k_d_M_length ⟨Nat.le_of_ble_eq_true rfl, Nat.le_of_ble_eq_true rfl⟩ ⟨Nat.le_of_ble_eq_true rfl, Nat.le_of_ble_eq_true rfl⟩ [12, 13, 14] [0, 1, 2, 3, 4, 5, 6, 7, 8, 9, 10, 11] [10, 11] rfl rfl rfl rfl (by decide) rfl rfl 0 rfl hl.1 (Nat.le_of_ble_eq_true rfl) rfl d_L_law_182 (fun r2 u2 H locs h2 hw => ?_)
  have hw : Hd A D (tyD cA ++ tyM cB) s (wd a cA n md my gs tx bo re od pl co gr th se ct ++ wm bm cB n tx cm) H locs := hw
  refine lv_icmp_eq (tgt := 298) hx hb d_L_law_185 (by decide) (fun _ => ?_) (fun z => absurd (h1.trans h2.symm) z)
  exact K _ _ _ _ _ _ _ _ _ _ _ _ _ _ _ _ _ _ (hI) hw hl
set_option maxHeartbeats 4000000 in
set_option maxRecDepth 100000 in
theorem op_different {p : Program} {l : Launch} {e : Env} {s : State} {m : MethodId} {below : List Frame} {meth : Method} {c : Code} {Q : State → Prop} {A : Nat → Prop} {D : va_G} {a : Nat → Nat} {cA : Nat → ClassId} {bm : Nat → Nat} {cB : Nat → ClassId} {b L : Nat} {xs : Nat → Int32} (M : Mx code R_L 4 ret p s m meth c #[Value.ref b]) (hX : va_X b L xs s s.heap) (hbl : b < s.heap.size) (hbA : ¬ A b) (hL : L ≤ 2560) {i : Nat} (hi : i + 5 ≤ L) (K : KL p l e s m below meth c Q A D a cA bm cB b i 298) {n md my gs : Nat} {tx bo re od pl co gr th se ct cm : Nat → Nat} (hI : LIv n md tx od pl co)  {H : Heap} {locs : List Loc} {ls : Array Slot} (hw : Hd A D (tyD cA ++ tyM cB) s (wd a cA n md my gs tx bo re od pl co gr th se ct ++ wm bm cB n tx cm) H locs) (hl : lv_has ls 4 [(0, .ref b), (1, .ref (a 0)), (2, .ref (bm 0)), (3, .int (nI i))]) : W p l e room_1 s m #[Value.ref b] below meth c H locs 15 18198 Q (F0 m 190 ls []) := by
  obtain ⟨hx, hb, -, -, -, -, -⟩ := id M
  obtain ⟨hn, ht, hmd, hsa⟩ := id hI
  refine lv_aload_n hx hb d_L_law_190 rfl (lv_at hl 1 rfl) ?_
  refine pd_calli (As := []) (rest := []) (wr := wm bm cB n tx cm) M hw (c_D_different l D a cA n md my gs tx bo re od pl co gr th se ct hn ht hmd hsa) k_l_L_33 k_i_D_different k_s_D_different k_in_D k_c_D_different k_d_D_different ⟨Nat.le_of_ble_eq_true rfl, Nat.le_of_ble_eq_true rfl⟩ ⟨Nat.le_of_ble_eq_true rfl, Nat.le_of_ble_eq_true rfl⟩ [0, 1, 2, 3, 4, 5, 6, 7, 8, 9, 10, 11] [12, 13, 14] [0, 1, 2, 3, 4, 5, 6, 7, 8, 9] rfl rfl rfl rfl (by decide) rfl rfl 0 rfl hl.1 (Nat.le_of_ble_eq_true rfl) rfl d_L_law_191 (fun r1 u1 H locs h1 hw => ?_)
  obtain ⟨my2, gs2, od2, pl2, co2, gr2, th2, se2, ct2⟩ := u1
  have hw : Hd A D (tyD cA ++ tyM cB) s (wd a cA n 1 my2 gs2 tx bo re od2 pl2 co2 gr2 th2 se2 ct2 ++ wm bm cB n tx cm) H locs := Hd.sub hw [3, 4, 5, 6, 7, 8, 9, 10, 11, 12, 13, 14, 0, 1, 2] (by decide) rfl rfl
  refine lv_aload_n hx hb d_L_law_194 rfl (lv_at hl 2 rfl) ?_
  refine pd_calli (As := []) (rest := [.int r1]) (wr := wd a cA n 1 my2 gs2 tx bo re od2 pl2 co2 gr2 th2 se2 ct2) M hw (c_M_different l D bm cB n tx cm hn ht) k_l_L_36 k_i_M_different k_s_M_different k_in_M k_c_M_different k_d_M_different ⟨Nat.le_of_ble_eq_true rfl, Nat.le_of_ble_eq_true rfl⟩ ⟨Nat.le_of_ble_eq_true rfl, Nat.le_of_ble_eq_true rfl⟩ [12, 13, 14] [0, 1, 2, 3, 4, 5, 6, 7, 8, 9, 10, 11] [10, 11] rfl rfl rfl rfl (by decide) rfl rfl 0 rfl hl.1 (Nat.le_of_ble_eq_true rfl) rfl d_L_law_195 (fun r2 u2 H locs h2 hw => ?_)
  have hw : Hd A D (tyD cA ++ tyM cB) s (wd a cA n 1 my2 gs2 tx bo re od2 pl2 co2 gr2 th2 se2 ct2 ++ wm bm cB n tx u2) H locs := hw
  refine lv_icmp_eq (tgt := 298) hx hb d_L_law_198 (by decide) (fun _ => ?_) (fun z => absurd (h1.1.trans h2.symm) z)
  exact K _ _ _ _ _ _ _ _ _ _ _ _ _ _ _ _ _ _ (⟨hn, ht, Nat.le_refl 1, fun _ => h1.2⟩) hw hl
set_option maxHeartbeats 4000000 in
set_option maxRecDepth 100000 in
theorem op_longest {p : Program} {l : Launch} {e : Env} {s : State} {m : MethodId} {below : List Frame} {meth : Method} {c : Code} {Q : State → Prop} {A : Nat → Prop} {D : va_G} {a : Nat → Nat} {cA : Nat → ClassId} {bm : Nat → Nat} {cB : Nat → ClassId} {b L : Nat} {xs : Nat → Int32} (M : Mx code R_L 4 ret p s m meth c #[Value.ref b]) (hX : va_X b L xs s s.heap) (hbl : b < s.heap.size) (hbA : ¬ A b) (hL : L ≤ 2560) {i : Nat} (hi : i + 5 ≤ L) (K : KL p l e s m below meth c Q A D a cA bm cB b i 298) {n md my gs : Nat} {tx bo re od pl co gr th se ct cm : Nat → Nat} (hI : LIv n md tx od pl co)  {H : Heap} {locs : List Loc} {ls : Array Slot} (hw : Hd A D (tyD cA ++ tyM cB) s (wd a cA n md my gs tx bo re od pl co gr th se ct ++ wm bm cB n tx cm) H locs) (hl : lv_has ls 4 [(0, .ref b), (1, .ref (a 0)), (2, .ref (bm 0)), (3, .int (nI i))]) : W p l e room_1 s m #[Value.ref b] below meth c H locs 15 18198 Q (F0 m 203 ls []) := by
  obtain ⟨hx, hb, -, -, -, -, -⟩ := id M
  obtain ⟨hn, ht, hmd, hsa⟩ := id hI
  refine lv_aload_n hx hb d_L_law_203 rfl (lv_at hl 1 rfl) ?_
  refine pd_calli (As := []) (rest := []) (wr := wm bm cB n tx cm) M hw (c_D_longest l D a cA n md my gs tx bo re od pl co gr th se ct hn ht hmd hsa) k_l_L_37 k_i_D_longest k_s_D_longest k_in_D k_c_D_longest k_d_D_longest ⟨Nat.le_of_ble_eq_true rfl, Nat.le_of_ble_eq_true rfl⟩ ⟨Nat.le_of_ble_eq_true rfl, Nat.le_of_ble_eq_true rfl⟩ [0, 1, 2, 3, 4, 5, 6, 7, 8, 9, 10, 11] [12, 13, 14] [0, 1, 2, 3, 4, 5, 6, 7, 8, 9] rfl rfl rfl rfl (by decide) rfl rfl 0 rfl hl.1 (Nat.le_of_ble_eq_true rfl) rfl d_L_law_204 (fun r1 u1 H locs h1 hw => ?_)
  obtain ⟨my2, gs2, od2, pl2, co2, gr2, th2, se2, ct2⟩ := u1
  have hw : Hd A D (tyD cA ++ tyM cB) s (wd a cA n 1 my2 gs2 tx bo re od2 pl2 co2 gr2 th2 se2 ct2 ++ wm bm cB n tx cm) H locs := Hd.sub hw [3, 4, 5, 6, 7, 8, 9, 10, 11, 12, 13, 14, 0, 1, 2] (by decide) rfl rfl
  refine lv_aload_n hx hb d_L_law_207 rfl (lv_at hl 2 rfl) ?_
  refine pd_calli (As := []) (rest := [.int r1]) (wr := wd a cA n 1 my2 gs2 tx bo re od2 pl2 co2 gr2 th2 se2 ct2) M hw (c_M_longest l D bm cB n tx cm hn ht) k_l_L_40 k_i_M_longest k_s_M_longest k_in_M k_c_M_longest k_d_M_longest ⟨Nat.le_of_ble_eq_true rfl, Nat.le_of_ble_eq_true rfl⟩ ⟨Nat.le_of_ble_eq_true rfl, Nat.le_of_ble_eq_true rfl⟩ [12, 13, 14] [0, 1, 2, 3, 4, 5, 6, 7, 8, 9, 10, 11] [10, 11] rfl rfl rfl rfl (by decide) rfl rfl 0 rfl hl.1 (Nat.le_of_ble_eq_true rfl) rfl d_L_law_208 (fun r2 u2 H locs h2 hw => ?_)
  have hw : Hd A D (tyD cA ++ tyM cB) s (wd a cA n 1 my2 gs2 tx bo re od2 pl2 co2 gr2 th2 se2 ct2 ++ wm bm cB n tx u2) H locs := hw
  refine lv_icmp_eq (tgt := 298) hx hb d_L_law_211 (by decide) (fun _ => ?_) (fun z => absurd (h1.1.trans h2.symm) z)
  exact K _ _ _ _ _ _ _ _ _ _ _ _ _ _ _ _ _ _ (⟨hn, ht, Nat.le_refl 1, fun _ => h1.2⟩) hw hl
set_option maxHeartbeats 4000000 in
set_option maxRecDepth 100000 in
theorem op_times {p : Program} {l : Launch} {e : Env} {s : State} {m : MethodId} {below : List Frame} {meth : Method} {c : Code} {Q : State → Prop} {A : Nat → Prop} {D : va_G} {a : Nat → Nat} {cA : Nat → ClassId} {bm : Nat → Nat} {cB : Nat → ClassId} {b L : Nat} {xs : Nat → Int32} (M : Mx code R_L 4 ret p s m meth c #[Value.ref b]) (hX : va_X b L xs s s.heap) (hbl : b < s.heap.size) (hbA : ¬ A b) (hL : L ≤ 2560) {i : Nat} (hi : i + 5 ≤ L) (K : KL p l e s m below meth c Q A D a cA bm cB b i 298) {n md my gs : Nat} {tx bo re od pl co gr th se ct cm : Nat → Nat} (hI : LIv n md tx od pl co) (hc : 0 < n) {H : Heap} {locs : List Loc} {ls : Array Slot} (hw : Hd A D (tyD cA ++ tyM cB) s (wd a cA n md my gs tx bo re od pl co gr th se ct ++ wm bm cB n tx cm) H locs) (hl : lv_has ls 4 [(0, .ref b), (1, .ref (a 0)), (2, .ref (bm 0)), (3, .int (nI i))]) : W p l e room_1 s m #[Value.ref b] below meth c H locs 15 18198 Q (F0 m 216 ls []) := by
  obtain ⟨hx, hb, -, -, -, -, -⟩ := id M
  obtain ⟨hn, ht, hmd, hsa⟩ := id hI
  refine lv_aload_n hx hb d_L_law_216 rfl (lv_at hl 1 rfl) ?_
  refine lv_aload_n hx hb d_L_law_217 rfl (lv_at hl 0 rfl) ?_
  refine lv_iload_n hx hb d_L_law_218 rfl (lv_at hl 3 rfl) ?_
  refine pd_iconst (k := 1) M d_L_law_219 (by decide) ?_
  refine pd_iadd M d_L_law_220 ?_
  refine pd_sld M hX hbl hbA hw (by omega) (by omega) d_L_law_221 ?_
  refine lv_aload_n hx hb d_L_law_222 rfl (lv_at hl 0 rfl) ?_
  refine lv_iload_n hx hb d_L_law_223 rfl (lv_at hl 3 rfl) ?_
  refine pd_iconst (k := 2) M d_L_law_224 (by decide) ?_
  refine pd_iadd M d_L_law_225 ?_
  refine pd_sld M hX hbl hbA hw (by omega) (by omega) d_L_law_226 ?_
  refine pd_calli (As := [.int (xs (i + 1)), .int (xs (i + 2))]) (rest := []) (wr := wm bm cB n tx cm) M hw (c_D_times l D a cA n md my gs tx bo re od pl co gr th se ct (xs (i + 1)) (xs (i + 2)) hc hn ht hmd hsa) k_l_L_41 k_i_D_times k_s_D_times k_in_D k_c_D_times k_d_D_times ⟨Nat.le_of_ble_eq_true rfl, Nat.le_of_ble_eq_true rfl⟩ ⟨Nat.le_of_ble_eq_true rfl, Nat.le_of_ble_eq_true rfl⟩ [0, 1, 2, 3, 4, 5, 6, 7, 8, 9, 10, 11] [12, 13, 14] [0, 1, 2, 3, 4, 5, 6, 7, 8, 9] rfl rfl rfl rfl (by decide) rfl rfl 0 rfl hl.1 (Nat.le_of_ble_eq_true rfl) rfl d_L_law_227 (fun r1 u1 H locs h1 hw => ?_)
  obtain ⟨my2, gs2, od2, pl2, co2, gr2, th2, se2, ct2⟩ := u1
  have hw : Hd A D (tyD cA ++ tyM cB) s (wd a cA n 1 my2 gs2 tx bo re od2 pl2 co2 gr2 th2 se2 ct2 ++ wm bm cB n tx cm) H locs := Hd.sub hw [3, 4, 5, 6, 7, 8, 9, 10, 11, 12, 13, 14, 0, 1, 2] (by decide) rfl rfl
  refine lv_aload_n hx hb d_L_law_230 rfl (lv_at hl 2 rfl) ?_
  refine lv_aload_n hx hb d_L_law_231 rfl (lv_at hl 0 rfl) ?_
  refine lv_iload_n hx hb d_L_law_232 rfl (lv_at hl 3 rfl) ?_
  refine pd_iconst (k := 1) M d_L_law_233 (by decide) ?_
  refine pd_iadd M d_L_law_234 ?_
  refine pd_sld M hX hbl hbA hw (by omega) (by omega) d_L_law_235 ?_
  refine lv_aload_n hx hb d_L_law_236 rfl (lv_at hl 0 rfl) ?_
  refine lv_iload_n hx hb d_L_law_237 rfl (lv_at hl 3 rfl) ?_
  refine pd_iconst (k := 2) M d_L_law_238 (by decide) ?_
  refine pd_iadd M d_L_law_239 ?_
  refine pd_sld M hX hbl hbA hw (by omega) (by omega) d_L_law_240 ?_
  refine pd_calli (As := [.int (xs (i + 1)), .int (xs (i + 2))]) (rest := [.int r1]) (wr := wd a cA n 1 my2 gs2 tx bo re od2 pl2 co2 gr2 th2 se2 ct2) M hw (c_M_times l D bm cB n tx cm (xs (i + 1)) (xs (i + 2)) hc hn ht) k_l_L_45 k_i_M_times k_s_M_times k_in_M k_c_M_times k_d_M_times ⟨Nat.le_of_ble_eq_true rfl, Nat.le_of_ble_eq_true rfl⟩ ⟨Nat.le_of_ble_eq_true rfl, Nat.le_of_ble_eq_true rfl⟩ [12, 13, 14] [0, 1, 2, 3, 4, 5, 6, 7, 8, 9, 10, 11] [10, 11] rfl rfl rfl rfl (by decide) rfl rfl 0 rfl hl.1 (Nat.le_of_ble_eq_true rfl) rfl d_L_law_241 (fun r2 u2 H locs h2 hw => ?_)
  have hw : Hd A D (tyD cA ++ tyM cB) s (wd a cA n 1 my2 gs2 tx bo re od2 pl2 co2 gr2 th2 se2 ct2 ++ wm bm cB n tx u2) H locs := hw
  refine lv_icmp_eq (tgt := 298) hx hb d_L_law_244 (by decide) (fun _ => ?_) (fun z => absurd (h1.1.trans h2.symm) z)
  exact K _ _ _ _ _ _ _ _ _ _ _ _ _ _ _ _ _ _ (⟨hn, ht, Nat.le_refl 1, fun _ => h1.2⟩) hw hl
set_option maxHeartbeats 4000000 in
set_option maxRecDepth 100000 in
theorem op_times0 {p : Program} {l : Launch} {e : Env} {s : State} {m : MethodId} {below : List Frame} {meth : Method} {c : Code} {Q : State → Prop} {A : Nat → Prop} {D : va_G} {a : Nat → Nat} {cA : Nat → ClassId} {bm : Nat → Nat} {cB : Nat → ClassId} {b L : Nat} {xs : Nat → Int32} (M : Mx code R_L 4 ret p s m meth c #[Value.ref b]) (hX : va_X b L xs s s.heap) (hbl : b < s.heap.size) (hbA : ¬ A b) (hL : L ≤ 2560) {i : Nat} (hi : i + 5 ≤ L) (K : KL p l e s m below meth c Q A D a cA bm cB b i 298) {n md my gs : Nat} {tx bo re od pl co gr th se ct cm : Nat → Nat} (hI : LIv n md tx od pl co) (hc : n = 0) {H : Heap} {locs : List Loc} {ls : Array Slot} (hw : Hd A D (tyD cA ++ tyM cB) s (wd a cA n md my gs tx bo re od pl co gr th se ct ++ wm bm cB n tx cm) H locs) (hl : lv_has ls 4 [(0, .ref b), (1, .ref (a 0)), (2, .ref (bm 0)), (3, .int (nI i))]) : W p l e room_1 s m #[Value.ref b] below meth c H locs 15 18198 Q (F0 m 216 ls []) := by
  obtain ⟨hx, hb, -, -, -, -, -⟩ := id M
  obtain ⟨hn, ht, hmd, hsa⟩ := id hI
  refine lv_aload_n hx hb d_L_law_216 rfl (lv_at hl 1 rfl) ?_
  refine lv_aload_n hx hb d_L_law_217 rfl (lv_at hl 0 rfl) ?_
  refine lv_iload_n hx hb d_L_law_218 rfl (lv_at hl 3 rfl) ?_
  refine pd_iconst (k := 1) M d_L_law_219 (by decide) ?_
  refine pd_iadd M d_L_law_220 ?_
  refine pd_sld M hX hbl hbA hw (by omega) (by omega) d_L_law_221 ?_
  refine lv_aload_n hx hb d_L_law_222 rfl (lv_at hl 0 rfl) ?_
  refine lv_iload_n hx hb d_L_law_223 rfl (lv_at hl 3 rfl) ?_
  refine pd_iconst (k := 2) M d_L_law_224 (by decide) ?_
  refine pd_iadd M d_L_law_225 ?_
  refine pd_sld M hX hbl hbA hw (by omega) (by omega) d_L_law_226 ?_
  refine pd_calli (As := [.int (xs (i + 1)), .int (xs (i + 2))]) (rest := []) (wr := wm bm cB n tx cm) M hw (c_D_times0 l D a cA n md my gs tx bo re od pl co gr th se ct (xs (i + 1)) (xs (i + 2)) hc) k_l_L_41 k_i_D_times k_s_D_times k_in_D k_c_D_times k_d_D_times ⟨Nat.le_of_ble_eq_true rfl, Nat.le_of_ble_eq_true rfl⟩ ⟨Nat.le_of_ble_eq_true rfl, Nat.le_of_ble_eq_true rfl⟩ [0, 1, 2, 3, 4, 5, 6, 7, 8, 9, 10, 11] [12, 13, 14] [0, 1, 2, 3, 4, 5, 6, 7, 8, 9] rfl rfl rfl rfl (by decide) rfl rfl 0 rfl hl.1 (Nat.le_of_ble_eq_true rfl) rfl d_L_law_227 (fun r1 u1 H locs h1 hw => ?_)
  have hw : Hd A D (tyD cA ++ tyM cB) s (wd a cA n md my gs tx bo re od pl co gr th se ct ++ wm bm cB n tx cm) H locs := Hd.sub hw [3, 4, 5, 6, 7, 8, 9, 10, 11, 12, 13, 14, 0, 1, 2] (by decide) rfl rfl
  refine lv_aload_n hx hb d_L_law_230 rfl (lv_at hl 2 rfl) ?_
  refine lv_aload_n hx hb d_L_law_231 rfl (lv_at hl 0 rfl) ?_
  refine lv_iload_n hx hb d_L_law_232 rfl (lv_at hl 3 rfl) ?_
  refine pd_iconst (k := 1) M d_L_law_233 (by decide) ?_
  refine pd_iadd M d_L_law_234 ?_
  refine pd_sld M hX hbl hbA hw (by omega) (by omega) d_L_law_235 ?_
  refine lv_aload_n hx hb d_L_law_236 rfl (lv_at hl 0 rfl) ?_
  refine lv_iload_n hx hb d_L_law_237 rfl (lv_at hl 3 rfl) ?_
  refine pd_iconst (k := 2) M d_L_law_238 (by decide) ?_
  refine pd_iadd M d_L_law_239 ?_
  refine pd_sld M hX hbl hbA hw (by omega) (by omega) d_L_law_240 ?_
  refine pd_calli (As := [.int (xs (i + 1)), .int (xs (i + 2))]) (rest := [.int r1]) (wr := wd a cA n md my gs tx bo re od pl co gr th se ct) M hw (c_M_times0 l D bm cB n tx cm (xs (i + 1)) (xs (i + 2)) hc) k_l_L_45 k_i_M_times k_s_M_times k_in_M k_c_M_times k_d_M_times ⟨Nat.le_of_ble_eq_true rfl, Nat.le_of_ble_eq_true rfl⟩ ⟨Nat.le_of_ble_eq_true rfl, Nat.le_of_ble_eq_true rfl⟩ [12, 13, 14] [0, 1, 2, 3, 4, 5, 6, 7, 8, 9, 10, 11] [10, 11] rfl rfl rfl rfl (by decide) rfl rfl 0 rfl hl.1 (Nat.le_of_ble_eq_true rfl) rfl d_L_law_241 (fun r2 u2 H locs h2 hw => ?_)
  have hw : Hd A D (tyD cA ++ tyM cB) s (wd a cA n md my gs tx bo re od pl co gr th se ct ++ wm bm cB n tx cm) H locs := hw
  refine lv_icmp_eq (tgt := 298) hx hb d_L_law_244 (by decide) (fun _ => ?_) (fun z => absurd (h1.trans h2.symm) z)
  exact K _ _ _ _ _ _ _ _ _ _ _ _ _ _ _ _ _ _ (hI) hw hl
set_option maxHeartbeats 4000000 in
set_option maxRecDepth 100000 in
theorem op_rank {p : Program} {l : Launch} {e : Env} {s : State} {m : MethodId} {below : List Frame} {meth : Method} {c : Code} {Q : State → Prop} {A : Nat → Prop} {D : va_G} {a : Nat → Nat} {cA : Nat → ClassId} {bm : Nat → Nat} {cB : Nat → ClassId} {b L : Nat} {xs : Nat → Int32} (M : Mx code R_L 4 ret p s m meth c #[Value.ref b]) (hX : va_X b L xs s s.heap) (hbl : b < s.heap.size) (hbA : ¬ A b) (hL : L ≤ 2560) {i : Nat} (hi : i + 5 ≤ L) (K : KL p l e s m below meth c Q A D a cA bm cB b i 298) {n md my gs : Nat} {tx bo re od pl co gr th se ct cm : Nat → Nat} (hI : LIv n md tx od pl co) (hc : 0 < n) {H : Heap} {locs : List Loc} {ls : Array Slot} (hw : Hd A D (tyD cA ++ tyM cB) s (wd a cA n md my gs tx bo re od pl co gr th se ct ++ wm bm cB n tx cm) H locs) (hl : lv_has ls 4 [(0, .ref b), (1, .ref (a 0)), (2, .ref (bm 0)), (3, .int (nI i))]) : W p l e room_1 s m #[Value.ref b] below meth c H locs 15 18198 Q (F0 m 249 ls []) := by
  obtain ⟨hx, hb, -, -, -, -, -⟩ := id M
  obtain ⟨hn, ht, hmd, hsa⟩ := id hI
  refine lv_aload_n hx hb d_L_law_249 rfl (lv_at hl 1 rfl) ?_
  refine lv_aload_n hx hb d_L_law_250 rfl (lv_at hl 0 rfl) ?_
  refine lv_iload_n hx hb d_L_law_251 rfl (lv_at hl 3 rfl) ?_
  refine pd_iconst (k := 1) M d_L_law_252 (by decide) ?_
  refine pd_iadd M d_L_law_253 ?_
  refine pd_sld M hX hbl hbA hw (by omega) (by omega) d_L_law_254 ?_
  refine pd_calli (As := [.int (xs (i + 1))]) (rest := []) (wr := wm bm cB n tx cm) M hw (c_D_rank l D a cA n md my gs tx bo re od pl co gr th se ct (xs (i + 1)) hc hn ht hmd hsa) k_l_L_46 k_i_D_rank k_s_D_rank k_in_D k_c_D_rank k_d_D_rank ⟨Nat.le_of_ble_eq_true rfl, Nat.le_of_ble_eq_true rfl⟩ ⟨Nat.le_of_ble_eq_true rfl, Nat.le_of_ble_eq_true rfl⟩ [0, 1, 2, 3, 4, 5, 6, 7, 8, 9, 10, 11] [12, 13, 14] [0, 1, 2, 3, 4, 5, 6, 7, 8, 9] rfl rfl rfl rfl (by decide) rfl rfl 0 rfl hl.1 (Nat.le_of_ble_eq_true rfl) rfl d_L_law_255 (fun r1 u1 H locs h1 hw => ?_)
  obtain ⟨my2, gs2, od2, pl2, co2, gr2, th2, se2, ct2⟩ := u1
  have hw : Hd A D (tyD cA ++ tyM cB) s (wd a cA n 1 my2 gs2 tx bo re od2 pl2 co2 gr2 th2 se2 ct2 ++ wm bm cB n tx cm) H locs := Hd.sub hw [3, 4, 5, 6, 7, 8, 9, 10, 11, 12, 13, 14, 0, 1, 2] (by decide) rfl rfl
  refine lv_aload_n hx hb d_L_law_258 rfl (lv_at hl 2 rfl) ?_
  refine lv_aload_n hx hb d_L_law_259 rfl (lv_at hl 0 rfl) ?_
  refine lv_iload_n hx hb d_L_law_260 rfl (lv_at hl 3 rfl) ?_
  refine pd_iconst (k := 1) M d_L_law_261 (by decide) ?_
  refine pd_iadd M d_L_law_262 ?_
  refine pd_sld M hX hbl hbA hw (by omega) (by omega) d_L_law_263 ?_
  refine pd_calli (As := [.int (xs (i + 1))]) (rest := [.int r1]) (wr := wd a cA n 1 my2 gs2 tx bo re od2 pl2 co2 gr2 th2 se2 ct2) M hw (c_M_rank l D bm cB n tx cm (xs (i + 1)) hc hn ht) k_l_L_50 k_i_M_rank k_s_M_rank k_in_M k_c_M_rank k_d_M_rank ⟨Nat.le_of_ble_eq_true rfl, Nat.le_of_ble_eq_true rfl⟩ ⟨Nat.le_of_ble_eq_true rfl, Nat.le_of_ble_eq_true rfl⟩ [12, 13, 14] [0, 1, 2, 3, 4, 5, 6, 7, 8, 9, 10, 11] [10, 11] rfl rfl rfl rfl (by decide) rfl rfl 0 rfl hl.1 (Nat.le_of_ble_eq_true rfl) rfl d_L_law_264 (fun r2 u2 H locs h2 hw => ?_)
  have hw : Hd A D (tyD cA ++ tyM cB) s (wd a cA n 1 my2 gs2 tx bo re od2 pl2 co2 gr2 th2 se2 ct2 ++ wm bm cB n tx u2) H locs := hw
  refine lv_icmp_eq (tgt := 298) hx hb d_L_law_267 (by decide) (fun _ => ?_) (fun z => absurd (h1.1.trans h2.symm) z)
  exact K _ _ _ _ _ _ _ _ _ _ _ _ _ _ _ _ _ _ (⟨hn, ht, Nat.le_refl 1, fun _ => h1.2⟩) hw hl
set_option maxHeartbeats 4000000 in
set_option maxRecDepth 100000 in
theorem op_rank0 {p : Program} {l : Launch} {e : Env} {s : State} {m : MethodId} {below : List Frame} {meth : Method} {c : Code} {Q : State → Prop} {A : Nat → Prop} {D : va_G} {a : Nat → Nat} {cA : Nat → ClassId} {bm : Nat → Nat} {cB : Nat → ClassId} {b L : Nat} {xs : Nat → Int32} (M : Mx code R_L 4 ret p s m meth c #[Value.ref b]) (hX : va_X b L xs s s.heap) (hbl : b < s.heap.size) (hbA : ¬ A b) (hL : L ≤ 2560) {i : Nat} (hi : i + 5 ≤ L) (K : KL p l e s m below meth c Q A D a cA bm cB b i 298) {n md my gs : Nat} {tx bo re od pl co gr th se ct cm : Nat → Nat} (hI : LIv n md tx od pl co) (hc : n = 0) {H : Heap} {locs : List Loc} {ls : Array Slot} (hw : Hd A D (tyD cA ++ tyM cB) s (wd a cA n md my gs tx bo re od pl co gr th se ct ++ wm bm cB n tx cm) H locs) (hl : lv_has ls 4 [(0, .ref b), (1, .ref (a 0)), (2, .ref (bm 0)), (3, .int (nI i))]) : W p l e room_1 s m #[Value.ref b] below meth c H locs 15 18198 Q (F0 m 249 ls []) := by
  obtain ⟨hx, hb, -, -, -, -, -⟩ := id M
  obtain ⟨hn, ht, hmd, hsa⟩ := id hI
  refine lv_aload_n hx hb d_L_law_249 rfl (lv_at hl 1 rfl) ?_
  refine lv_aload_n hx hb d_L_law_250 rfl (lv_at hl 0 rfl) ?_
  refine lv_iload_n hx hb d_L_law_251 rfl (lv_at hl 3 rfl) ?_
  refine pd_iconst (k := 1) M d_L_law_252 (by decide) ?_
  refine pd_iadd M d_L_law_253 ?_
  refine pd_sld M hX hbl hbA hw (by omega) (by omega) d_L_law_254 ?_
  refine pd_calli (As := [.int (xs (i + 1))]) (rest := []) (wr := wm bm cB n tx cm) M hw (c_D_rank0 l D a cA n md my gs tx bo re od pl co gr th se ct (xs (i + 1)) hc) k_l_L_46 k_i_D_rank k_s_D_rank k_in_D k_c_D_rank k_d_D_rank ⟨Nat.le_of_ble_eq_true rfl, Nat.le_of_ble_eq_true rfl⟩ ⟨Nat.le_of_ble_eq_true rfl, Nat.le_of_ble_eq_true rfl⟩ [0, 1, 2, 3, 4, 5, 6, 7, 8, 9, 10, 11] [12, 13, 14] [0, 1, 2, 3, 4, 5, 6, 7, 8, 9] rfl rfl rfl rfl (by decide) rfl rfl 0 rfl hl.1 (Nat.le_of_ble_eq_true rfl) rfl d_L_law_255 (fun r1 u1 H locs h1 hw => ?_)
  have hw : Hd A D (tyD cA ++ tyM cB) s (wd a cA n md my gs tx bo re od pl co gr th se ct ++ wm bm cB n tx cm) H locs := Hd.sub hw [3, 4, 5, 6, 7, 8, 9, 10, 11, 12, 13, 14, 0, 1, 2] (by decide) rfl rfl
  refine lv_aload_n hx hb d_L_law_258 rfl (lv_at hl 2 rfl) ?_
  refine lv_aload_n hx hb d_L_law_259 rfl (lv_at hl 0 rfl) ?_
  refine lv_iload_n hx hb d_L_law_260 rfl (lv_at hl 3 rfl) ?_
  refine pd_iconst (k := 1) M d_L_law_261 (by decide) ?_
  refine pd_iadd M d_L_law_262 ?_
  refine pd_sld M hX hbl hbA hw (by omega) (by omega) d_L_law_263 ?_
  refine pd_calli (As := [.int (xs (i + 1))]) (rest := [.int r1]) (wr := wd a cA n md my gs tx bo re od pl co gr th se ct) M hw (c_M_rank0 l D bm cB n tx cm (xs (i + 1)) hc) k_l_L_50 k_i_M_rank k_s_M_rank k_in_M k_c_M_rank k_d_M_rank ⟨Nat.le_of_ble_eq_true rfl, Nat.le_of_ble_eq_true rfl⟩ ⟨Nat.le_of_ble_eq_true rfl, Nat.le_of_ble_eq_true rfl⟩ [12, 13, 14] [0, 1, 2, 3, 4, 5, 6, 7, 8, 9, 10, 11] [10, 11] rfl rfl rfl rfl (by decide) rfl rfl 0 rfl hl.1 (Nat.le_of_ble_eq_true rfl) rfl d_L_law_264 (fun r2 u2 H locs h2 hw => ?_)
  have hw : Hd A D (tyD cA ++ tyM cB) s (wd a cA n md my gs tx bo re od pl co gr th se ct ++ wm bm cB n tx cm) H locs := hw
  refine lv_icmp_eq (tgt := 298) hx hb d_L_law_267 (by decide) (fun _ => ?_) (fun z => absurd (h1.trans h2.symm) z)
  exact K _ _ _ _ _ _ _ _ _ _ _ _ _ _ _ _ _ _ (hI) hw hl
set_option maxHeartbeats 4000000 in
set_option maxRecDepth 100000 in
theorem op_period {p : Program} {l : Launch} {e : Env} {s : State} {m : MethodId} {below : List Frame} {meth : Method} {c : Code} {Q : State → Prop} {A : Nat → Prop} {D : va_G} {a : Nat → Nat} {cA : Nat → ClassId} {bm : Nat → Nat} {cB : Nat → ClassId} {b L : Nat} {xs : Nat → Int32} (M : Mx code R_L 4 ret p s m meth c #[Value.ref b]) (hX : va_X b L xs s s.heap) (hbl : b < s.heap.size) (hbA : ¬ A b) (hL : L ≤ 2560) {i : Nat} (hi : i + 5 ≤ L) (K : KL p l e s m below meth c Q A D a cA bm cB b i 298) {n md my gs : Nat} {tx bo re od pl co gr th se ct cm : Nat → Nat} (hI : LIv n md tx od pl co)  {H : Heap} {locs : List Loc} {ls : Array Slot} (hw : Hd A D (tyD cA ++ tyM cB) s (wd a cA n md my gs tx bo re od pl co gr th se ct ++ wm bm cB n tx cm) H locs) (hl : lv_has ls 4 [(0, .ref b), (1, .ref (a 0)), (2, .ref (bm 0)), (3, .int (nI i))]) : W p l e room_1 s m #[Value.ref b] below meth c H locs 15 18198 Q (F0 m 272 ls []) := by
  obtain ⟨hx, hb, -, -, -, -, -⟩ := id M
  obtain ⟨hn, ht, hmd, hsa⟩ := id hI
  refine lv_aload_n hx hb d_L_law_272 rfl (lv_at hl 1 rfl) ?_
  refine pd_calli (As := []) (rest := []) (wr := wm bm cB n tx cm) M hw (c_D_period l D a cA n md my gs tx bo re od pl co gr th se ct hn ht) k_l_L_51 k_i_D_period k_s_D_period k_in_D k_c_D_period k_d_D_period ⟨Nat.le_of_ble_eq_true rfl, Nat.le_of_ble_eq_true rfl⟩ ⟨Nat.le_of_ble_eq_true rfl, Nat.le_of_ble_eq_true rfl⟩ [0, 1, 2, 3, 4, 5, 6, 7, 8, 9, 10, 11] [12, 13, 14] [0, 1, 2, 3, 4, 5, 6, 7, 8, 9] rfl rfl rfl rfl (by decide) rfl rfl 0 rfl hl.1 (Nat.le_of_ble_eq_true rfl) rfl d_L_law_273 (fun r1 u1 H locs h1 hw => ?_)
  have hw : Hd A D (tyD cA ++ tyM cB) s (wd a cA n md my gs tx u1 re od pl co gr th se ct ++ wm bm cB n tx cm) H locs := Hd.sub hw [3, 4, 5, 6, 7, 8, 9, 10, 11, 12, 13, 14, 0, 1, 2] (by decide) rfl rfl
  refine lv_aload_n hx hb d_L_law_276 rfl (lv_at hl 2 rfl) ?_
  refine pd_calli (As := []) (rest := [.int r1]) (wr := wd a cA n md my gs tx u1 re od pl co gr th se ct) M hw (c_M_period l D bm cB n tx cm hn ht) k_l_L_54 k_i_M_period k_s_M_period k_in_M k_c_M_period k_d_M_period ⟨Nat.le_of_ble_eq_true rfl, Nat.le_of_ble_eq_true rfl⟩ ⟨Nat.le_of_ble_eq_true rfl, Nat.le_of_ble_eq_true rfl⟩ [12, 13, 14] [0, 1, 2, 3, 4, 5, 6, 7, 8, 9, 10, 11] [10, 11] rfl rfl rfl rfl (by decide) rfl rfl 0 rfl hl.1 (Nat.le_of_ble_eq_true rfl) rfl d_L_law_277 (fun r2 u2 H locs h2 hw => ?_)
  have hw : Hd A D (tyD cA ++ tyM cB) s (wd a cA n md my gs tx u1 re od pl co gr th se ct ++ wm bm cB n tx u2) H locs := hw
  refine lv_icmp_eq (tgt := 298) hx hb d_L_law_280 (by decide) (fun _ => ?_) (fun z => absurd (by obtain ⟨k1, e1, p1⟩ := h1; obtain ⟨k2, e2, p2⟩ := h2; rw [e1, e2, isPer_one p1 p2]) z)
  exact K _ _ _ _ _ _ _ _ _ _ _ _ _ _ _ _ _ _ (hI) hw hl
set_option maxHeartbeats 4000000 in
set_option maxRecDepth 100000 in
theorem op_mirror {p : Program} {l : Launch} {e : Env} {s : State} {m : MethodId} {below : List Frame} {meth : Method} {c : Code} {Q : State → Prop} {A : Nat → Prop} {D : va_G} {a : Nat → Nat} {cA : Nat → ClassId} {bm : Nat → Nat} {cB : Nat → ClassId} {b L : Nat} {xs : Nat → Int32} (M : Mx code R_L 4 ret p s m meth c #[Value.ref b]) (hX : va_X b L xs s s.heap) (hbl : b < s.heap.size) (hbA : ¬ A b) (hL : L ≤ 2560) {i : Nat} (hi : i + 5 ≤ L) (K : KL p l e s m below meth c Q A D a cA bm cB b i 298) {n md my gs : Nat} {tx bo re od pl co gr th se ct cm : Nat → Nat} (hI : LIv n md tx od pl co)  {H : Heap} {locs : List Loc} {ls : Array Slot} (hw : Hd A D (tyD cA ++ tyM cB) s (wd a cA n md my gs tx bo re od pl co gr th se ct ++ wm bm cB n tx cm) H locs) (hl : lv_has ls 4 [(0, .ref b), (1, .ref (a 0)), (2, .ref (bm 0)), (3, .int (nI i))]) : W p l e room_1 s m #[Value.ref b] below meth c H locs 15 18198 Q (F0 m 285 ls []) := by
  obtain ⟨hx, hb, -, -, -, -, -⟩ := id M
  obtain ⟨hn, ht, hmd, hsa⟩ := id hI
  refine lv_aload_n hx hb d_L_law_285 rfl (lv_at hl 1 rfl) ?_
  refine pd_calli (As := []) (rest := []) (wr := wm bm cB n tx cm) M hw (c_D_mirror l D a cA n md my gs tx bo re od pl co gr th se ct hn ht) k_l_L_55 k_i_D_mirror k_s_D_mirror k_in_D k_c_D_mirror k_d_D_mirror ⟨Nat.le_of_ble_eq_true rfl, Nat.le_of_ble_eq_true rfl⟩ ⟨Nat.le_of_ble_eq_true rfl, Nat.le_of_ble_eq_true rfl⟩ [0, 1, 2, 3, 4, 5, 6, 7, 8, 9, 10, 11] [12, 13, 14] [0, 1, 2, 3, 4, 5, 6, 7, 8, 9] rfl rfl rfl rfl (by decide) rfl rfl 0 rfl hl.1 (Nat.le_of_ble_eq_true rfl) rfl d_L_law_286 (fun r1 u1 H locs h1 hw => ?_)
  have hw : Hd A D (tyD cA ++ tyM cB) s (wd a cA n md my gs tx bo u1 od pl co gr th se ct ++ wm bm cB n tx cm) H locs := Hd.sub hw [3, 4, 5, 6, 7, 8, 9, 10, 11, 12, 13, 14, 0, 1, 2] (by decide) rfl rfl
  refine lv_aload_n hx hb d_L_law_289 rfl (lv_at hl 2 rfl) ?_
  refine pd_calli (As := []) (rest := [.int r1]) (wr := wd a cA n md my gs tx bo u1 od pl co gr th se ct) M hw (c_M_mirror l D bm cB n tx cm hn ht) k_l_L_58 k_i_M_mirror k_s_M_mirror k_in_M k_c_M_mirror k_d_M_mirror ⟨Nat.le_of_ble_eq_true rfl, Nat.le_of_ble_eq_true rfl⟩ ⟨Nat.le_of_ble_eq_true rfl, Nat.le_of_ble_eq_true rfl⟩ [12, 13, 14] [0, 1, 2, 3, 4, 5, 6, 7, 8, 9, 10, 11] [10, 11] rfl rfl rfl rfl (by decide) rfl rfl 0 rfl hl.1 (Nat.le_of_ble_eq_true rfl) rfl d_L_law_290 (fun r2 u2 H locs h2 hw => ?_)
  have hw : Hd A D (tyD cA ++ tyM cB) s (wd a cA n md my gs tx bo u1 od pl co gr th se ct ++ wm bm cB n tx cm) H locs := hw
  refine lv_icmp_eq (tgt := 298) hx hb d_L_law_293 (by decide) (fun _ => ?_) (fun z => absurd (h1.trans h2.symm) z)
  exact K _ _ _ _ _ _ _ _ _ _ _ _ _ _ _ _ _ _ (hI) hw hl
end
section
/-! the law's loop and start; what follows whole_start is the skeleton's -/
set_option maxHeartbeats 4000000 in
set_option maxRecDepth 100000 in
theorem law_loop {p : Program} {l : Launch} {e : Env} {s : State} {m : MethodId} {below : List Frame} {meth : Method} {c : Code} {D : va_G} {a : Nat → Nat} {cA : Nat → ClassId} {bm : Nat → Nat} {cB : Nat → ClassId} {b L : Nat} {xs : Nat → Int32} (M : Mx code R_L 4 ret p s m meth c #[Value.ref b]) (hlk : meth.locks = false) (hX : va_X b L xs s s.heap) (hbl : b < s.heap.size) (hL : L ≤ 2560) :
    ∀ (f i n md my gs : Nat) (tx bo re od pl co gr th se ct cm : Nat → Nat) (H : Heap) (locs : List Loc) (ls : Array Slot), L - i < f → i ≤ L → LIv n md tx od pl co → Hd (fun q : Nat => s.heap.size ≤ q) D (tyD cA ++ tyM cB) s (wd a cA n md my gs tx bo re od pl co gr th se ct ++ wm bm cB n tx cm) H locs → lv_has ls 4 [(0, .ref b), (1, .ref (a 0)), (2, .ref (bm 0)), (3, .int (nI i))] → W p l e room_1 s m #[Value.ref b] below meth c H locs 15 18198 (lw_Z below #[Value.ref b] s) (F0 m 18 ls []) := by
  obtain ⟨hx, hb, hr, -, -, -, -⟩ := id M
  have hbA : ¬ (fun q : Nat => s.heap.size ≤ q) b := Nat.not_le.mpr hbl
  intro f
  induction f with
  | zero => intro i n md my gs tx bo re od pl co gr th se ct cm H locs ls hf; exact absurd hf (Nat.not_lt_zero _)
  | succ f ih =>
    intro i n md my gs tx bo re od pl co gr th se ct cm H locs ls hf hiL hI hw hl
    refine lv_iload_n hx hb d_L_law_18 rfl (lv_at hl 3 rfl) ?_
    refine lv_aload_n hx hb d_L_law_19 rfl (lv_at hl 0 rfl) ?_
    refine va_slen hx hb hX hbl hbA hw.2.2.1 d_L_law_20 ?_
    refine pd_iconst (k := 5) M d_L_law_21 (by decide) ?_
    refine lv_isub hx hb d_L_law_22 ?_
    refine lv_icmp_gt (tgt := 304) hx hb d_L_law_23 (by decide) (fun h23 => ?_) (fun h23 => ?_)
    · refine lv_iconst (v := 1) hx hb d_L_law_304 (by decide) ?_
      refine va_forget (fun q hq => hw.2.2.1.2.2 q hq) ?_
      exact lw_ret hx hb hr hlk d_L_law_305
    · have h5 : i + 5 ≤ L := by
        rcases Nat.lt_or_ge L (i + 5) with z | z
        · exact absurd ((law_cmp hL (by omega)).mpr z) h23
        · exact z
      have K : KL p l e s m below meth c (lw_Z below #[Value.ref b] s) (fun q : Nat => s.heap.size ≤ q) D a cA bm cB b i 298 := by
        intro n md my gs tx bo re od pl co gr th se ct cm H locs ls hI hw hl
        refine pd_iinc (j := 5) (lv' := [(3, .int (nI (i + 5))), (0, .ref b), (1, .ref (a 0)), (2, .ref (bm 0))]) M d_L_law_298 hl (k := 3) rfl (by decide) (by decide) rfl (fun ls hl => ?_)
        refine lv_goto (tgt := 18) hx hb d_L_law_301 (by decide) ?_
        exact ih _ _ _ _ _ _ _ _ _ _ _ _ _ _ _ _ _ _ _ (by omega) h5 hI hw (lv_sub hl [1, 2, 3, 0] rfl)
      refine lv_aload_n hx hb d_L_law_26 rfl (lv_at hl 0 rfl) ?_
      refine lv_iload_n hx hb d_L_law_27 rfl (lv_at hl 3 rfl) ?_
      refine pd_sld M hX hbl hbA hw (by omega) (by omega) d_L_law_28 ?_
      refine pd_bipush (k := 15) M d_L_law_29 (by decide) ?_
      refine pd_iand M 4 d_L_law_31 (by decide) ?_
      obtain ⟨v, hv, ev⟩ : ∃ v, v < 16 ∧ (xs i).toBitVec.toNat % 2 ^ 4 = v := ⟨_, Nat.mod_lt _ (by decide), rfl⟩
      rw [ev]
      by_cases e0 : v = 0
      · subst e0
        refine lv_tableIn (off := 56) (tgt := 88) hx hb d_L_law_32 (by decide) (by decide) (by decide) (by decide) ?_
        rcases Nat.lt_or_ge 124 n with hc | hc
        · exact op_put0 M hX hbl hbA hL h5 K hI hc hw hl
        · exact op_put M hX hbl hbA hL h5 K hI hc hw hl
      by_cases e1 : v = 1
      · subst e1
        refine lv_tableIn (off := 109) (tgt := 141) hx hb d_L_law_32 (by decide) (by decide) (by decide) (by decide) ?_
        rcases Nat.lt_or_ge n 128 with hc | hc
        · exact op_one M hX hbl hbA hL h5 K hI hc hw hl
        · exact op_one0 M hX hbl hbA hL h5 K hI (Nat.le_antisymm hI.1 hc) hw hl
      by_cases e2 : v = 2
      · subst e2
        refine lv_tableIn (off := 132) (tgt := 164) hx hb d_L_law_32 (by decide) (by decide) (by decide) (by decide) ?_
        rcases Nat.eq_zero_or_pos n with hc | hc
        · exact op_cut0 M hX hbl hbA hL h5 K hI hc hw hl
        · exact op_cut M hX hbl hbA hL h5 K hI hc hw hl
      by_cases e3 : v = 3
      · subst e3
        refine lv_tableIn (off := 145) (tgt := 177) hx hb d_L_law_32 (by decide) (by decide) (by decide) (by decide) ?_
        exact op_length M hX hbl hbA hL h5 K hI hw hl
      by_cases e4 : v = 4
      · subst e4
        refine lv_tableIn (off := 158) (tgt := 190) hx hb d_L_law_32 (by decide) (by decide) (by decide) (by decide) ?_
        exact op_different M hX hbl hbA hL h5 K hI hw hl
      by_cases e5 : v = 5
      · subst e5
        refine lv_tableIn (off := 171) (tgt := 203) hx hb d_L_law_32 (by decide) (by decide) (by decide) (by decide) ?_
        exact op_longest M hX hbl hbA hL h5 K hI hw hl
      by_cases e6 : v = 6
      · subst e6
        refine lv_tableIn (off := 184) (tgt := 216) hx hb d_L_law_32 (by decide) (by decide) (by decide) (by decide) ?_
        rcases Nat.eq_zero_or_pos n with hc | hc
        · exact op_times0 M hX hbl hbA hL h5 K hI hc hw hl
        · exact op_times M hX hbl hbA hL h5 K hI hc hw hl
      by_cases e7 : v = 7
      · subst e7
        refine lv_tableIn (off := 217) (tgt := 249) hx hb d_L_law_32 (by decide) (by decide) (by decide) (by decide) ?_
        rcases Nat.eq_zero_or_pos n with hc | hc
        · exact op_rank0 M hX hbl hbA hL h5 K hI hc hw hl
        · exact op_rank M hX hbl hbA hL h5 K hI hc hw hl
      by_cases e8 : v = 8
      · subst e8
        refine lv_tableIn (off := 240) (tgt := 272) hx hb d_L_law_32 (by decide) (by decide) (by decide) (by decide) ?_
        exact op_period M hX hbl hbA hL h5 K hI hw hl
      by_cases e9 : v = 9
      · subst e9
        refine lv_tableIn (off := 253) (tgt := 285) hx hb d_L_law_32 (by decide) (by decide) (by decide) (by decide) ?_
        exact op_mirror M hX hbl hbA hL h5 K hI hw hl
      refine lv_tableOut (tgt := 298) hx hb d_L_law_32 (Or.inr (by rw [nI_toInt (by omega)]; omega)) (by decide) ?_
      exact K _ _ _ _ _ _ _ _ _ _ _ _ _ _ _ _ _ _ hI hw hl
set_option maxHeartbeats 4000000 in
set_option maxRecDepth 100000 in
/-- from the entry, for every script of at most 2560 ints, the law comes to its end with true -/
theorem whole_start {p : Program} {e : Env} {s : State} {m : MethodId} {below : List Frame} {meth : Method} {c : Code} (l : Launch) {b L : Nat} {xs : Nat → Int32} (hL : L ≤ 2560) (C0 : lw_At p s m meth c b L xs) : W p l e room_1 s m #[Value.ref b] below meth c s.heap [] 0 0 (lw_Z below #[Value.ref b] s) (entryFrame m ([Value.ref b] : List Value).toArray 4) := by
  obtain ⟨hx, hb, hr, hml, hown, htl, hX, hbl, hlocks, hgv⟩ := id C0
  have hts : ∀ w ∈ std, w.before #[Value.ref b] s = true := fun w hw => htl w (std_tbl w hw)
  have hown : s.vm.findClass R_L = some m.cls := hown
  have M : Mx code R_L 4 ret p s m meth c #[Value.ref b] := ⟨hx, hb, hr, hml, hown, hts, hlocks⟩
  have hnest : va_Nw (.methodLinkNest R_D 21 y_E_init R_D) s := va_Nw.of rfl (htl _ (List.mem_append_right _ (List.mem_of_getElem? (i := 15) (by decide +kernel))))
  obtain ⟨c0, iS0, hKn0⟩ := u_known (C := R_E) (T := F_E) (N := 9) (n := 9) hts i_E (hts _ k_n_E)
  obtain ⟨c1, iS1, hKn1⟩ := u_known (C := R_D) (T := F_D) (N := 6) (n := 6) hts i_D (hts _ k_n_D)
  obtain ⟨c2, iS2, hKn2⟩ := u_known (C := R_M) (T := F_M) (N := 3) (n := 3) hts i_M (hts _ k_n_M)
  obtain ⟨D, hKc⟩ : ∃ (D : va_G), ∀ (k : Nat) (q : vw_C), classes[k]? = some q → u_Kn s q.1 q.2.1 q.2.2 (D.1 k) (D.2 k) := by
    refine ⟨(fun k => if k = 0 then c0 else if k = 1 then c1 else c2, fun k => if k = 0 then iS0 else if k = 1 then iS1 else iS2), ?_⟩
    intro k q hq
    match k, hq with
    | 0, hq => cases hq; exact hKn0
    | 1, hq => cases hq; exact hKn1
    | 2, hq => cases hq; exact hKn2
    | k + 3, hq => simp [classes] at hq
  have hw : Hd (fun q : Nat => s.heap.size ≤ q) D [] s [] s.heap [] := ⟨fun k q h => by simp at h, ⟨fun i j p q h => by simp at h, fun k q h => by simp at h⟩, va_S.rf, ⟨hKc, fun k q h => by simp at h⟩, fun _ h => h⟩
  have hl := lv_entry ([.ref b]) (n := 4) (Nat.le_of_ble_eq_true rfl)
  rw [lg_entry_eq]
  generalize (lg_sl ([.ref b]) ++ List.replicate (4 - (lg_sl ([.ref b])).length) Slot.unset).toArray = ls at hl ⊢
  have hl : lv_has ls 4 [(0, .ref b)] := hl
  refine pd_new (ci := 1) (fs := [.null, .null, .null, .null, .int (nI 0), .int (nI 0)]) M hw rfl i_D t_D_ok k_cl_L_7 k_n_D k_in_D (fun j hj => by rcases (show j = 0 ∨ j = 1 ∨ j = 2 ∨ j = 3 ∨ j = 4 ∨ j = 5 by omega) with rfl | rfl | rfl | rfl | rfl | rfl <;> rfl) (Nat.le_of_ble_eq_true rfl) (Nat.le_of_ble_eq_true rfl) d_L_law_0 (fun q0 H hw => ?_)
  refine W.widen (k := 1) (n := 6) (Nat.le_of_ble_eq_true rfl) (Nat.le_of_ble_eq_true rfl) ?_
  have hw : Hd (fun q : Nat => s.heap.size ≤ q) D [] s [(q0, .inr (1, [.null, .null, .null, .null, .int (nI 0), .int (nI 0)]))] H _ := hw
  refine lv_dup hx hb d_L_law_3 rfl ?_
  refine pd_after (wr := []) (a0 := ([.ref q0] : List Value).toArray) (rest := [.ref q0]) hw [0] [] rfl rfl rfl (by decide) (va_runI (As := []) ⟨hx, hb, hml, hown, hts⟩ (c_D_init l D q0 H.size) ⟨callB_of 0 hts (std_in _ k_c_D_init) rfl rfl rfl (hts _ k_in_D) (hts _ k_l_L_9) k_d_D_init ⟨Nat.le_of_ble_eq_true rfl, Nat.le_of_ble_eq_true rfl⟩, rfl, hts _ k_i_D_init⟩ (pd_preX hw [0] rfl rfl (fun U g mk a z => va_Nw.same rfl rfl z) (fun U hW => va_Nw.warmM hW hnest)) rfl rfl hl.1 rfl (lv_room (Nat.le_of_ble_eq_true rfl)) d_L_law_4 ⟨Nat.le_of_ble_eq_true rfl, Nat.le_of_ble_eq_true rfl⟩) (fun u H locs hu hw2 => ?_)
  obtain ⟨a, cA⟩ := u
  have hu : a 0 = q0 := hu
  subst hu
  refine W.widen (k := 12) (n := 1426) (Nat.le_of_ble_eq_true rfl) (Nat.le_of_ble_eq_true rfl) ?_
  have hw : Hd (fun q : Nat => s.heap.size ≤ q) D (tyD cA) s (wd a cA 0 0 0 0 z0 z0 z0 z0 z0 z0 z0 z0 z0 z0) H locs := hw2
  refine lv_astore_n (lv' := [(1, .ref (a 0)), (0, .ref b)]) hx hb d_L_law_7 rfl hl (by decide) rfl (fun ls hl => ?_)
  refine pd_new (ci := 2) (fs := [.null, .int (nI 0), .null]) M hw rfl i_M t_M_ok k_cl_L_10 k_n_M k_in_M (fun j hj => by rcases (show j = 0 ∨ j = 1 ∨ j = 2 by omega) with rfl | rfl | rfl <;> rfl) (Nat.le_of_ble_eq_true rfl) (Nat.le_of_ble_eq_true rfl) d_L_law_8 (fun q1 H hw => ?_)
  refine W.widen (k := 13) (n := 1429) (Nat.le_of_ble_eq_true rfl) (Nat.le_of_ble_eq_true rfl) ?_
  have hw : Hd (fun q : Nat => s.heap.size ≤ q) D (tyD cA) s (wd a cA 0 0 0 0 z0 z0 z0 z0 z0 z0 z0 z0 z0 z0 ++ [(q1, .inr (2, [.null, .int (nI 0), .null]))]) H locs := hw
  refine lv_dup hx hb d_L_law_11 rfl ?_
  refine pd_after (wr := wd a cA 0 0 0 0 z0 z0 z0 z0 z0 z0 z0 z0 z0 z0) (a0 := ([.ref q1] : List Value).toArray) (rest := [.ref q1]) hw [12] [0, 1, 2, 3, 4, 5, 6, 7, 8, 9, 10, 11] rfl rfl rfl (by decide) (va_runI (As := []) ⟨hx, hb, hml, hown, hts⟩ (c_M_init l D q1 H.size) ⟨callB_of 0 hts (std_in _ k_c_M_init) rfl rfl rfl (hts _ k_in_M) (hts _ k_l_L_12) k_d_M_init ⟨Nat.le_of_ble_eq_true rfl, Nat.le_of_ble_eq_true rfl⟩, rfl, hts _ k_i_M_init⟩ (pd_preX hw [12] rfl rfl (fun _ _ _ _ z => z) (fun _ _ => trivial)) rfl rfl hl.1 rfl (lv_room (Nat.le_of_ble_eq_true rfl)) d_L_law_12 ⟨Nat.le_of_ble_eq_true rfl, Nat.le_of_ble_eq_true rfl⟩) (fun u H locs hu hw2 => ?_)
  obtain ⟨bm, cB⟩ := u
  have hu : bm 0 = q1 := hu
  subst hu
  refine W.widen (k := 15) (n := 18198) (Nat.le_of_ble_eq_true rfl) (Nat.le_of_ble_eq_true rfl) ?_
  have hw : Hd (fun q : Nat => s.heap.size ≤ q) D (tyD cA ++ tyM cB) s (wd a cA 0 0 0 0 z0 z0 z0 z0 z0 z0 z0 z0 z0 z0 ++ wm bm cB 0 z0 z0) H locs := hw2
  refine lv_astore_n (lv' := [(2, .ref (bm 0)), (1, .ref (a 0)), (0, .ref b)]) hx hb d_L_law_15 rfl hl (by decide) rfl (fun ls hl => ?_)
  refine pd_iconst (k := 0) M d_L_law_16 (by decide) ?_
  refine lv_istore_n (lv' := [(3, .int (nI 0)), (2, .ref (bm 0)), (1, .ref (a 0)), (0, .ref b)]) hx hb d_L_law_17 rfl hl (by decide) rfl (fun ls hl => ?_)
  exact law_loop M hlocks hX hbl hL (L + 1) 0 _ _ _ _ _ _ _ _ _ _ _ _ _ _ _ _ _ _ (by omega) (Nat.zero_le _) ⟨by omega, fun i hi => absurd hi (Nat.not_lt_zero _), by omega, fun z => absurd z (by decide)⟩ hw (lv_sub hl [3, 2, 1, 0] rfl)
end
section
set_option maxHeartbeats 4000000 in
theorem lw_walk (l : Launch) (b : Addr) (xs : List Int32) : MetFree l x (headSpec (Jvm.Cond.code x code maxLocals ret :: tables_1) room_1) (lw_P b xs) (fun _ _ _ _ _ => True) lw_Q := by
  refine MetFree.of_bodyS (code := code) (maxLocals := maxLocals) (ret := ret) (by decide) ?_ ?_
  · intro args s m h hn
    obtain ⟨meth, c, h1, h2, h3, h4, h5, h6, -, -⟩ := Cond.code_spec hn (atoms_spec (ws := Jvm.Cond.code x code maxLocals ret :: tables_1) h _ List.mem_cons_self)
    exact ⟨meth, c, h1, h2, h3, h4, h5, h6⟩
  · intro p e s m args below meth c s₁ B hml0 hP _
    obtain ⟨rfl, hx, hbd, hgv⟩ := hP
    obtain ⟨scr, harrAt, hlist, hof, hsmall⟩ := hx
    obtain ⟨hcb, hkn, -, -⟩ := State.arrayAt?_spec harrAt
    have hown : s.vm.findClass R_law = some m.cls := findClass_of_methodNamed B.named
    have hts0 : ∀ c ∈ (Jvm.Cond.code x code maxLocals ret :: tables_1), c.before #[Value.ref b] s = true := atoms_spec (ws := Jvm.Cond.code x code maxLocals ret :: tables_1) B.pre
    have hts : ∀ w ∈ lw_tbl, w.before #[Value.ref b] s = true := k2_hts_sels lw_privs (fun w hw => hts0 w (List.mem_cons_of_mem _ hw)) lw_privs_ok
    have hml : c.maxLocals = 4 := B.maxLocals_eq (hts0 _ List.mem_cons_self)
    have X₀ : Stand p l e room_1 s m #[Value.ref b] below meth c s₁ [] 0 0 := Stand.of_body B
    have hh0 : s₁.heap = s.heap := by rw [B.state]; rfl
    have hsz : scr.slots.size = xs.length := by rw [← Array.length_toList, hlist, List.length_map]
    have hval : ∀ j : Nat, j < xs.length → scr.slots[j]? = some (.int (xs.getD j 0)) := fun j hj => by
      rw [← Array.getElem?_toList, hlist]
      simp [hj]
    have hbl : b < s.heap.size := (Array.getElem?_eq_some_iff.mp hcb).1
    have hX : va_X b xs.length (fun j => xs.getD j 0) s s.heap := ⟨scr, hcb, hof, hkn, hsz, hval⟩
    have K : W p l e room_1 s m #[Value.ref b] below meth c s₁.heap [] 0 0 (lw_Z below #[Value.ref b] s) (entryFrame m ([Value.ref b] : List Value).toArray 4) := by
      rw [hh0]
      exact whole_start l hbd ⟨B.exec, B.bytes, B.returns, hml, hown, hts, hX, hbl, B.notSynchronized, hgv⟩
    obtain ⟨t, a1, o, b1, b2, b3⟩ := K s₁ rfl X₀
    exact ⟨t, o, a1, b1, b2, b3⟩
theorem lw_pre_spec {args : Array Value} {s : State} (h : (Jvm.Cond.and given_1 narrow_1).before args s = true) (hr : rest_1_c.before args s = true) : ∃ (b : Addr) (xs : List Int32), lw_P b xs args s := by
  have hs := flat_of_before _ h
  have hq := flat_of_before _ hr
  have hc : (Cond.count 1).before args s = true := hs _ (by decide +kernel)
  have harr : (Cond.arrayOf (.arg 0) .int).before args s = true := hs _ (by decide +kernel)
  have hle : (Cond.le (.length (.arg 0)) (.int 2560)).before args s = true := hs _ (by decide +kernel)
  have hlen : (Cond.isInt (.length (.arg 0))).before args s = true := hq _ (by decide +kernel)
  have hall : (Cond.all (.arg 0) (.isInt (.elem (.arg 0) (.index 0)))).before args s = true := hq _ (by decide +kernel)
  obtain ⟨b, xs, hb, hx⟩ := State.ints_of_pre rfl harr hlen hall
  have hsm : xs.length < 2 ^ 31 := hx.choose_spec.2.2.2
  have hev : (Term.length (.arg 0)).eval args s none [] s = some (.int xs.length.toInt32) := hx.length_eval hb
  have hv := Cond.le_ints hev (show (Term.int 2560).eval args s none [] s = some (.int 2560) from rfl)
  have hd : xs.length.toInt32 ≤ 2560 := by
    simpa [Cond.before, Cond.holds, hv] using hle
  have hN : xs.length ≤ 2560 := (Int32.ofNat_le_ofNat hsm (by decide)).mp (show Int32.ofNat xs.length ≤ Int32.ofNat 2560 from hd)
  exact ⟨b, xs, Cond.one_arg hc (show args[0]? = some (.ref b) from hb), hx, hN, h⟩
theorem lw_comes (l : Launch) : Comes l x (Jvm.Cond.code x code maxLocals ret :: tables_1) room_1 (fun tb e args s => Calls_1 tb e args s ∧ rest_1 tb e args s ∧ Pre_1 tb e args s)
    (fun _ _ args s o t => lw_Q args s o t) := by
  intro p e ha hc hk s m args below hf hfit hheap happ hpre
  obtain ⟨b, xs, hP⟩ := lw_pre_spec hpre.2.2 hpre.2.1
  obtain ⟨k, o, h1, h2, h3, hQ⟩ := lw_walk l b xs p e ha hc hk s m args below hf ((Spec.applies_iff_loose hf).mp happ).1 hP trivial
  exact ⟨k, o, h1, h2, h3, hQ⟩
theorem lw_frame {s t : State} {o : Outcome} {args : Array Value} (h : Framed s o t [] 15 18198) :
    Framed s o t (fieldLocs frame_1_writes args s ++ arrayLocs frame_1_arrays args s ++ staticLocs frame_1_statics s) 15 18198 := h
theorem lw_limb (L : Cond) (hL : ∀ (args : Array Value) (s t : State), L.after args s (.returned (some (.int 1))) t = true) :
    ArmFor flags0 classFile x code maxLocals ret World_1 tables_1 room_1 Calls_1 rest_1 Pre_1
      (fun tb e a s o t => postC L tb e a s o t ∧ Framed s o t (fieldLocs frame_1_writes a s ++ arrayLocs frame_1_arrays a s ++ staticLocs frame_1_statics s) 15 18198) := by
  intro l _ _ _ p e ha hc hk s m args below hf hfit hheap happ hpre
  obtain ⟨k, o, h1, h2, h3, rfl, hF⟩ := lw_comes l p e ha hc hk s m args below hf hfit hheap happ hpre
  exact ⟨k, _, h1, h2, h3, hL args s _, lw_frame hF⟩
theorem i_vc : Claimed_1_1 ∧ Claimed_1_2 := ⟨lw_limb limb_1_1 (fun args s t => by simp [limb_1_1, Cond.after, Cond.holds, Cond.value]), lw_limb limb_1_2 (fun args s t => Cond.after_iff.mpr (by
  first | (rw [show limb_1_2 = Cond.eq .result (.int 1) from rfl, Cond.eq_ints (x := 1) (y := 1) rfl rfl]; simp; done) | (simp [limb_1_2, Cond.value, Term.eval]; done)))⟩
end
