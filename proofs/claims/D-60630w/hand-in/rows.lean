section
-- ===== PART A: goes FIRST, ahead of the names: the tables' words, and 'selects' of the private methods out of them =====
/-- a private method of a class that the tables say can be made, by its rows of tables_1 -/
def lw_okq (q : MethodName × Nat) : Prop := (q.1.cls ≠ "java/lang/invoke/MethodHandle" ∧ q.1.cls ≠ "java/lang/invoke/VarHandle") ∧ Cond.instantiable q.1.cls q.2 ∈ tables_1 ∧ Cond.privateMethod q.1 ∈ tables_1 ∧ Cond.instanceMethod q.1 ∈ tables_1
theorem lw_p0 : lw_okq (⟨"TimeNet", "anew", "()V"⟩, 8) := ⟨⟨by decide +kernel, by decide +kernel⟩, List.mem_of_getElem? (i := 11) (by decide +kernel), List.mem_of_getElem? (i := 56) (by decide +kernel), List.mem_of_getElem? (i := 57) (by decide +kernel)⟩
theorem lw_p1 : lw_okq (⟨"TimeNet", "takes", "(LTimeNet$Constraint;)V"⟩, 8) := ⟨⟨by decide +kernel, by decide +kernel⟩, List.mem_of_getElem? (i := 11) (by decide +kernel), List.mem_of_getElem? (i := 66) (by decide +kernel), List.mem_of_getElem? (i := 67) (by decide +kernel)⟩
theorem lw_p2 : lw_okq (⟨"TimeNet", "isRefused", "(IIJ)Z"⟩, 8) := ⟨⟨by decide +kernel, by decide +kernel⟩, List.mem_of_getElem? (i := 11) (by decide +kernel), List.mem_of_getElem? (i := 123) (by decide +kernel), List.mem_of_getElem? (i := 124) (by decide +kernel)⟩
theorem lw_p3 : lw_okq (⟨"TimeNet", "clearRow", "()V"⟩, 8) := ⟨⟨by decide +kernel, by decide +kernel⟩, List.mem_of_getElem? (i := 11) (by decide +kernel), List.mem_of_getElem? (i := 128) (by decide +kernel), List.mem_of_getElem? (i := 129) (by decide +kernel)⟩
theorem lw_p4 : lw_okq (⟨"TimeNet", "tell", "(I)V"⟩, 8) := ⟨⟨by decide +kernel, by decide +kernel⟩, List.mem_of_getElem? (i := 11) (by decide +kernel), List.mem_of_getElem? (i := 132) (by decide +kernel), List.mem_of_getElem? (i := 133) (by decide +kernel)⟩
theorem lw_p5 : lw_okq (⟨"TimeNet", "follow", "(II)V"⟩, 8) := ⟨⟨by decide +kernel, by decide +kernel⟩, List.mem_of_getElem? (i := 11) (by decide +kernel), List.mem_of_getElem? (i := 136) (by decide +kernel), List.mem_of_getElem? (i := 137) (by decide +kernel)⟩
theorem lw_p6 : lw_okq (⟨"TimeNet", "goes", "(IIIJI)Z"⟩, 8) := ⟨⟨by decide +kernel, by decide +kernel⟩, List.mem_of_getElem? (i := 11) (by decide +kernel), List.mem_of_getElem? (i := 140) (by decide +kernel), List.mem_of_getElem? (i := 141) (by decide +kernel)⟩
theorem lw_p7 : lw_okq (⟨"java/lang/Throwable", "fillInStackTrace", "(I)Ljava/lang/Throwable;"⟩, 6) := ⟨⟨by decide +kernel, by decide +kernel⟩, List.mem_of_getElem? (i := 229) (by decide +kernel), List.mem_of_getElem? (i := 227) (by decide +kernel), List.mem_of_getElem? (i := 228) (by decide +kernel)⟩
theorem lw_p8 : lw_okq (⟨"TimeNetModel", "isBad", "(IIJ)Z"⟩, 12) := ⟨⟨by decide +kernel, by decide +kernel⟩, List.mem_of_getElem? (i := 262) (by decide +kernel), List.mem_of_getElem? (i := 319) (by decide +kernel), List.mem_of_getElem? (i := 320) (by decide +kernel)⟩
theorem lw_p9 : lw_okq (⟨"TimeNetModel", "best", "(II)Z"⟩, 12) := ⟨⟨by decide +kernel, by decide +kernel⟩, List.mem_of_getElem? (i := 262) (by decide +kernel), List.mem_of_getElem? (i := 323) (by decide +kernel), List.mem_of_getElem? (i := 324) (by decide +kernel)⟩
theorem lw_p10 : lw_okq (⟨"TimeNetModel", "walk", "(I)V"⟩, 12) := ⟨⟨by decide +kernel, by decide +kernel⟩, List.mem_of_getElem? (i := 262) (by decide +kernel), List.mem_of_getElem? (i := 328) (by decide +kernel), List.mem_of_getElem? (i := 329) (by decide +kernel)⟩
theorem lw_p11 : lw_okq (⟨"TimeNetModel", "step", "(II)J"⟩, 12) := ⟨⟨by decide +kernel, by decide +kernel⟩, List.mem_of_getElem? (i := 262) (by decide +kernel), List.mem_of_getElem? (i := 332) (by decide +kernel), List.mem_of_getElem? (i := 333) (by decide +kernel)⟩
theorem lw_p12 : lw_okq (⟨"TimeNetModel", "isThere", "(I)Z"⟩, 12) := ⟨⟨by decide +kernel, by decide +kernel⟩, List.mem_of_getElem? (i := 262) (by decide +kernel), List.mem_of_getElem? (i := 340) (by decide +kernel), List.mem_of_getElem? (i := 341) (by decide +kernel)⟩
def lw_privs_1 : List (MethodName × Nat) := [(⟨"TimeNet", "anew", "()V"⟩, 8), (⟨"TimeNet", "takes", "(LTimeNet$Constraint;)V"⟩, 8), (⟨"TimeNet", "isRefused", "(IIJ)Z"⟩, 8), (⟨"TimeNet", "clearRow", "()V"⟩, 8), (⟨"TimeNet", "tell", "(I)V"⟩, 8), (⟨"TimeNet", "follow", "(II)V"⟩, 8), (⟨"TimeNet", "goes", "(IIIJI)Z"⟩, 8), (⟨"java/lang/Throwable", "fillInStackTrace", "(I)Ljava/lang/Throwable;"⟩, 6), (⟨"TimeNetModel", "isBad", "(IIJ)Z"⟩, 12), (⟨"TimeNetModel", "best", "(II)Z"⟩, 12), (⟨"TimeNetModel", "walk", "(I)V"⟩, 12), (⟨"TimeNetModel", "step", "(II)J"⟩, 12), (⟨"TimeNetModel", "isThere", "(I)Z"⟩, 12)]
theorem lw_r1 : ∀ q ∈ lw_privs_1, lw_okq q := List.forall_mem_cons.mpr ⟨lw_p0, List.forall_mem_cons.mpr ⟨lw_p1, List.forall_mem_cons.mpr ⟨lw_p2, List.forall_mem_cons.mpr ⟨lw_p3, List.forall_mem_cons.mpr ⟨lw_p4, List.forall_mem_cons.mpr ⟨lw_p5, List.forall_mem_cons.mpr ⟨lw_p6, List.forall_mem_cons.mpr ⟨lw_p7, List.forall_mem_cons.mpr ⟨lw_p8, List.forall_mem_cons.mpr ⟨lw_p9, List.forall_mem_cons.mpr ⟨lw_p10, List.forall_mem_cons.mpr ⟨lw_p11, List.forall_mem_cons.mpr ⟨lw_p12, fun _ h => absurd h List.not_mem_nil⟩⟩⟩⟩⟩⟩⟩⟩⟩⟩⟩⟩⟩
def lw_privs : List (MethodName × Nat) := lw_privs_1
def lw_tbl : List Cond := k2_sels lw_privs ++ tables_1
theorem lw_privs_ok : ∀ q ∈ lw_privs, lw_okq q := lw_r1
/-- the good words among them (those that any callee may ask) -/
def lw_g : List Cond := lw_tbl.filter goodWord
theorem lw_g_in : ∀ w ∈ lw_g, w ∈ lw_tbl := fun _ h => (List.mem_filter.mp h).1
theorem lw_g_good : ∀ w ∈ lw_g, (w.onTables && w.keeps) = true ∨ ∃ ty, w = .arrayClass ty := fun _ h => good_of_word (List.mem_filter.mp h).2
theorem lw_g_mem {w : Cond} (i : Nat) (h : lw_tbl[i]? = some w) (hg : goodWord w = true) : w ∈ lw_g := List.mem_filter.mpr ⟨List.mem_of_getElem? h, hg⟩
/-- the words of a method's contract: its own code, and all good words -/
def wd_ (y : MethodName) (b : ByteArray) (n : Nat) (r : Option FieldType) : List Cond := .code y b n r :: lw_g
theorem wd_good {y : MethodName} {b : ByteArray} {n : Nat} {r : Option FieldType} (h : Cond.code y b n r ∈ lw_g) : GoodIn lw_g (wd_ y b n r) := by
  intro w hw
  rcases List.mem_cons.mp hw with rfl | hw
  · exact ⟨h, lw_g_good _ h⟩
  · exact ⟨hw, lw_g_good _ hw⟩
end
section
def q_nev : Int64 := 9223372036854775807
def R_law : String := "TimeNetLaw"
def R_X : String := "TimeNet"
def F_X : u_T := fun k => match k with
  | 0 => ("TimeNet", "constraints", "[LTimeNet$Constraint;", true)
  | 1 => ("TimeNet", "many", "I", false)
  | 2 => ("TimeNet", "alive", "I", false)
  | 3 => ("TimeNet", "paths", "LTimeNet$Paths;", true)
  | 4 => ("TimeNet", "direct", "[J", true)
  | 5 => ("TimeNet", "row", "[I", true)
  | 6 => ("TimeNet", "rowMany", "I", false)
  | _ => ("TimeNet", "rowLength", "J", false)
def t_X : Nat → FieldType := fun k => match k with
  | 0 => .array (.object "TimeNet$Constraint")
  | 1 => .int
  | 2 => .int
  | 3 => .object "TimeNet$Paths"
  | 4 => .array .long
  | 5 => .array .int
  | 6 => .int
  | _ => .long
def R_P : String := "TimeNet$Paths"
def F_P : u_T := fun k => match k with
  | 0 => ("TimeNet$Paths", "length", "[J", true)
  | _ => ("TimeNet$Paths", "steps", "[I", true)
def t_P : Nat → FieldType := fun k => match k with
  | 0 => .array .long
  | _ => .array .int
def R_C : String := "TimeNet$Constraint"
def F_C : u_T := fun k => match k with
  | 0 => ("TimeNet$Constraint", "from", "I", false)
  | 1 => ("TimeNet$Constraint", "to", "I", false)
  | 2 => ("TimeNet$Constraint", "c", "J", false)
  | _ => ("TimeNet$Constraint", "on", "Z", false)
def t_C : Nat → FieldType := fun k => match k with
  | 0 => .int
  | 1 => .int
  | 2 => .long
  | _ => .boolean
def R_M : String := "TimeNetModel"
def F_M : u_T := fun k => match k with
  | 0 => ("TimeNetModel", "thrown", "I", false)
  | 1 => ("TimeNetModel", "size", "I", false)
  | 2 => ("TimeNetModel", "first", "[I", true)
  | 3 => ("TimeNetModel", "second", "[I", true)
  | 4 => ("TimeNetModel", "c", "[J", true)
  | 5 => ("TimeNetModel", "isOn", "[Z", true)
  | 6 => ("TimeNetModel", "rowSize", "I", false)
  | 7 => ("TimeNetModel", "row", "[I", true)
  | 8 => ("TimeNetModel", "rowLength", "J", false)
  | 9 => ("TimeNetModel", "least", "[J", true)
  | 10 => ("TimeNetModel", "bestLength", "J", false)
  | _ => ("TimeNetModel", "bestSteps", "I", false)
def t_M : Nat → FieldType := fun k => match k with
  | 0 => .int
  | 1 => .int
  | 2 => .array .int
  | 3 => .array .int
  | 4 => .array .long
  | 5 => .array .boolean
  | 6 => .int
  | 7 => .array .int
  | 8 => .long
  | 9 => .array .long
  | 10 => .long
  | _ => .int
abbrev classes : List vw_C := [(R_X, F_X, 8), (R_P, F_P, 2), (R_C, F_C, 4), (R_M, F_M, 12)]
theorem n_X : ∀ a, a < 8 → ∀ b, b < 8 → a ≠ b → (F_X a).2.1 ≠ (F_X b).2.1 := by decide +kernel
theorem t_X_ok : ∀ k, k < 8 → parseFieldDescriptor (F_X k).2.2.1 = some (t_X k) := by decide +kernel
theorem i_X : ∀ w ∈ u_ws R_X F_X 8, w ∈ lw_g := by decide +kernel
theorem n_P : ∀ a, a < 2 → ∀ b, b < 2 → a ≠ b → (F_P a).2.1 ≠ (F_P b).2.1 := by decide +kernel
theorem t_P_ok : ∀ k, k < 2 → parseFieldDescriptor (F_P k).2.2.1 = some (t_P k) := by decide +kernel
theorem i_P : ∀ w ∈ u_ws R_P F_P 2, w ∈ lw_g := by decide +kernel
theorem n_C : ∀ a, a < 4 → ∀ b, b < 4 → a ≠ b → (F_C a).2.1 ≠ (F_C b).2.1 := by decide +kernel
theorem t_C_ok : ∀ k, k < 4 → parseFieldDescriptor (F_C k).2.2.1 = some (t_C k) := by decide +kernel
theorem i_C : ∀ w ∈ u_ws R_C F_C 4, w ∈ lw_g := by decide +kernel
theorem n_M : ∀ a, a < 12 → ∀ b, b < 12 → a ≠ b → (F_M a).2.1 ≠ (F_M b).2.1 := by decide +kernel
theorem t_M_ok : ∀ k, k < 12 → parseFieldDescriptor (F_M k).2.2.1 = some (t_M k) := by decide +kernel
theorem i_M : ∀ w ∈ u_ws R_M F_M 12, w ∈ lw_g := by decide +kernel
abbrev b_X_init : ByteArray := prog_1_method_1_code
def y_X_init : MethodName := ⟨"TimeNet", "<init>", "()V"⟩
abbrev b_P_init : ByteArray := prog_3_method_1_code
def y_P_init : MethodName := ⟨"TimeNet$Paths", "<init>", "()V"⟩
abbrev b_C_init : ByteArray := prog_2_method_1_code
def y_C_init : MethodName := ⟨"TimeNet$Constraint", "<init>", "()V"⟩
abbrev b_X_anew : ByteArray := prog_1_method_2_code
def y_X_anew : MethodName := ⟨"TimeNet", "anew", "()V"⟩
abbrev b_P_clear : ByteArray := prog_3_method_2_code
def y_P_clear : MethodName := ⟨"TimeNet$Paths", "clear", "()V"⟩
abbrev b_X_takes : ByteArray := prog_1_method_3_code
def y_X_takes : MethodName := ⟨"TimeNet", "takes", "(LTimeNet$Constraint;)V"⟩
abbrev b_P_at : ByteArray := prog_3_method_3_code
def y_P_at : MethodName := ⟨"TimeNet$Paths", "at", "(II)I"⟩
abbrev b_J_min : ByteArray := prog_7_method_70_code
def y_J_min : MethodName := ⟨"java/lang/Math", "min", "(JJ)J"⟩
abbrev b_P_add : ByteArray := prog_3_method_6_code
def y_P_add : MethodName := ⟨"TimeNet$Paths", "add", "(IIJ)V"⟩
abbrev b_P_isBetter : ByteArray := prog_3_method_5_code
def y_P_isBetter : MethodName := ⟨"TimeNet$Paths", "isBetter", "(IJI)Z"⟩
abbrev b_P_has : ByteArray := prog_3_method_4_code
def y_P_has : MethodName := ⟨"TimeNet$Paths", "has", "(II)Z"⟩
abbrev b_X_add : ByteArray := prog_1_method_10_code
def y_X_add : MethodName := ⟨"TimeNet", "add", "(IIJ)I"⟩
abbrev b_X_isPoint : ByteArray := prog_1_method_4_code
def y_X_isPoint : MethodName := ⟨"TimeNet", "isPoint", "(I)Z"⟩
abbrev b_X_isRefused : ByteArray := prog_1_method_9_code
def y_X_isRefused : MethodName := ⟨"TimeNet", "isRefused", "(IIJ)Z"⟩
abbrev b_X_clearRow : ByteArray := prog_1_method_5_code
def y_X_clearRow : MethodName := ⟨"TimeNet", "clearRow", "()V"⟩
abbrev b_X_tell : ByteArray := prog_1_method_6_code
def y_X_tell : MethodName := ⟨"TimeNet", "tell", "(I)V"⟩
abbrev b_X_follow : ByteArray := prog_1_method_7_code
def y_X_follow : MethodName := ⟨"TimeNet", "follow", "(II)V"⟩
abbrev b_X_goes : ByteArray := prog_1_method_8_code
def y_X_goes : MethodName := ⟨"TimeNet", "goes", "(IIIJI)Z"⟩
abbrev b_X_off : ByteArray := prog_1_method_11_code
def y_X_off : MethodName := ⟨"TimeNet", "off", "(I)Z"⟩
abbrev b_X_on : ByteArray := prog_1_method_12_code
def y_X_on : MethodName := ⟨"TimeNet", "on", "(I)I"⟩
abbrev b_X_steps : ByteArray := prog_1_method_15_code
def y_X_steps : MethodName := ⟨"TimeNet", "steps", "(II)I"⟩
abbrev b_X_path : ByteArray := prog_1_method_16_code
def y_X_path : MethodName := ⟨"TimeNet", "path", "(II)I"⟩
abbrev b_X_row : ByteArray := prog_1_method_17_code
def y_X_row : MethodName := ⟨"TimeNet", "row", "()I"⟩
abbrev b_X_rowAt : ByteArray := prog_1_method_18_code
def y_X_rowAt : MethodName := ⟨"TimeNet", "rowAt", "(I)I"⟩
abbrev b_X_length : ByteArray := prog_1_method_19_code
def y_X_length : MethodName := ⟨"TimeNet", "length", "()J"⟩
abbrev b_X_slack : ByteArray := prog_1_method_21_code
def y_X_slack : MethodName := ⟨"TimeNet", "slack", "(I)J"⟩
abbrev b_X_alive : ByteArray := prog_1_method_22_code
def y_X_alive : MethodName := ⟨"TimeNet", "alive", "()I"⟩
abbrev b_L_bound : ByteArray := method_3_code
def y_L_bound : MethodName := ⟨"TimeNetLaw", "bound", "(LTimeNet;II[J)I"⟩
abbrev b_X_bound : ByteArray := prog_1_method_14_code
def y_X_bound : MethodName := ⟨"TimeNet", "bound", "(II)J"⟩
abbrev b_X_must : ByteArray := prog_1_method_13_code
def y_X_must : MethodName := ⟨"TimeNet", "must", "(Z)V"⟩
abbrev b_L_earliest : ByteArray := method_4_code
def y_L_earliest : MethodName := ⟨"TimeNetLaw", "earliest", "(LTimeNet;I[J)I"⟩
abbrev b_X_earliest : ByteArray := prog_1_method_20_code
def y_X_earliest : MethodName := ⟨"TimeNet", "earliest", "(I)J"⟩
abbrev b_M_init : ByteArray := prog_5_method_1_code
def y_M_init : MethodName := ⟨"TimeNetModel", "<init>", "()V"⟩
abbrev b_M_thrown : ByteArray := prog_5_method_2_code
def y_M_thrown : MethodName := ⟨"TimeNetModel", "thrown", "()I"⟩
abbrev b_M_add : ByteArray := prog_5_method_9_code
def y_M_add : MethodName := ⟨"TimeNetModel", "add", "(IIJ)I"⟩
abbrev b_M_isPoint : ByteArray := prog_5_method_3_code
def y_M_isPoint : MethodName := ⟨"TimeNetModel", "isPoint", "(I)Z"⟩
abbrev b_M_isBad : ByteArray := prog_5_method_8_code
def y_M_isBad : MethodName := ⟨"TimeNetModel", "isBad", "(IIJ)Z"⟩
abbrev b_M_best : ByteArray := prog_5_method_6_code
def y_M_best : MethodName := ⟨"TimeNetModel", "best", "(II)Z"⟩
abbrev b_M_walk : ByteArray := prog_5_method_7_code
def y_M_walk : MethodName := ⟨"TimeNetModel", "walk", "(I)V"⟩
abbrev b_M_step : ByteArray := prog_5_method_5_code
def y_M_step : MethodName := ⟨"TimeNetModel", "step", "(II)J"⟩
abbrev b_M_off : ByteArray := prog_5_method_10_code
def y_M_off : MethodName := ⟨"TimeNetModel", "off", "(I)Z"⟩
abbrev b_M_isThere : ByteArray := prog_5_method_4_code
def y_M_isThere : MethodName := ⟨"TimeNetModel", "isThere", "(I)Z"⟩
abbrev b_M_on : ByteArray := prog_5_method_11_code
def y_M_on : MethodName := ⟨"TimeNetModel", "on", "(I)I"⟩
abbrev b_M_bound : ByteArray := prog_5_method_12_code
def y_M_bound : MethodName := ⟨"TimeNetModel", "bound", "(II)J"⟩
abbrev b_M_steps : ByteArray := prog_5_method_13_code
def y_M_steps : MethodName := ⟨"TimeNetModel", "steps", "(II)I"⟩
abbrev b_M_path : ByteArray := prog_5_method_14_code
def y_M_path : MethodName := ⟨"TimeNetModel", "path", "(II)I"⟩
abbrev b_M_row : ByteArray := prog_5_method_15_code
def y_M_row : MethodName := ⟨"TimeNetModel", "row", "()I"⟩
abbrev b_M_rowAt : ByteArray := prog_5_method_16_code
def y_M_rowAt : MethodName := ⟨"TimeNetModel", "rowAt", "(I)I"⟩
abbrev b_M_length : ByteArray := prog_5_method_17_code
def y_M_length : MethodName := ⟨"TimeNetModel", "length", "()J"⟩
abbrev b_M_earliest : ByteArray := prog_5_method_18_code
def y_M_earliest : MethodName := ⟨"TimeNetModel", "earliest", "(I)J"⟩
abbrev b_M_slack : ByteArray := prog_5_method_19_code
def y_M_slack : MethodName := ⟨"TimeNetModel", "slack", "(I)J"⟩
abbrev b_M_alive : ByteArray := prog_5_method_20_code
def y_M_alive : MethodName := ⟨"TimeNetModel", "alive", "()I"⟩
end
section
theorem tb_0 : Cond.initialized "TimeNetLaw" ∈ lw_g := lw_g_mem 13 (by decide +kernel) (by decide +kernel)
theorem tb_1 : Cond.initialized "TimeNet" ∈ lw_g := lw_g_mem 14 (by decide +kernel) (by decide +kernel)
theorem tb_2 : Cond.initialized "TimeNet$Paths" ∈ lw_g := lw_g_mem 15 (by decide +kernel) (by decide +kernel)
theorem tb_3 : Cond.initialized "TimeNet$Constraint" ∈ lw_g := lw_g_mem 16 (by decide +kernel) (by decide +kernel)
theorem tb_4 : Cond.initialized "java/lang/Math" ∈ lw_g := lw_g_mem 17 (by decide +kernel) (by decide +kernel)
theorem tb_5 : Cond.initialized "TimeNetModel" ∈ lw_g := lw_g_mem 18 (by decide +kernel) (by decide +kernel)
theorem tb_6 : Cond.initialized "java/lang/Throwable" ∈ lw_g := lw_g_mem 19 (by decide +kernel) (by decide +kernel)
theorem tb_7 : Cond.initialized "java/lang/Exception" ∈ lw_g := lw_g_mem 20 (by decide +kernel) (by decide +kernel)
theorem tb_8 : Cond.initialized "java/lang/RuntimeException" ∈ lw_g := lw_g_mem 21 (by decide +kernel) (by decide +kernel)
theorem tb_9 : Cond.initialized "java/util/NoSuchElementException" ∈ lw_g := lw_g_mem 22 (by decide +kernel) (by decide +kernel)
theorem tb_10 : Cond.classLink "TimeNetLaw" 8 "TimeNet" ∈ lw_g := lw_g_mem 23 (by decide +kernel) (by decide +kernel)
theorem tb_11 : Cond.instantiable "TimeNet" 8 ∈ lw_g := lw_g_mem 24 (by decide +kernel) (by decide +kernel)
theorem tb_12 : Cond.methodLink "TimeNetLaw" 19 y_X_init ∈ lw_g := lw_g_mem 25 (by decide +kernel) (by decide +kernel)
theorem tb_13 : Cond.instanceMethod y_X_init ∈ lw_g := lw_g_mem 26 (by decide +kernel) (by decide +kernel)
theorem tb_14 : Cond.code y_X_init prog_1_method_1_code 2 (Option.none : Option FieldType) ∈ lw_g := lw_g_mem 27 rfl (by decide +kernel)
theorem tb_15 : Cond.methodLink "TimeNet" 3 objectInit ∈ lw_g := lw_g_mem 28 (by decide +kernel) (by decide +kernel)
theorem tb_16 : Cond.instanceMethod objectInit ∈ lw_g := lw_g_mem 29 (by decide +kernel) (by decide +kernel)
theorem tb_17 : Cond.code objectInit object_method_1_code 1 (Option.none : Option FieldType) ∈ lw_g := lw_g_mem 30 rfl (by decide +kernel)
theorem tb_18 : Cond.classLink "TimeNet" 11 "TimeNet$Constraint" ∈ lw_g := lw_g_mem 31 (by decide +kernel) (by decide +kernel)
theorem tb_19 : Cond.arrayOver (FieldType.object "TimeNet$Constraint") ∈ lw_tbl := List.mem_of_getElem? (i := 32) (by decide +kernel)
theorem tb_20 : Cond.classLink "TimeNet" 17 "TimeNet$Paths" ∈ lw_g := lw_g_mem 33 (by decide +kernel) (by decide +kernel)
theorem tb_21 : Cond.instantiable "TimeNet$Paths" 2 ∈ lw_g := lw_g_mem 34 (by decide +kernel) (by decide +kernel)
theorem tb_22 : Cond.methodLinkNest "TimeNet" 19 y_P_init "TimeNet" ∈ lw_tbl := List.mem_of_getElem? (i := 35) (by decide +kernel)
theorem tb_23 : Cond.instanceMethod y_P_init ∈ lw_g := lw_g_mem 36 (by decide +kernel) (by decide +kernel)
theorem tb_24 : Cond.code y_P_init prog_3_method_1_code 1 (Option.none : Option FieldType) ∈ lw_g := lw_g_mem 37 rfl (by decide +kernel)
theorem tb_25 : Cond.methodLink "TimeNet$Paths" 3 objectInit ∈ lw_g := lw_g_mem 38 (by decide +kernel) (by decide +kernel)
theorem tb_26 : Cond.fieldLink "TimeNet$Paths" 9 "TimeNet$Paths" "length" "[J" ∈ lw_g := lw_g_mem 39 (by decide +kernel) (by decide +kernel)
theorem tb_27 : Cond.fieldLink "TimeNet" 83 "TimeNet$Paths" "length" "[J" ∈ lw_g := lw_g_mem 40 (by decide +kernel) (by decide +kernel)
theorem tb_28 : Cond.fieldLink "TimeNet$Paths" 15 "TimeNet$Paths" "steps" "[I" ∈ lw_g := lw_g_mem 41 (by decide +kernel) (by decide +kernel)
theorem tb_29 : Cond.fieldLink "TimeNet" 86 "TimeNet$Paths" "steps" "[I" ∈ lw_g := lw_g_mem 42 (by decide +kernel) (by decide +kernel)
theorem tb_35 : Cond.arrayClass FieldType.long ∈ lw_g := lw_g_mem 48 (by decide +kernel) (by decide +kernel)
theorem tb_36 : Cond.arrayClass FieldType.int ∈ lw_g := lw_g_mem 49 (by decide +kernel) (by decide +kernel)
theorem tb_37 : Cond.instantiable "TimeNet$Constraint" 4 ∈ lw_g := lw_g_mem 50 (by decide +kernel) (by decide +kernel)
theorem tb_38 : Cond.methodLinkNest "TimeNet" 32 y_C_init "TimeNet" ∈ lw_tbl := List.mem_of_getElem? (i := 51) (by decide +kernel)
theorem tb_39 : Cond.instanceMethod y_C_init ∈ lw_g := lw_g_mem 52 (by decide +kernel) (by decide +kernel)
theorem tb_40 : Cond.code y_C_init prog_2_method_1_code 1 (Option.none : Option FieldType) ∈ lw_g := lw_g_mem 53 rfl (by decide +kernel)
theorem tb_41 : Cond.methodLink "TimeNet$Constraint" 1 objectInit ∈ lw_g := lw_g_mem 54 (by decide +kernel) (by decide +kernel)
theorem tb_42 : Cond.fieldLink "TimeNet" 53 "TimeNet$Constraint" "from" "I" ∈ lw_g := lw_g_mem 55 (by decide +kernel) (by decide +kernel)
theorem tb_43 : Cond.fieldLink "TimeNet" 56 "TimeNet$Constraint" "to" "I" ∈ lw_g := lw_g_mem 56 (by decide +kernel) (by decide +kernel)
theorem tb_44 : Cond.fieldLink "TimeNet" 63 "TimeNet$Constraint" "c" "J" ∈ lw_g := lw_g_mem 57 (by decide +kernel) (by decide +kernel)
theorem tb_45 : Cond.fieldLink "TimeNet" 45 "TimeNet$Constraint" "on" "Z" ∈ lw_g := lw_g_mem 58 (by decide +kernel) (by decide +kernel)
theorem tb_55 : Cond.methodLink "TimeNet" 33 y_X_anew ∈ lw_g := lw_g_mem 68 (by decide +kernel) (by decide +kernel)
theorem tb_57 : Cond.instanceMethod y_X_anew ∈ lw_g := lw_g_mem 70 (by decide +kernel) (by decide +kernel)
theorem tb_58 : Cond.code y_X_anew prog_1_method_2_code 2 (Option.none : Option FieldType) ∈ lw_g := lw_g_mem 71 rfl (by decide +kernel)
theorem tb_59 : Cond.methodLink "TimeNet" 36 y_P_clear ∈ lw_g := lw_g_mem 72 (by decide +kernel) (by decide +kernel)
theorem tb_60 : Cond.instanceMethod y_P_clear ∈ lw_g := lw_g_mem 73 (by decide +kernel) (by decide +kernel)
theorem tb_61 : Cond.selects "TimeNet$Paths" y_P_clear y_P_clear ∈ lw_g := lw_g_mem 74 (by decide +kernel) (by decide +kernel)
theorem tb_62 : Cond.code y_P_clear prog_3_method_2_code 2 (Option.none : Option FieldType) ∈ lw_g := lw_g_mem 75 rfl (by decide +kernel)
theorem tb_63 : Cond.constantLong "TimeNet$Paths" 19 q_nev ∈ lw_g := lw_g_mem 76 (by decide +kernel) (by decide +kernel)
theorem tb_64 : Cond.constantLong "TimeNet" 39 q_nev ∈ lw_g := lw_g_mem 77 (by decide +kernel) (by decide +kernel)
theorem tb_65 : Cond.methodLink "TimeNet" 49 y_X_takes ∈ lw_g := lw_g_mem 78 (by decide +kernel) (by decide +kernel)
theorem tb_67 : Cond.instanceMethod y_X_takes ∈ lw_g := lw_g_mem 80 (by decide +kernel) (by decide +kernel)
theorem tb_68 : Cond.code y_X_takes prog_1_method_3_code 3 (Option.none : Option FieldType) ∈ lw_g := lw_g_mem 81 rfl (by decide +kernel)
theorem tb_69 : Cond.methodLink "TimeNet" 59 y_P_at ∈ lw_g := lw_g_mem 82 (by decide +kernel) (by decide +kernel)
theorem tb_70 : Cond.static y_P_at ∈ lw_g := lw_g_mem 83 (by decide +kernel) (by decide +kernel)
theorem tb_71 : Cond.code y_P_at prog_3_method_3_code 2 (Option.some FieldType.int) ∈ lw_g := lw_g_mem 84 rfl (by decide +kernel)
theorem tb_72 : Cond.methodLink "TimeNet" 67 y_J_min ∈ lw_g := lw_g_mem 85 (by decide +kernel) (by decide +kernel)
theorem tb_73 : Cond.static y_J_min ∈ lw_g := lw_g_mem 86 (by decide +kernel) (by decide +kernel)
theorem tb_74 : Cond.code y_J_min prog_7_method_70_code 4 (Option.some FieldType.long) ∈ lw_g := lw_g_mem 87 rfl (by decide +kernel)
theorem tb_75 : Cond.methodLink "TimeNet" 73 y_P_add ∈ lw_g := lw_g_mem 88 (by decide +kernel) (by decide +kernel)
theorem tb_76 : Cond.instanceMethod y_P_add ∈ lw_g := lw_g_mem 89 (by decide +kernel) (by decide +kernel)
theorem tb_77 : Cond.selects "TimeNet$Paths" y_P_add y_P_add ∈ lw_g := lw_g_mem 90 (by decide +kernel) (by decide +kernel)
theorem tb_78 : Cond.code y_P_add prog_3_method_6_code 13 (Option.none : Option FieldType) ∈ lw_g := lw_g_mem 91 rfl (by decide +kernel)
theorem tb_79 : Cond.methodLink "TimeNet$Paths" 21 y_P_at ∈ lw_g := lw_g_mem 92 (by decide +kernel) (by decide +kernel)
theorem tb_80 : Cond.methodLink "TimeNet$Paths" 25 y_P_isBetter ∈ lw_g := lw_g_mem 93 (by decide +kernel) (by decide +kernel)
theorem tb_81 : Cond.instanceMethod y_P_isBetter ∈ lw_g := lw_g_mem 94 (by decide +kernel) (by decide +kernel)
theorem tb_82 : Cond.selects "TimeNet$Paths" y_P_isBetter y_P_isBetter ∈ lw_g := lw_g_mem 95 (by decide +kernel) (by decide +kernel)
theorem tb_83 : Cond.code y_P_isBetter prog_3_method_5_code 5 (Option.some FieldType.boolean) ∈ lw_g := lw_g_mem 96 rfl (by decide +kernel)
theorem tb_84 : Cond.methodLink "TimeNet$Paths" 29 y_P_has ∈ lw_g := lw_g_mem 97 (by decide +kernel) (by decide +kernel)
theorem tb_85 : Cond.instanceMethod y_P_has ∈ lw_g := lw_g_mem 98 (by decide +kernel) (by decide +kernel)
theorem tb_86 : Cond.selects "TimeNet$Paths" y_P_has y_P_has ∈ lw_g := lw_g_mem 99 (by decide +kernel) (by decide +kernel)
theorem tb_87 : Cond.code y_P_has prog_3_method_4_code 3 (Option.some FieldType.boolean) ∈ lw_g := lw_g_mem 100 rfl (by decide +kernel)
theorem tb_88 : Cond.fieldLink "TimeNet" 13 "TimeNet" "constraints" "[LTimeNet$Constraint;" ∈ lw_g := lw_g_mem 101 (by decide +kernel) (by decide +kernel)
theorem tb_89 : Cond.fieldLink "TimeNet" 41 "TimeNet" "many" "I" ∈ lw_g := lw_g_mem 102 (by decide +kernel) (by decide +kernel)
theorem tb_90 : Cond.fieldLink "TimeNet" 120 "TimeNet" "alive" "I" ∈ lw_g := lw_g_mem 103 (by decide +kernel) (by decide +kernel)
theorem tb_91 : Cond.fieldLink "TimeNet" 20 "TimeNet" "paths" "LTimeNet$Paths;" ∈ lw_g := lw_g_mem 104 (by decide +kernel) (by decide +kernel)
theorem tb_92 : Cond.fieldLink "TimeNet" 24 "TimeNet" "direct" "[J" ∈ lw_g := lw_g_mem 105 (by decide +kernel) (by decide +kernel)
theorem tb_93 : Cond.fieldLink "TimeNet" 28 "TimeNet" "row" "[I" ∈ lw_g := lw_g_mem 106 (by decide +kernel) (by decide +kernel)
theorem tb_94 : Cond.fieldLink "TimeNet" 77 "TimeNet" "rowMany" "I" ∈ lw_g := lw_g_mem 107 (by decide +kernel) (by decide +kernel)
theorem tb_95 : Cond.fieldLink "TimeNet" 80 "TimeNet" "rowLength" "J" ∈ lw_g := lw_g_mem 108 (by decide +kernel) (by decide +kernel)
theorem tb_113 : Cond.methodLink "TimeNetLaw" 25 y_X_add ∈ lw_g := lw_g_mem 126 (by decide +kernel) (by decide +kernel)
theorem tb_114 : Cond.instanceMethod y_X_add ∈ lw_g := lw_g_mem 127 (by decide +kernel) (by decide +kernel)
theorem tb_115 : Cond.selects "TimeNet" y_X_add y_X_add ∈ lw_g := lw_g_mem 128 (by decide +kernel) (by decide +kernel)
theorem tb_116 : Cond.code y_X_add prog_1_method_10_code 6 (Option.some FieldType.int) ∈ lw_g := lw_g_mem 129 rfl (by decide +kernel)
theorem tb_117 : Cond.methodLink "TimeNet" 108 y_X_isPoint ∈ lw_g := lw_g_mem 130 (by decide +kernel) (by decide +kernel)
theorem tb_118 : Cond.static y_X_isPoint ∈ lw_g := lw_g_mem 131 (by decide +kernel) (by decide +kernel)
theorem tb_119 : Cond.code y_X_isPoint prog_1_method_4_code 1 (Option.some FieldType.boolean) ∈ lw_g := lw_g_mem 132 rfl (by decide +kernel)
theorem tb_120 : Cond.constantLong "TimeNet" 112 (-1000000000000 : Int64) ∈ lw_g := lw_g_mem 133 (by decide +kernel) (by decide +kernel)
theorem tb_121 : Cond.constantLong "TimeNet" 114 (1000000000000 : Int64) ∈ lw_g := lw_g_mem 134 (by decide +kernel) (by decide +kernel)
theorem tb_122 : Cond.methodLink "TimeNet" 116 y_X_isRefused ∈ lw_g := lw_g_mem 135 (by decide +kernel) (by decide +kernel)
theorem tb_124 : Cond.instanceMethod y_X_isRefused ∈ lw_g := lw_g_mem 137 (by decide +kernel) (by decide +kernel)
theorem tb_125 : Cond.code y_X_isRefused prog_1_method_9_code 5 (Option.some FieldType.boolean) ∈ lw_g := lw_g_mem 138 rfl (by decide +kernel)
theorem tb_126 : Cond.methodLink "TimeNet" 97 y_P_has ∈ lw_g := lw_g_mem 139 (by decide +kernel) (by decide +kernel)
theorem tb_127 : Cond.methodLink "TimeNet" 101 y_X_clearRow ∈ lw_g := lw_g_mem 140 (by decide +kernel) (by decide +kernel)
theorem tb_129 : Cond.instanceMethod y_X_clearRow ∈ lw_g := lw_g_mem 142 (by decide +kernel) (by decide +kernel)
theorem tb_130 : Cond.code y_X_clearRow prog_1_method_5_code 1 (Option.none : Option FieldType) ∈ lw_g := lw_g_mem 143 rfl (by decide +kernel)
theorem tb_131 : Cond.methodLink "TimeNet" 93 y_X_tell ∈ lw_g := lw_g_mem 144 (by decide +kernel) (by decide +kernel)
theorem tb_133 : Cond.instanceMethod y_X_tell ∈ lw_g := lw_g_mem 146 (by decide +kernel) (by decide +kernel)
theorem tb_134 : Cond.code y_X_tell prog_1_method_6_code 2 (Option.none : Option FieldType) ∈ lw_g := lw_g_mem 147 rfl (by decide +kernel)
theorem tb_135 : Cond.methodLink "TimeNet" 104 y_X_follow ∈ lw_g := lw_g_mem 148 (by decide +kernel) (by decide +kernel)
theorem tb_137 : Cond.instanceMethod y_X_follow ∈ lw_g := lw_g_mem 150 (by decide +kernel) (by decide +kernel)
theorem tb_138 : Cond.code y_X_follow prog_1_method_7_code 8 (Option.none : Option FieldType) ∈ lw_g := lw_g_mem 151 rfl (by decide +kernel)
theorem tb_139 : Cond.methodLink "TimeNet" 89 y_X_goes ∈ lw_g := lw_g_mem 152 (by decide +kernel) (by decide +kernel)
theorem tb_141 : Cond.instanceMethod y_X_goes ∈ lw_g := lw_g_mem 154 (by decide +kernel) (by decide +kernel)
theorem tb_142 : Cond.code y_X_goes prog_1_method_8_code 9 (Option.some FieldType.boolean) ∈ lw_g := lw_g_mem 155 rfl (by decide +kernel)
theorem tb_143 : Cond.methodLink "TimeNetLaw" 30 y_X_off ∈ lw_g := lw_g_mem 156 (by decide +kernel) (by decide +kernel)
theorem tb_144 : Cond.instanceMethod y_X_off ∈ lw_g := lw_g_mem 157 (by decide +kernel) (by decide +kernel)
theorem tb_145 : Cond.selects "TimeNet" y_X_off y_X_off ∈ lw_g := lw_g_mem 158 (by decide +kernel) (by decide +kernel)
theorem tb_146 : Cond.code y_X_off prog_1_method_11_code 2 (Option.some FieldType.boolean) ∈ lw_g := lw_g_mem 159 rfl (by decide +kernel)
theorem tb_147 : Cond.methodLink "TimeNetLaw" 35 y_X_on ∈ lw_g := lw_g_mem 160 (by decide +kernel) (by decide +kernel)
theorem tb_148 : Cond.instanceMethod y_X_on ∈ lw_g := lw_g_mem 161 (by decide +kernel) (by decide +kernel)
theorem tb_149 : Cond.selects "TimeNet" y_X_on y_X_on ∈ lw_g := lw_g_mem 162 (by decide +kernel) (by decide +kernel)
theorem tb_150 : Cond.code y_X_on prog_1_method_12_code 3 (Option.some FieldType.int) ∈ lw_g := lw_g_mem 163 rfl (by decide +kernel)
theorem tb_151 : Cond.methodLink "TimeNetLaw" 50 y_X_steps ∈ lw_g := lw_g_mem 164 (by decide +kernel) (by decide +kernel)
theorem tb_152 : Cond.instanceMethod y_X_steps ∈ lw_g := lw_g_mem 165 (by decide +kernel) (by decide +kernel)
theorem tb_153 : Cond.selects "TimeNet" y_X_steps y_X_steps ∈ lw_g := lw_g_mem 166 (by decide +kernel) (by decide +kernel)
theorem tb_154 : Cond.code y_X_steps prog_1_method_15_code 3 (Option.some FieldType.int) ∈ lw_g := lw_g_mem 167 rfl (by decide +kernel)
theorem tb_155 : Cond.methodLink "TimeNetLaw" 55 y_X_path ∈ lw_g := lw_g_mem 168 (by decide +kernel) (by decide +kernel)
theorem tb_156 : Cond.instanceMethod y_X_path ∈ lw_g := lw_g_mem 169 (by decide +kernel) (by decide +kernel)
theorem tb_157 : Cond.selects "TimeNet" y_X_path y_X_path ∈ lw_g := lw_g_mem 170 (by decide +kernel) (by decide +kernel)
theorem tb_158 : Cond.code y_X_path prog_1_method_16_code 3 (Option.some FieldType.int) ∈ lw_g := lw_g_mem 171 rfl (by decide +kernel)
theorem tb_159 : Cond.methodLink "TimeNet" 130 y_X_steps ∈ lw_g := lw_g_mem 172 (by decide +kernel) (by decide +kernel)
theorem tb_160 : Cond.methodLink "TimeNetLaw" 59 y_X_row ∈ lw_g := lw_g_mem 173 (by decide +kernel) (by decide +kernel)
theorem tb_161 : Cond.instanceMethod y_X_row ∈ lw_g := lw_g_mem 174 (by decide +kernel) (by decide +kernel)
theorem tb_162 : Cond.selects "TimeNet" y_X_row y_X_row ∈ lw_g := lw_g_mem 175 (by decide +kernel) (by decide +kernel)
theorem tb_163 : Cond.code y_X_row prog_1_method_17_code 1 (Option.some FieldType.int) ∈ lw_g := lw_g_mem 176 rfl (by decide +kernel)
theorem tb_164 : Cond.methodLink "TimeNetLaw" 63 y_X_rowAt ∈ lw_g := lw_g_mem 177 (by decide +kernel) (by decide +kernel)
theorem tb_165 : Cond.instanceMethod y_X_rowAt ∈ lw_g := lw_g_mem 178 (by decide +kernel) (by decide +kernel)
theorem tb_166 : Cond.selects "TimeNet" y_X_rowAt y_X_rowAt ∈ lw_g := lw_g_mem 179 (by decide +kernel) (by decide +kernel)
theorem tb_167 : Cond.code y_X_rowAt prog_1_method_18_code 2 (Option.some FieldType.int) ∈ lw_g := lw_g_mem 180 rfl (by decide +kernel)
theorem tb_168 : Cond.methodLink "TimeNetLaw" 67 y_X_length ∈ lw_g := lw_g_mem 181 (by decide +kernel) (by decide +kernel)
theorem tb_169 : Cond.instanceMethod y_X_length ∈ lw_g := lw_g_mem 182 (by decide +kernel) (by decide +kernel)
theorem tb_170 : Cond.selects "TimeNet" y_X_length y_X_length ∈ lw_g := lw_g_mem 183 (by decide +kernel) (by decide +kernel)
theorem tb_171 : Cond.code y_X_length prog_1_method_19_code 1 (Option.some FieldType.long) ∈ lw_g := lw_g_mem 184 rfl (by decide +kernel)
theorem tb_172 : Cond.methodLink "TimeNetLaw" 76 y_X_slack ∈ lw_g := lw_g_mem 185 (by decide +kernel) (by decide +kernel)
theorem tb_173 : Cond.instanceMethod y_X_slack ∈ lw_g := lw_g_mem 186 (by decide +kernel) (by decide +kernel)
theorem tb_174 : Cond.selects "TimeNet" y_X_slack y_X_slack ∈ lw_g := lw_g_mem 187 (by decide +kernel) (by decide +kernel)
theorem tb_175 : Cond.code y_X_slack prog_1_method_21_code 2 (Option.some FieldType.long) ∈ lw_g := lw_g_mem 188 rfl (by decide +kernel)
theorem tb_176 : Cond.constantLong "TimeNet" 134 (-1 : Int64) ∈ lw_g := lw_g_mem 189 (by decide +kernel) (by decide +kernel)
theorem tb_177 : Cond.methodLink "TimeNetLaw" 80 y_X_alive ∈ lw_g := lw_g_mem 190 (by decide +kernel) (by decide +kernel)
theorem tb_178 : Cond.instanceMethod y_X_alive ∈ lw_g := lw_g_mem 191 (by decide +kernel) (by decide +kernel)
theorem tb_179 : Cond.selects "TimeNet" y_X_alive y_X_alive ∈ lw_g := lw_g_mem 192 (by decide +kernel) (by decide +kernel)
theorem tb_180 : Cond.code y_X_alive prog_1_method_22_code 1 (Option.some FieldType.int) ∈ lw_g := lw_g_mem 193 rfl (by decide +kernel)
theorem tb_181 : Cond.methodLink "TimeNetLaw" 40 y_L_bound ∈ lw_g := lw_g_mem 194 (by decide +kernel) (by decide +kernel)
theorem tb_182 : Cond.static y_L_bound ∈ lw_g := lw_g_mem 195 (by decide +kernel) (by decide +kernel)
theorem tb_184 : Cond.classLink "TimeNetLaw" 13 "java/util/NoSuchElementException" ∈ lw_g := lw_g_mem 197 (by decide +kernel) (by decide +kernel)
theorem tb_185 : Cond.methodLink "TimeNetLaw" 7 y_X_bound ∈ lw_g := lw_g_mem 198 (by decide +kernel) (by decide +kernel)
theorem tb_186 : Cond.instanceMethod y_X_bound ∈ lw_g := lw_g_mem 199 (by decide +kernel) (by decide +kernel)
theorem tb_187 : Cond.selects "TimeNet" y_X_bound y_X_bound ∈ lw_g := lw_g_mem 200 (by decide +kernel) (by decide +kernel)
theorem tb_188 : Cond.code y_X_bound prog_1_method_14_code 3 (Option.some FieldType.long) ∈ lw_g := lw_g_mem 201 rfl (by decide +kernel)
theorem tb_189 : Cond.methodLink "TimeNet" 126 y_X_must ∈ lw_g := lw_g_mem 202 (by decide +kernel) (by decide +kernel)
theorem tb_190 : Cond.static y_X_must ∈ lw_g := lw_g_mem 203 (by decide +kernel) (by decide +kernel)
theorem tb_191 : Cond.code y_X_must prog_1_method_13_code 1 (Option.none : Option FieldType) ∈ lw_g := lw_g_mem 204 rfl (by decide +kernel)
theorem tb_192 : Cond.classLink "TimeNet" 123 "java/util/NoSuchElementException" ∈ lw_g := lw_g_mem 205 (by decide +kernel) (by decide +kernel)
theorem tb_193 : Cond.instantiable "java/util/NoSuchElementException" 6 ∈ lw_g := lw_g_mem 206 (by decide +kernel) (by decide +kernel)
theorem tb_194 : Cond.castable "java/util/NoSuchElementException" "java/util/NoSuchElementException" ∈ lw_tbl := List.mem_of_getElem? (i := 207) (by decide +kernel)
theorem tb_219 : Cond.laysStatic "java/lang/Throwable" "UNASSIGNED_STACK" "[Ljava/lang/StackTraceElement;" ∈ lw_tbl := List.mem_of_getElem? (i := 232) (by decide +kernel)
theorem tb_221 : Cond.laysStatic "java/lang/Throwable" "SUPPRESSED_SENTINEL" "Ljava/util/List;" ∈ lw_tbl := List.mem_of_getElem? (i := 234) (by decide +kernel)
theorem tb_231 : Cond.methodLink "TimeNet" 125 (⟨"java/util/NoSuchElementException", "<init>", "()V"⟩ : MethodName) ∈ lw_g := lw_g_mem 244 (by decide +kernel) (by decide +kernel)
theorem tb_253 : Cond.methodLink "TimeNetLaw" 72 y_L_earliest ∈ lw_g := lw_g_mem 266 (by decide +kernel) (by decide +kernel)
theorem tb_254 : Cond.static y_L_earliest ∈ lw_g := lw_g_mem 267 (by decide +kernel) (by decide +kernel)
theorem tb_256 : Cond.methodLink "TimeNetLaw" 15 y_X_earliest ∈ lw_g := lw_g_mem 269 (by decide +kernel) (by decide +kernel)
theorem tb_257 : Cond.instanceMethod y_X_earliest ∈ lw_g := lw_g_mem 270 (by decide +kernel) (by decide +kernel)
theorem tb_258 : Cond.selects "TimeNet" y_X_earliest y_X_earliest ∈ lw_g := lw_g_mem 271 (by decide +kernel) (by decide +kernel)
theorem tb_259 : Cond.code y_X_earliest prog_1_method_20_code 2 (Option.some FieldType.long) ∈ lw_g := lw_g_mem 272 rfl (by decide +kernel)
theorem tb_260 : Cond.constantLong "TimeNet" 132 (-9223372036854775808 : Int64) ∈ lw_g := lw_g_mem 273 (by decide +kernel) (by decide +kernel)
theorem tb_261 : Cond.classLink "TimeNetLaw" 20 "TimeNetModel" ∈ lw_g := lw_g_mem 274 (by decide +kernel) (by decide +kernel)
theorem tb_262 : Cond.instantiable "TimeNetModel" 12 ∈ lw_g := lw_g_mem 275 (by decide +kernel) (by decide +kernel)
theorem tb_263 : Cond.methodLink "TimeNetLaw" 22 y_M_init ∈ lw_g := lw_g_mem 276 (by decide +kernel) (by decide +kernel)
theorem tb_264 : Cond.instanceMethod y_M_init ∈ lw_g := lw_g_mem 277 (by decide +kernel) (by decide +kernel)
theorem tb_265 : Cond.code y_M_init prog_5_method_1_code 1 (Option.none : Option FieldType) ∈ lw_g := lw_g_mem 278 rfl (by decide +kernel)
theorem tb_266 : Cond.methodLink "TimeNetModel" 1 objectInit ∈ lw_g := lw_g_mem 279 (by decide +kernel) (by decide +kernel)
theorem tb_267 : Cond.fieldLink "TimeNetModel" 30 "TimeNetModel" "thrown" "I" ∈ lw_g := lw_g_mem 280 (by decide +kernel) (by decide +kernel)
theorem tb_268 : Cond.fieldLink "TimeNetModel" 34 "TimeNetModel" "size" "I" ∈ lw_g := lw_g_mem 281 (by decide +kernel) (by decide +kernel)
theorem tb_269 : Cond.fieldLink "TimeNetModel" 7 "TimeNetModel" "first" "[I" ∈ lw_g := lw_g_mem 282 (by decide +kernel) (by decide +kernel)
theorem tb_270 : Cond.fieldLink "TimeNetModel" 13 "TimeNetModel" "second" "[I" ∈ lw_g := lw_g_mem 283 (by decide +kernel) (by decide +kernel)
theorem tb_271 : Cond.fieldLink "TimeNetModel" 16 "TimeNetModel" "c" "[J" ∈ lw_g := lw_g_mem 284 (by decide +kernel) (by decide +kernel)
theorem tb_272 : Cond.fieldLink "TimeNetModel" 20 "TimeNetModel" "isOn" "[Z" ∈ lw_g := lw_g_mem 285 (by decide +kernel) (by decide +kernel)
theorem tb_273 : Cond.fieldLink "TimeNetModel" 50 "TimeNetModel" "rowSize" "I" ∈ lw_g := lw_g_mem 286 (by decide +kernel) (by decide +kernel)
theorem tb_274 : Cond.fieldLink "TimeNetModel" 24 "TimeNetModel" "row" "[I" ∈ lw_g := lw_g_mem 287 (by decide +kernel) (by decide +kernel)
theorem tb_275 : Cond.fieldLink "TimeNetModel" 61 "TimeNetModel" "rowLength" "J" ∈ lw_g := lw_g_mem 288 (by decide +kernel) (by decide +kernel)
theorem tb_276 : Cond.fieldLink "TimeNetModel" 27 "TimeNetModel" "least" "[J" ∈ lw_g := lw_g_mem 289 (by decide +kernel) (by decide +kernel)
theorem tb_277 : Cond.fieldLink "TimeNetModel" 42 "TimeNetModel" "bestLength" "J" ∈ lw_g := lw_g_mem 290 (by decide +kernel) (by decide +kernel)
theorem tb_278 : Cond.fieldLink "TimeNetModel" 39 "TimeNetModel" "bestSteps" "I" ∈ lw_g := lw_g_mem 291 (by decide +kernel) (by decide +kernel)
theorem tb_304 : Cond.arrayClass FieldType.boolean ∈ lw_g := lw_g_mem 317 (by decide +kernel) (by decide +kernel)
theorem tb_305 : Cond.methodLink "TimeNetLaw" 46 y_M_thrown ∈ lw_g := lw_g_mem 318 (by decide +kernel) (by decide +kernel)
theorem tb_306 : Cond.instanceMethod y_M_thrown ∈ lw_g := lw_g_mem 319 (by decide +kernel) (by decide +kernel)
theorem tb_307 : Cond.selects "TimeNetModel" y_M_thrown y_M_thrown ∈ lw_g := lw_g_mem 320 (by decide +kernel) (by decide +kernel)
theorem tb_308 : Cond.code y_M_thrown prog_5_method_2_code 1 (Option.some FieldType.int) ∈ lw_g := lw_g_mem 321 rfl (by decide +kernel)
theorem tb_309 : Cond.methodLink "TimeNetLaw" 29 y_M_add ∈ lw_g := lw_g_mem 322 (by decide +kernel) (by decide +kernel)
theorem tb_310 : Cond.instanceMethod y_M_add ∈ lw_g := lw_g_mem 323 (by decide +kernel) (by decide +kernel)
theorem tb_311 : Cond.selects "TimeNetModel" y_M_add y_M_add ∈ lw_g := lw_g_mem 324 (by decide +kernel) (by decide +kernel)
theorem tb_312 : Cond.code y_M_add prog_5_method_9_code 5 (Option.some FieldType.int) ∈ lw_g := lw_g_mem 325 rfl (by decide +kernel)
theorem tb_313 : Cond.methodLink "TimeNetModel" 64 y_M_isPoint ∈ lw_g := lw_g_mem 326 (by decide +kernel) (by decide +kernel)
theorem tb_314 : Cond.static y_M_isPoint ∈ lw_g := lw_g_mem 327 (by decide +kernel) (by decide +kernel)
theorem tb_315 : Cond.code y_M_isPoint prog_5_method_3_code 1 (Option.some FieldType.boolean) ∈ lw_g := lw_g_mem 328 rfl (by decide +kernel)
theorem tb_316 : Cond.constantLong "TimeNetModel" 68 (-1000000000000 : Int64) ∈ lw_g := lw_g_mem 329 (by decide +kernel) (by decide +kernel)
theorem tb_317 : Cond.constantLong "TimeNetModel" 70 (1000000000000 : Int64) ∈ lw_g := lw_g_mem 330 (by decide +kernel) (by decide +kernel)
theorem tb_318 : Cond.methodLink "TimeNetModel" 72 y_M_isBad ∈ lw_g := lw_g_mem 331 (by decide +kernel) (by decide +kernel)
theorem tb_320 : Cond.instanceMethod y_M_isBad ∈ lw_g := lw_g_mem 333 (by decide +kernel) (by decide +kernel)
theorem tb_321 : Cond.code y_M_isBad prog_5_method_8_code 5 (Option.some FieldType.boolean) ∈ lw_g := lw_g_mem 334 rfl (by decide +kernel)
theorem tb_322 : Cond.methodLink "TimeNetModel" 53 y_M_best ∈ lw_g := lw_g_mem 335 (by decide +kernel) (by decide +kernel)
theorem tb_324 : Cond.instanceMethod y_M_best ∈ lw_g := lw_g_mem 337 (by decide +kernel) (by decide +kernel)
theorem tb_325 : Cond.code y_M_best prog_5_method_6_code 7 (Option.some FieldType.boolean) ∈ lw_g := lw_g_mem 338 rfl (by decide +kernel)
theorem tb_326 : Cond.constantLong "TimeNetModel" 37 q_nev ∈ lw_g := lw_g_mem 339 (by decide +kernel) (by decide +kernel)
theorem tb_327 : Cond.methodLink "TimeNetModel" 57 y_M_walk ∈ lw_g := lw_g_mem 340 (by decide +kernel) (by decide +kernel)
theorem tb_329 : Cond.instanceMethod y_M_walk ∈ lw_g := lw_g_mem 342 (by decide +kernel) (by decide +kernel)
theorem tb_330 : Cond.code y_M_walk prog_5_method_7_code 5 (Option.none : Option FieldType) ∈ lw_g := lw_g_mem 343 rfl (by decide +kernel)
theorem tb_331 : Cond.methodLink "TimeNetModel" 46 y_M_step ∈ lw_g := lw_g_mem 344 (by decide +kernel) (by decide +kernel)
theorem tb_333 : Cond.instanceMethod y_M_step ∈ lw_g := lw_g_mem 346 (by decide +kernel) (by decide +kernel)
theorem tb_334 : Cond.code y_M_step prog_5_method_5_code 6 (Option.some FieldType.long) ∈ lw_g := lw_g_mem 347 rfl (by decide +kernel)
theorem tb_335 : Cond.methodLink "TimeNetLaw" 34 y_M_off ∈ lw_g := lw_g_mem 348 (by decide +kernel) (by decide +kernel)
theorem tb_336 : Cond.instanceMethod y_M_off ∈ lw_g := lw_g_mem 349 (by decide +kernel) (by decide +kernel)
theorem tb_337 : Cond.selects "TimeNetModel" y_M_off y_M_off ∈ lw_g := lw_g_mem 350 (by decide +kernel) (by decide +kernel)
theorem tb_338 : Cond.code y_M_off prog_5_method_10_code 2 (Option.some FieldType.boolean) ∈ lw_g := lw_g_mem 351 rfl (by decide +kernel)
theorem tb_339 : Cond.methodLink "TimeNetModel" 76 y_M_isThere ∈ lw_g := lw_g_mem 352 (by decide +kernel) (by decide +kernel)
theorem tb_341 : Cond.instanceMethod y_M_isThere ∈ lw_g := lw_g_mem 354 (by decide +kernel) (by decide +kernel)
theorem tb_342 : Cond.code y_M_isThere prog_5_method_4_code 2 (Option.some FieldType.boolean) ∈ lw_g := lw_g_mem 355 rfl (by decide +kernel)
theorem tb_343 : Cond.methodLink "TimeNetLaw" 39 y_M_on ∈ lw_g := lw_g_mem 356 (by decide +kernel) (by decide +kernel)
theorem tb_344 : Cond.instanceMethod y_M_on ∈ lw_g := lw_g_mem 357 (by decide +kernel) (by decide +kernel)
theorem tb_345 : Cond.selects "TimeNetModel" y_M_on y_M_on ∈ lw_g := lw_g_mem 358 (by decide +kernel) (by decide +kernel)
theorem tb_346 : Cond.code y_M_on prog_5_method_11_code 2 (Option.some FieldType.int) ∈ lw_g := lw_g_mem 359 rfl (by decide +kernel)
theorem tb_347 : Cond.methodLink "TimeNetLaw" 45 y_M_bound ∈ lw_g := lw_g_mem 360 (by decide +kernel) (by decide +kernel)
theorem tb_348 : Cond.instanceMethod y_M_bound ∈ lw_g := lw_g_mem 361 (by decide +kernel) (by decide +kernel)
theorem tb_349 : Cond.selects "TimeNetModel" y_M_bound y_M_bound ∈ lw_g := lw_g_mem 362 (by decide +kernel) (by decide +kernel)
theorem tb_350 : Cond.code y_M_bound prog_5_method_12_code 3 (Option.some FieldType.long) ∈ lw_g := lw_g_mem 363 rfl (by decide +kernel)
theorem tb_351 : Cond.methodLink "TimeNetLaw" 54 y_M_steps ∈ lw_g := lw_g_mem 364 (by decide +kernel) (by decide +kernel)
theorem tb_352 : Cond.instanceMethod y_M_steps ∈ lw_g := lw_g_mem 365 (by decide +kernel) (by decide +kernel)
theorem tb_353 : Cond.selects "TimeNetModel" y_M_steps y_M_steps ∈ lw_g := lw_g_mem 366 (by decide +kernel) (by decide +kernel)
theorem tb_354 : Cond.code y_M_steps prog_5_method_13_code 3 (Option.some FieldType.int) ∈ lw_g := lw_g_mem 367 rfl (by decide +kernel)
theorem tb_355 : Cond.methodLink "TimeNetLaw" 58 y_M_path ∈ lw_g := lw_g_mem 368 (by decide +kernel) (by decide +kernel)
theorem tb_356 : Cond.instanceMethod y_M_path ∈ lw_g := lw_g_mem 369 (by decide +kernel) (by decide +kernel)
theorem tb_357 : Cond.selects "TimeNetModel" y_M_path y_M_path ∈ lw_g := lw_g_mem 370 (by decide +kernel) (by decide +kernel)
theorem tb_358 : Cond.code y_M_path prog_5_method_14_code 3 (Option.some FieldType.int) ∈ lw_g := lw_g_mem 371 rfl (by decide +kernel)
theorem tb_359 : Cond.methodLink "TimeNetLaw" 62 y_M_row ∈ lw_g := lw_g_mem 372 (by decide +kernel) (by decide +kernel)
theorem tb_360 : Cond.instanceMethod y_M_row ∈ lw_g := lw_g_mem 373 (by decide +kernel) (by decide +kernel)
theorem tb_361 : Cond.selects "TimeNetModel" y_M_row y_M_row ∈ lw_g := lw_g_mem 374 (by decide +kernel) (by decide +kernel)
theorem tb_362 : Cond.code y_M_row prog_5_method_15_code 1 (Option.some FieldType.int) ∈ lw_g := lw_g_mem 375 rfl (by decide +kernel)
theorem tb_363 : Cond.methodLink "TimeNetLaw" 66 y_M_rowAt ∈ lw_g := lw_g_mem 376 (by decide +kernel) (by decide +kernel)
theorem tb_364 : Cond.instanceMethod y_M_rowAt ∈ lw_g := lw_g_mem 377 (by decide +kernel) (by decide +kernel)
theorem tb_365 : Cond.selects "TimeNetModel" y_M_rowAt y_M_rowAt ∈ lw_g := lw_g_mem 378 (by decide +kernel) (by decide +kernel)
theorem tb_366 : Cond.code y_M_rowAt prog_5_method_16_code 2 (Option.some FieldType.int) ∈ lw_g := lw_g_mem 379 rfl (by decide +kernel)
theorem tb_367 : Cond.methodLink "TimeNetLaw" 71 y_M_length ∈ lw_g := lw_g_mem 380 (by decide +kernel) (by decide +kernel)
theorem tb_368 : Cond.instanceMethod y_M_length ∈ lw_g := lw_g_mem 381 (by decide +kernel) (by decide +kernel)
theorem tb_369 : Cond.selects "TimeNetModel" y_M_length y_M_length ∈ lw_g := lw_g_mem 382 (by decide +kernel) (by decide +kernel)
theorem tb_370 : Cond.code y_M_length prog_5_method_17_code 1 (Option.some FieldType.long) ∈ lw_g := lw_g_mem 383 rfl (by decide +kernel)
theorem tb_371 : Cond.methodLink "TimeNetLaw" 75 y_M_earliest ∈ lw_g := lw_g_mem 384 (by decide +kernel) (by decide +kernel)
theorem tb_372 : Cond.instanceMethod y_M_earliest ∈ lw_g := lw_g_mem 385 (by decide +kernel) (by decide +kernel)
theorem tb_373 : Cond.selects "TimeNetModel" y_M_earliest y_M_earliest ∈ lw_g := lw_g_mem 386 (by decide +kernel) (by decide +kernel)
theorem tb_374 : Cond.code y_M_earliest prog_5_method_18_code 2 (Option.some FieldType.long) ∈ lw_g := lw_g_mem 387 rfl (by decide +kernel)
theorem tb_375 : Cond.constantLong "TimeNetModel" 79 (-9223372036854775808 : Int64) ∈ lw_g := lw_g_mem 388 (by decide +kernel) (by decide +kernel)
theorem tb_376 : Cond.methodLink "TimeNetLaw" 79 y_M_slack ∈ lw_g := lw_g_mem 389 (by decide +kernel) (by decide +kernel)
theorem tb_377 : Cond.instanceMethod y_M_slack ∈ lw_g := lw_g_mem 390 (by decide +kernel) (by decide +kernel)
theorem tb_378 : Cond.selects "TimeNetModel" y_M_slack y_M_slack ∈ lw_g := lw_g_mem 391 (by decide +kernel) (by decide +kernel)
theorem tb_379 : Cond.code y_M_slack prog_5_method_19_code 2 (Option.some FieldType.long) ∈ lw_g := lw_g_mem 392 rfl (by decide +kernel)
theorem tb_380 : Cond.constantLong "TimeNetModel" 81 (-1 : Int64) ∈ lw_g := lw_g_mem 393 (by decide +kernel) (by decide +kernel)
theorem tb_381 : Cond.methodLink "TimeNetLaw" 83 y_M_alive ∈ lw_g := lw_g_mem 394 (by decide +kernel) (by decide +kernel)
theorem tb_382 : Cond.instanceMethod y_M_alive ∈ lw_g := lw_g_mem 395 (by decide +kernel) (by decide +kernel)
theorem tb_383 : Cond.selects "TimeNetModel" y_M_alive y_M_alive ∈ lw_g := lw_g_mem 396 (by decide +kernel) (by decide +kernel)
theorem tb_384 : Cond.code y_M_alive prog_5_method_20_code 3 (Option.some FieldType.int) ∈ lw_g := lw_g_mem 397 rfl (by decide +kernel)
theorem tb_385 : Cond.constantLong "TimeNetLaw" 23 (4294967295 : Int64) ∈ lw_g := lw_g_mem 398 (by decide +kernel) (by decide +kernel)
theorem tb_386 : Cond.sameMethod "java/lang/Throwable" "java/lang/Throwable" "fillInStackTrace" "(I)Ljava/lang/Throwable;" ∈ lw_g := lw_g_mem 399 (by decide +kernel) (by decide +kernel)
theorem tb_s0 : Cond.selects y_X_anew.cls y_X_anew y_X_anew ∈ lw_g := lw_g_mem 0 (by decide +kernel) (by decide +kernel)
theorem tb_s1 : Cond.selects y_X_takes.cls y_X_takes y_X_takes ∈ lw_g := lw_g_mem 1 (by decide +kernel) (by decide +kernel)
theorem tb_s2 : Cond.selects y_X_isRefused.cls y_X_isRefused y_X_isRefused ∈ lw_g := lw_g_mem 2 (by decide +kernel) (by decide +kernel)
theorem tb_s3 : Cond.selects y_X_clearRow.cls y_X_clearRow y_X_clearRow ∈ lw_g := lw_g_mem 3 (by decide +kernel) (by decide +kernel)
theorem tb_s4 : Cond.selects y_X_tell.cls y_X_tell y_X_tell ∈ lw_g := lw_g_mem 4 (by decide +kernel) (by decide +kernel)
theorem tb_s5 : Cond.selects y_X_follow.cls y_X_follow y_X_follow ∈ lw_g := lw_g_mem 5 (by decide +kernel) (by decide +kernel)
theorem tb_s6 : Cond.selects y_X_goes.cls y_X_goes y_X_goes ∈ lw_g := lw_g_mem 6 (by decide +kernel) (by decide +kernel)
theorem tb_s8 : Cond.selects y_M_isBad.cls y_M_isBad y_M_isBad ∈ lw_g := lw_g_mem 8 (by decide +kernel) (by decide +kernel)
theorem tb_s9 : Cond.selects y_M_best.cls y_M_best y_M_best ∈ lw_g := lw_g_mem 9 (by decide +kernel) (by decide +kernel)
theorem tb_s10 : Cond.selects y_M_walk.cls y_M_walk y_M_walk ∈ lw_g := lw_g_mem 10 (by decide +kernel) (by decide +kernel)
theorem tb_s11 : Cond.selects y_M_step.cls y_M_step y_M_step ∈ lw_g := lw_g_mem 11 (by decide +kernel) (by decide +kernel)
theorem tb_s12 : Cond.selects y_M_isThere.cls y_M_isThere y_M_isThere ∈ lw_g := lw_g_mem 12 (by decide +kernel) (by decide +kernel)
/-- what a call of y needs of the tables, but for the link -/
def q_SM (y : MethodName) (b : ByteArray) (n : Nat) (r : Option FieldType) (na : Nat) : Prop := Cond.code y b n r ∈ lw_g ∧ Cond.initialized y.cls ∈ lw_g ∧ Cond.static y ∈ lw_g ∧ (y.cls ≠ "java/lang/invoke/MethodHandle" ∧ y.cls ≠ "java/lang/invoke/VarHandle" ∧ (parseMethodDescriptor y.desc).map (fun d => d.parameters.length) = some na)
def q_VM (y : MethodName) (b : ByteArray) (n : Nat) (r : Option FieldType) (na : Nat) : Prop := Cond.code y b n r ∈ lw_g ∧ Cond.initialized y.cls ∈ lw_g ∧ (Cond.instanceMethod y ∈ lw_g ∧ Cond.selects y.cls y y ∈ lw_g) ∧ (y.cls ≠ "java/lang/invoke/MethodHandle" ∧ y.cls ≠ "java/lang/invoke/VarHandle" ∧ (parseMethodDescriptor y.desc).map (fun d => d.parameters.length) = some na)
theorem ms_X_anew : q_VM y_X_anew b_X_anew 2 none 0 := ⟨tb_58, tb_1, ⟨tb_57, tb_s0⟩, by decide +kernel⟩
theorem ms_P_clear : q_VM y_P_clear b_P_clear 2 none 0 := ⟨tb_62, tb_2, ⟨tb_60, tb_61⟩, by decide +kernel⟩
theorem ms_X_takes : q_VM y_X_takes b_X_takes 3 none 1 := ⟨tb_68, tb_1, ⟨tb_67, tb_s1⟩, by decide +kernel⟩
theorem ms_P_at : q_SM y_P_at b_P_at 2 (some .int) 2 := ⟨tb_71, tb_2, tb_70, by decide +kernel⟩
theorem ms_J_min : q_SM y_J_min b_J_min 4 (some .long) 2 := ⟨tb_74, tb_4, tb_73, by decide +kernel⟩
theorem ms_P_add : q_VM y_P_add b_P_add 13 none 3 := ⟨tb_78, tb_2, ⟨tb_76, tb_77⟩, by decide +kernel⟩
theorem ms_P_isBetter : q_VM y_P_isBetter b_P_isBetter 5 (some .boolean) 3 := ⟨tb_83, tb_2, ⟨tb_81, tb_82⟩, by decide +kernel⟩
theorem ms_P_has : q_VM y_P_has b_P_has 3 (some .boolean) 2 := ⟨tb_87, tb_2, ⟨tb_85, tb_86⟩, by decide +kernel⟩
theorem ms_X_add : q_VM y_X_add b_X_add 6 (some .int) 3 := ⟨tb_116, tb_1, ⟨tb_114, tb_115⟩, by decide +kernel⟩
theorem ms_X_isPoint : q_SM y_X_isPoint b_X_isPoint 1 (some .boolean) 1 := ⟨tb_119, tb_1, tb_118, by decide +kernel⟩
theorem ms_X_isRefused : q_VM y_X_isRefused b_X_isRefused 5 (some .boolean) 3 := ⟨tb_125, tb_1, ⟨tb_124, tb_s2⟩, by decide +kernel⟩
theorem ms_X_clearRow : q_VM y_X_clearRow b_X_clearRow 1 none 0 := ⟨tb_130, tb_1, ⟨tb_129, tb_s3⟩, by decide +kernel⟩
theorem ms_X_tell : q_VM y_X_tell b_X_tell 2 none 1 := ⟨tb_134, tb_1, ⟨tb_133, tb_s4⟩, by decide +kernel⟩
theorem ms_X_follow : q_VM y_X_follow b_X_follow 8 none 2 := ⟨tb_138, tb_1, ⟨tb_137, tb_s5⟩, by decide +kernel⟩
theorem ms_X_goes : q_VM y_X_goes b_X_goes 9 (some .boolean) 5 := ⟨tb_142, tb_1, ⟨tb_141, tb_s6⟩, by decide +kernel⟩
theorem ms_X_off : q_VM y_X_off b_X_off 2 (some .boolean) 1 := ⟨tb_146, tb_1, ⟨tb_144, tb_145⟩, by decide +kernel⟩
theorem ms_X_on : q_VM y_X_on b_X_on 3 (some .int) 1 := ⟨tb_150, tb_1, ⟨tb_148, tb_149⟩, by decide +kernel⟩
theorem ms_X_steps : q_VM y_X_steps b_X_steps 3 (some .int) 2 := ⟨tb_154, tb_1, ⟨tb_152, tb_153⟩, by decide +kernel⟩
theorem ms_X_path : q_VM y_X_path b_X_path 3 (some .int) 2 := ⟨tb_158, tb_1, ⟨tb_156, tb_157⟩, by decide +kernel⟩
theorem ms_X_row : q_VM y_X_row b_X_row 1 (some .int) 0 := ⟨tb_163, tb_1, ⟨tb_161, tb_162⟩, by decide +kernel⟩
theorem ms_X_rowAt : q_VM y_X_rowAt b_X_rowAt 2 (some .int) 1 := ⟨tb_167, tb_1, ⟨tb_165, tb_166⟩, by decide +kernel⟩
theorem ms_X_length : q_VM y_X_length b_X_length 1 (some .long) 0 := ⟨tb_171, tb_1, ⟨tb_169, tb_170⟩, by decide +kernel⟩
theorem ms_X_slack : q_VM y_X_slack b_X_slack 2 (some .long) 1 := ⟨tb_175, tb_1, ⟨tb_173, tb_174⟩, by decide +kernel⟩
theorem ms_X_alive : q_VM y_X_alive b_X_alive 1 (some .int) 0 := ⟨tb_180, tb_1, ⟨tb_178, tb_179⟩, by decide +kernel⟩
theorem ms_X_bound : q_VM y_X_bound b_X_bound 3 (some .long) 2 := ⟨tb_188, tb_1, ⟨tb_186, tb_187⟩, by decide +kernel⟩
theorem ms_X_must : q_SM y_X_must b_X_must 1 none 1 := ⟨tb_191, tb_1, tb_190, by decide +kernel⟩
theorem ms_X_earliest : q_VM y_X_earliest b_X_earliest 2 (some .long) 1 := ⟨tb_259, tb_1, ⟨tb_257, tb_258⟩, by decide +kernel⟩
theorem ms_M_thrown : q_VM y_M_thrown b_M_thrown 1 (some .int) 0 := ⟨tb_308, tb_5, ⟨tb_306, tb_307⟩, by decide +kernel⟩
theorem ms_M_add : q_VM y_M_add b_M_add 5 (some .int) 3 := ⟨tb_312, tb_5, ⟨tb_310, tb_311⟩, by decide +kernel⟩
theorem ms_M_isPoint : q_SM y_M_isPoint b_M_isPoint 1 (some .boolean) 1 := ⟨tb_315, tb_5, tb_314, by decide +kernel⟩
theorem ms_M_isBad : q_VM y_M_isBad b_M_isBad 5 (some .boolean) 3 := ⟨tb_321, tb_5, ⟨tb_320, tb_s8⟩, by decide +kernel⟩
theorem ms_M_best : q_VM y_M_best b_M_best 7 (some .boolean) 2 := ⟨tb_325, tb_5, ⟨tb_324, tb_s9⟩, by decide +kernel⟩
theorem ms_M_walk : q_VM y_M_walk b_M_walk 5 none 1 := ⟨tb_330, tb_5, ⟨tb_329, tb_s10⟩, by decide +kernel⟩
theorem ms_M_step : q_VM y_M_step b_M_step 6 (some .long) 2 := ⟨tb_334, tb_5, ⟨tb_333, tb_s11⟩, by decide +kernel⟩
theorem ms_M_off : q_VM y_M_off b_M_off 2 (some .boolean) 1 := ⟨tb_338, tb_5, ⟨tb_336, tb_337⟩, by decide +kernel⟩
theorem ms_M_isThere : q_VM y_M_isThere b_M_isThere 2 (some .boolean) 1 := ⟨tb_342, tb_5, ⟨tb_341, tb_s12⟩, by decide +kernel⟩
theorem ms_M_on : q_VM y_M_on b_M_on 2 (some .int) 1 := ⟨tb_346, tb_5, ⟨tb_344, tb_345⟩, by decide +kernel⟩
theorem ms_M_bound : q_VM y_M_bound b_M_bound 3 (some .long) 2 := ⟨tb_350, tb_5, ⟨tb_348, tb_349⟩, by decide +kernel⟩
theorem ms_M_steps : q_VM y_M_steps b_M_steps 3 (some .int) 2 := ⟨tb_354, tb_5, ⟨tb_352, tb_353⟩, by decide +kernel⟩
theorem ms_M_path : q_VM y_M_path b_M_path 3 (some .int) 2 := ⟨tb_358, tb_5, ⟨tb_356, tb_357⟩, by decide +kernel⟩
theorem ms_M_row : q_VM y_M_row b_M_row 1 (some .int) 0 := ⟨tb_362, tb_5, ⟨tb_360, tb_361⟩, by decide +kernel⟩
theorem ms_M_rowAt : q_VM y_M_rowAt b_M_rowAt 2 (some .int) 1 := ⟨tb_366, tb_5, ⟨tb_364, tb_365⟩, by decide +kernel⟩
theorem ms_M_length : q_VM y_M_length b_M_length 1 (some .long) 0 := ⟨tb_370, tb_5, ⟨tb_368, tb_369⟩, by decide +kernel⟩
theorem ms_M_earliest : q_VM y_M_earliest b_M_earliest 2 (some .long) 1 := ⟨tb_374, tb_5, ⟨tb_372, tb_373⟩, by decide +kernel⟩
theorem ms_M_slack : q_VM y_M_slack b_M_slack 2 (some .long) 1 := ⟨tb_379, tb_5, ⟨tb_377, tb_378⟩, by decide +kernel⟩
theorem ms_M_alive : q_VM y_M_alive b_M_alive 3 (some .int) 0 := ⟨tb_384, tb_5, ⟨tb_382, tb_383⟩, by decide +kernel⟩
end
section
theorem d_C_init_0 : decode b_C_init 0 = .ok (.aload_n 0, 1) := by decide +kernel
theorem d_C_init_1 : decode b_C_init 1 = .ok (.invokespecial 1, 3) := by decide +kernel
theorem d_C_init_4 : decode b_C_init 4 = .ok (.return_, 1) := by decide +kernel
theorem d_P_init_0 : decode b_P_init 0 = .ok (.aload_n 0, 1) := by decide +kernel
theorem d_P_init_1 : decode b_P_init 1 = .ok (.invokespecial 3, 3) := by decide +kernel
theorem d_P_init_4 : decode b_P_init 4 = .ok (.aload_n 0, 1) := by decide +kernel
theorem d_P_init_5 : decode b_P_init 5 = .ok (.sipush 400, 3) := by decide +kernel
theorem d_P_init_8 : decode b_P_init 8 = .ok (.newarray .long, 2) := by decide +kernel
theorem d_P_init_10 : decode b_P_init 10 = .ok (.putfield 9, 3) := by decide +kernel
theorem d_P_init_13 : decode b_P_init 13 = .ok (.aload_n 0, 1) := by decide +kernel
theorem d_P_init_14 : decode b_P_init 14 = .ok (.sipush 400, 3) := by decide +kernel
theorem d_P_init_17 : decode b_P_init 17 = .ok (.newarray .int, 2) := by decide +kernel
theorem d_P_init_19 : decode b_P_init 19 = .ok (.putfield 15, 3) := by decide +kernel
theorem d_P_init_22 : decode b_P_init 22 = .ok (.return_, 1) := by decide +kernel
theorem d_P_clear_0 : decode b_P_clear 0 = .ok (.iconst 0, 1) := by decide +kernel
theorem d_P_clear_1 : decode b_P_clear 1 = .ok (.istore_n 1, 1) := by decide +kernel
theorem d_P_clear_2 : decode b_P_clear 2 = .ok (.iload_n 1, 1) := by decide +kernel
theorem d_P_clear_3 : decode b_P_clear 3 = .ok (.sipush 400, 3) := by decide +kernel
theorem d_P_clear_6 : decode b_P_clear 6 = .ok (.if_icmp .ge 36, 3) := by decide +kernel
theorem d_P_clear_9 : decode b_P_clear 9 = .ok (.aload_n 0, 1) := by decide +kernel
theorem d_P_clear_10 : decode b_P_clear 10 = .ok (.getfield 9, 3) := by decide +kernel
theorem d_P_clear_13 : decode b_P_clear 13 = .ok (.iload_n 1, 1) := by decide +kernel
theorem d_P_clear_14 : decode b_P_clear 14 = .ok (.iload_n 1, 1) := by decide +kernel
theorem d_P_clear_15 : decode b_P_clear 15 = .ok (.bipush 21, 2) := by decide +kernel
theorem d_P_clear_17 : decode b_P_clear 17 = .ok (.irem, 1) := by decide +kernel
theorem d_P_clear_18 : decode b_P_clear 18 = .ok (.ifCond .ne 7, 3) := by decide +kernel
theorem d_P_clear_21 : decode b_P_clear 21 = .ok (.lconst 0, 1) := by decide +kernel
theorem d_P_clear_22 : decode b_P_clear 22 = .ok (.goto 6, 3) := by decide +kernel
theorem d_P_clear_25 : decode b_P_clear 25 = .ok (.ldc2_w 19, 3) := by decide +kernel
theorem d_P_clear_28 : decode b_P_clear 28 = .ok (.lastore, 1) := by decide +kernel
theorem d_P_clear_29 : decode b_P_clear 29 = .ok (.aload_n 0, 1) := by decide +kernel
theorem d_P_clear_30 : decode b_P_clear 30 = .ok (.getfield 15, 3) := by decide +kernel
theorem d_P_clear_33 : decode b_P_clear 33 = .ok (.iload_n 1, 1) := by decide +kernel
theorem d_P_clear_34 : decode b_P_clear 34 = .ok (.iconst 0, 1) := by decide +kernel
theorem d_P_clear_35 : decode b_P_clear 35 = .ok (.iastore, 1) := by decide +kernel
theorem d_P_clear_36 : decode b_P_clear 36 = .ok (.iinc 1 1, 3) := by decide +kernel
theorem d_P_clear_39 : decode b_P_clear 39 = .ok (.goto (-37), 3) := by decide +kernel
theorem d_P_clear_42 : decode b_P_clear 42 = .ok (.return_, 1) := by decide +kernel
theorem d_P_at_0 : decode b_P_at 0 = .ok (.bipush 20, 2) := by decide +kernel
theorem d_P_at_2 : decode b_P_at 2 = .ok (.iload_n 0, 1) := by decide +kernel
theorem d_P_at_3 : decode b_P_at 3 = .ok (.imul, 1) := by decide +kernel
theorem d_P_at_4 : decode b_P_at 4 = .ok (.iload_n 1, 1) := by decide +kernel
theorem d_P_at_5 : decode b_P_at 5 = .ok (.iadd, 1) := by decide +kernel
theorem d_P_at_6 : decode b_P_at 6 = .ok (.ireturn, 1) := by decide +kernel
theorem d_P_has_0 : decode b_P_has 0 = .ok (.aload_n 0, 1) := by decide +kernel
theorem d_P_has_1 : decode b_P_has 1 = .ok (.getfield 9, 3) := by decide +kernel
theorem d_P_has_4 : decode b_P_has 4 = .ok (.iload_n 1, 1) := by decide +kernel
theorem d_P_has_5 : decode b_P_has 5 = .ok (.iload_n 2, 1) := by decide +kernel
theorem d_P_has_6 : decode b_P_has 6 = .ok (.invokestatic 21, 3) := by decide +kernel
theorem d_P_has_9 : decode b_P_has 9 = .ok (.laload, 1) := by decide +kernel
theorem d_P_has_10 : decode b_P_has 10 = .ok (.ldc2_w 19, 3) := by decide +kernel
theorem d_P_has_13 : decode b_P_has 13 = .ok (.lcmp, 1) := by decide +kernel
theorem d_P_has_14 : decode b_P_has 14 = .ok (.ifCond .eq 7, 3) := by decide +kernel
theorem d_P_has_17 : decode b_P_has 17 = .ok (.iconst 1, 1) := by decide +kernel
theorem d_P_has_18 : decode b_P_has 18 = .ok (.goto 4, 3) := by decide +kernel
theorem d_P_has_21 : decode b_P_has 21 = .ok (.iconst 0, 1) := by decide +kernel
theorem d_P_has_22 : decode b_P_has 22 = .ok (.ireturn, 1) := by decide +kernel
theorem d_P_isBetter_0 : decode b_P_isBetter 0 = .ok (.lload_n 2, 1) := by decide +kernel
theorem d_P_isBetter_1 : decode b_P_isBetter 1 = .ok (.aload_n 0, 1) := by decide +kernel
theorem d_P_isBetter_2 : decode b_P_isBetter 2 = .ok (.getfield 9, 3) := by decide +kernel
theorem d_P_isBetter_5 : decode b_P_isBetter 5 = .ok (.iload_n 1, 1) := by decide +kernel
theorem d_P_isBetter_6 : decode b_P_isBetter 6 = .ok (.laload, 1) := by decide +kernel
theorem d_P_isBetter_7 : decode b_P_isBetter 7 = .ok (.lcmp, 1) := by decide +kernel
theorem d_P_isBetter_8 : decode b_P_isBetter 8 = .ok (.ifCond .lt 25, 3) := by decide +kernel
theorem d_P_isBetter_11 : decode b_P_isBetter 11 = .ok (.lload_n 2, 1) := by decide +kernel
theorem d_P_isBetter_12 : decode b_P_isBetter 12 = .ok (.aload_n 0, 1) := by decide +kernel
theorem d_P_isBetter_13 : decode b_P_isBetter 13 = .ok (.getfield 9, 3) := by decide +kernel
theorem d_P_isBetter_16 : decode b_P_isBetter 16 = .ok (.iload_n 1, 1) := by decide +kernel
theorem d_P_isBetter_17 : decode b_P_isBetter 17 = .ok (.laload, 1) := by decide +kernel
theorem d_P_isBetter_18 : decode b_P_isBetter 18 = .ok (.lcmp, 1) := by decide +kernel
theorem d_P_isBetter_19 : decode b_P_isBetter 19 = .ok (.ifCond .ne 18, 3) := by decide +kernel
theorem d_P_isBetter_22 : decode b_P_isBetter 22 = .ok (.iload 4, 2) := by decide +kernel
theorem d_P_isBetter_24 : decode b_P_isBetter 24 = .ok (.aload_n 0, 1) := by decide +kernel
theorem d_P_isBetter_25 : decode b_P_isBetter 25 = .ok (.getfield 15, 3) := by decide +kernel
theorem d_P_isBetter_28 : decode b_P_isBetter 28 = .ok (.iload_n 1, 1) := by decide +kernel
theorem d_P_isBetter_29 : decode b_P_isBetter 29 = .ok (.iaload, 1) := by decide +kernel
theorem d_P_isBetter_30 : decode b_P_isBetter 30 = .ok (.if_icmp .ge 7, 3) := by decide +kernel
theorem d_P_isBetter_33 : decode b_P_isBetter 33 = .ok (.iconst 1, 1) := by decide +kernel
theorem d_P_isBetter_34 : decode b_P_isBetter 34 = .ok (.goto 4, 3) := by decide +kernel
theorem d_P_isBetter_37 : decode b_P_isBetter 37 = .ok (.iconst 0, 1) := by decide +kernel
theorem d_P_isBetter_38 : decode b_P_isBetter 38 = .ok (.ireturn, 1) := by decide +kernel
theorem d_P_add_0 : decode b_P_add 0 = .ok (.aload_n 0, 1) := by decide +kernel
theorem d_P_add_1 : decode b_P_add 1 = .ok (.iload_n 1, 1) := by decide +kernel
theorem d_P_add_2 : decode b_P_add 2 = .ok (.iload_n 2, 1) := by decide +kernel
theorem d_P_add_3 : decode b_P_add 3 = .ok (.invokestatic 21, 3) := by decide +kernel
theorem d_P_add_6 : decode b_P_add 6 = .ok (.lload_n 3, 1) := by decide +kernel
theorem d_P_add_7 : decode b_P_add 7 = .ok (.iconst 1, 1) := by decide +kernel
theorem d_P_add_8 : decode b_P_add 8 = .ok (.invokevirtual 25, 3) := by decide +kernel
theorem d_P_add_11 : decode b_P_add 11 = .ok (.ifCond .ne 4, 3) := by decide +kernel
theorem d_P_add_14 : decode b_P_add 14 = .ok (.return_, 1) := by decide +kernel
theorem d_P_add_15 : decode b_P_add 15 = .ok (.iconst 0, 1) := by decide +kernel
theorem d_P_add_16 : decode b_P_add 16 = .ok (.istore 5, 2) := by decide +kernel
theorem d_P_add_18 : decode b_P_add 18 = .ok (.iload 5, 2) := by decide +kernel
theorem d_P_add_20 : decode b_P_add 20 = .ok (.bipush 20, 2) := by decide +kernel
theorem d_P_add_22 : decode b_P_add 22 = .ok (.if_icmp .ge 162, 3) := by decide +kernel
theorem d_P_add_25 : decode b_P_add 25 = .ok (.aload_n 0, 1) := by decide +kernel
theorem d_P_add_26 : decode b_P_add 26 = .ok (.iload 5, 2) := by decide +kernel
theorem d_P_add_28 : decode b_P_add 28 = .ok (.iload_n 1, 1) := by decide +kernel
theorem d_P_add_29 : decode b_P_add 29 = .ok (.invokevirtual 29, 3) := by decide +kernel
theorem d_P_add_32 : decode b_P_add 32 = .ok (.ifCond .ne 6, 3) := by decide +kernel
theorem d_P_add_35 : decode b_P_add 35 = .ok (.goto 143, 3) := by decide +kernel
theorem d_P_add_38 : decode b_P_add 38 = .ok (.aload_n 0, 1) := by decide +kernel
theorem d_P_add_39 : decode b_P_add 39 = .ok (.getfield 9, 3) := by decide +kernel
theorem d_P_add_42 : decode b_P_add 42 = .ok (.iload 5, 2) := by decide +kernel
theorem d_P_add_44 : decode b_P_add 44 = .ok (.iload_n 1, 1) := by decide +kernel
theorem d_P_add_45 : decode b_P_add 45 = .ok (.invokestatic 21, 3) := by decide +kernel
theorem d_P_add_48 : decode b_P_add 48 = .ok (.laload, 1) := by decide +kernel
theorem d_P_add_49 : decode b_P_add 49 = .ok (.lload_n 3, 1) := by decide +kernel
theorem d_P_add_50 : decode b_P_add 50 = .ok (.ladd, 1) := by decide +kernel
theorem d_P_add_51 : decode b_P_add 51 = .ok (.lstore 6, 2) := by decide +kernel
theorem d_P_add_53 : decode b_P_add 53 = .ok (.aload_n 0, 1) := by decide +kernel
theorem d_P_add_54 : decode b_P_add 54 = .ok (.getfield 15, 3) := by decide +kernel
theorem d_P_add_57 : decode b_P_add 57 = .ok (.iload 5, 2) := by decide +kernel
theorem d_P_add_59 : decode b_P_add 59 = .ok (.iload_n 1, 1) := by decide +kernel
theorem d_P_add_60 : decode b_P_add 60 = .ok (.invokestatic 21, 3) := by decide +kernel
theorem d_P_add_63 : decode b_P_add 63 = .ok (.iaload, 1) := by decide +kernel
theorem d_P_add_64 : decode b_P_add 64 = .ok (.iconst 1, 1) := by decide +kernel
theorem d_P_add_65 : decode b_P_add 65 = .ok (.iadd, 1) := by decide +kernel
theorem d_P_add_66 : decode b_P_add 66 = .ok (.istore 8, 2) := by decide +kernel
theorem d_P_add_68 : decode b_P_add 68 = .ok (.iconst 0, 1) := by decide +kernel
theorem d_P_add_69 : decode b_P_add 69 = .ok (.istore 9, 2) := by decide +kernel
theorem d_P_add_71 : decode b_P_add 71 = .ok (.iload 9, 2) := by decide +kernel
theorem d_P_add_73 : decode b_P_add 73 = .ok (.bipush 20, 2) := by decide +kernel
theorem d_P_add_75 : decode b_P_add 75 = .ok (.if_icmp .ge 103, 3) := by decide +kernel
theorem d_P_add_78 : decode b_P_add 78 = .ok (.aload_n 0, 1) := by decide +kernel
theorem d_P_add_79 : decode b_P_add 79 = .ok (.iload_n 2, 1) := by decide +kernel
theorem d_P_add_80 : decode b_P_add 80 = .ok (.iload 9, 2) := by decide +kernel
theorem d_P_add_82 : decode b_P_add 82 = .ok (.invokevirtual 29, 3) := by decide +kernel
theorem d_P_add_85 : decode b_P_add 85 = .ok (.ifCond .ne 6, 3) := by decide +kernel
theorem d_P_add_88 : decode b_P_add 88 = .ok (.goto 84, 3) := by decide +kernel
theorem d_P_add_91 : decode b_P_add 91 = .ok (.lload 6, 2) := by decide +kernel
theorem d_P_add_93 : decode b_P_add 93 = .ok (.aload_n 0, 1) := by decide +kernel
theorem d_P_add_94 : decode b_P_add 94 = .ok (.getfield 9, 3) := by decide +kernel
theorem d_P_add_97 : decode b_P_add 97 = .ok (.iload_n 2, 1) := by decide +kernel
theorem d_P_add_98 : decode b_P_add 98 = .ok (.iload 9, 2) := by decide +kernel
theorem d_P_add_100 : decode b_P_add 100 = .ok (.invokestatic 21, 3) := by decide +kernel
theorem d_P_add_103 : decode b_P_add 103 = .ok (.laload, 1) := by decide +kernel
theorem d_P_add_104 : decode b_P_add 104 = .ok (.ladd, 1) := by decide +kernel
theorem d_P_add_105 : decode b_P_add 105 = .ok (.lstore 10, 2) := by decide +kernel
theorem d_P_add_107 : decode b_P_add 107 = .ok (.iload 8, 2) := by decide +kernel
theorem d_P_add_109 : decode b_P_add 109 = .ok (.aload_n 0, 1) := by decide +kernel
theorem d_P_add_110 : decode b_P_add 110 = .ok (.getfield 15, 3) := by decide +kernel
theorem d_P_add_113 : decode b_P_add 113 = .ok (.iload_n 2, 1) := by decide +kernel
theorem d_P_add_114 : decode b_P_add 114 = .ok (.iload 9, 2) := by decide +kernel
theorem d_P_add_116 : decode b_P_add 116 = .ok (.invokestatic 21, 3) := by decide +kernel
theorem d_P_add_119 : decode b_P_add 119 = .ok (.iaload, 1) := by decide +kernel
theorem d_P_add_120 : decode b_P_add 120 = .ok (.iadd, 1) := by decide +kernel
theorem d_P_add_121 : decode b_P_add 121 = .ok (.istore 12, 2) := by decide +kernel
theorem d_P_add_123 : decode b_P_add 123 = .ok (.aload_n 0, 1) := by decide +kernel
theorem d_P_add_124 : decode b_P_add 124 = .ok (.iload 5, 2) := by decide +kernel
theorem d_P_add_126 : decode b_P_add 126 = .ok (.iload 9, 2) := by decide +kernel
theorem d_P_add_128 : decode b_P_add 128 = .ok (.invokestatic 21, 3) := by decide +kernel
theorem d_P_add_131 : decode b_P_add 131 = .ok (.lload 10, 2) := by decide +kernel
theorem d_P_add_133 : decode b_P_add 133 = .ok (.iload 12, 2) := by decide +kernel
theorem d_P_add_135 : decode b_P_add 135 = .ok (.invokevirtual 25, 3) := by decide +kernel
theorem d_P_add_138 : decode b_P_add 138 = .ok (.ifCond .ne 6, 3) := by decide +kernel
theorem d_P_add_141 : decode b_P_add 141 = .ok (.goto 31, 3) := by decide +kernel
theorem d_P_add_144 : decode b_P_add 144 = .ok (.aload_n 0, 1) := by decide +kernel
theorem d_P_add_145 : decode b_P_add 145 = .ok (.getfield 9, 3) := by decide +kernel
theorem d_P_add_148 : decode b_P_add 148 = .ok (.iload 5, 2) := by decide +kernel
theorem d_P_add_150 : decode b_P_add 150 = .ok (.iload 9, 2) := by decide +kernel
theorem d_P_add_152 : decode b_P_add 152 = .ok (.invokestatic 21, 3) := by decide +kernel
theorem d_P_add_155 : decode b_P_add 155 = .ok (.lload 10, 2) := by decide +kernel
theorem d_P_add_157 : decode b_P_add 157 = .ok (.lastore, 1) := by decide +kernel
theorem d_P_add_158 : decode b_P_add 158 = .ok (.aload_n 0, 1) := by decide +kernel
theorem d_P_add_159 : decode b_P_add 159 = .ok (.getfield 15, 3) := by decide +kernel
theorem d_P_add_162 : decode b_P_add 162 = .ok (.iload 5, 2) := by decide +kernel
theorem d_P_add_164 : decode b_P_add 164 = .ok (.iload 9, 2) := by decide +kernel
theorem d_P_add_166 : decode b_P_add 166 = .ok (.invokestatic 21, 3) := by decide +kernel
theorem d_P_add_169 : decode b_P_add 169 = .ok (.iload 12, 2) := by decide +kernel
theorem d_P_add_171 : decode b_P_add 171 = .ok (.iastore, 1) := by decide +kernel
theorem d_P_add_172 : decode b_P_add 172 = .ok (.iinc 9 1, 3) := by decide +kernel
theorem d_P_add_175 : decode b_P_add 175 = .ok (.goto (-104), 3) := by decide +kernel
theorem d_P_add_178 : decode b_P_add 178 = .ok (.iinc 5 1, 3) := by decide +kernel
theorem d_P_add_181 : decode b_P_add 181 = .ok (.goto (-163), 3) := by decide +kernel
theorem d_P_add_184 : decode b_P_add 184 = .ok (.return_, 1) := by decide +kernel
theorem d_J_min_0 : decode b_J_min 0 = .ok (.lload_n 0, 1) := by decide +kernel
theorem d_J_min_1 : decode b_J_min 1 = .ok (.lload_n 2, 1) := by decide +kernel
theorem d_J_min_2 : decode b_J_min 2 = .ok (.lcmp, 1) := by decide +kernel
theorem d_J_min_3 : decode b_J_min 3 = .ok (.ifCond .gt 7, 3) := by decide +kernel
theorem d_J_min_6 : decode b_J_min 6 = .ok (.lload_n 0, 1) := by decide +kernel
theorem d_J_min_7 : decode b_J_min 7 = .ok (.goto 4, 3) := by decide +kernel
theorem d_J_min_10 : decode b_J_min 10 = .ok (.lload_n 2, 1) := by decide +kernel
theorem d_J_min_11 : decode b_J_min 11 = .ok (.lreturn, 1) := by decide +kernel
theorem d_X_init_0 : decode b_X_init 0 = .ok (.aload_n 0, 1) := by decide +kernel
theorem d_X_init_1 : decode b_X_init 1 = .ok (.invokespecial 3, 3) := by decide +kernel
theorem d_X_init_4 : decode b_X_init 4 = .ok (.aload_n 0, 1) := by decide +kernel
theorem d_X_init_5 : decode b_X_init 5 = .ok (.bipush 120, 2) := by decide +kernel
theorem d_X_init_7 : decode b_X_init 7 = .ok (.anewarray 11, 3) := by decide +kernel
theorem d_X_init_10 : decode b_X_init 10 = .ok (.putfield 13, 3) := by decide +kernel
theorem d_X_init_13 : decode b_X_init 13 = .ok (.aload_n 0, 1) := by decide +kernel
theorem d_X_init_14 : decode b_X_init 14 = .ok (.new 17, 3) := by decide +kernel
theorem d_X_init_17 : decode b_X_init 17 = .ok (.dup, 1) := by decide +kernel
theorem d_X_init_18 : decode b_X_init 18 = .ok (.invokespecial 19, 3) := by decide +kernel
theorem d_X_init_21 : decode b_X_init 21 = .ok (.putfield 20, 3) := by decide +kernel
theorem d_X_init_24 : decode b_X_init 24 = .ok (.aload_n 0, 1) := by decide +kernel
theorem d_X_init_25 : decode b_X_init 25 = .ok (.sipush 400, 3) := by decide +kernel
theorem d_X_init_28 : decode b_X_init 28 = .ok (.newarray .long, 2) := by decide +kernel
theorem d_X_init_30 : decode b_X_init 30 = .ok (.putfield 24, 3) := by decide +kernel
theorem d_X_init_33 : decode b_X_init 33 = .ok (.aload_n 0, 1) := by decide +kernel
theorem d_X_init_34 : decode b_X_init 34 = .ok (.bipush 22, 2) := by decide +kernel
theorem d_X_init_36 : decode b_X_init 36 = .ok (.newarray .int, 2) := by decide +kernel
theorem d_X_init_38 : decode b_X_init 38 = .ok (.putfield 28, 3) := by decide +kernel
theorem d_X_init_41 : decode b_X_init 41 = .ok (.iconst 0, 1) := by decide +kernel
theorem d_X_init_42 : decode b_X_init 42 = .ok (.istore_n 1, 1) := by decide +kernel
theorem d_X_init_43 : decode b_X_init 43 = .ok (.iload_n 1, 1) := by decide +kernel
theorem d_X_init_44 : decode b_X_init 44 = .ok (.bipush 120, 2) := by decide +kernel
theorem d_X_init_46 : decode b_X_init 46 = .ok (.if_icmp .ge 22, 3) := by decide +kernel
theorem d_X_init_49 : decode b_X_init 49 = .ok (.aload_n 0, 1) := by decide +kernel
theorem d_X_init_50 : decode b_X_init 50 = .ok (.getfield 13, 3) := by decide +kernel
theorem d_X_init_53 : decode b_X_init 53 = .ok (.iload_n 1, 1) := by decide +kernel
theorem d_X_init_54 : decode b_X_init 54 = .ok (.new 11, 3) := by decide +kernel
theorem d_X_init_57 : decode b_X_init 57 = .ok (.dup, 1) := by decide +kernel
theorem d_X_init_58 : decode b_X_init 58 = .ok (.invokespecial 32, 3) := by decide +kernel
theorem d_X_init_61 : decode b_X_init 61 = .ok (.aastore, 1) := by decide +kernel
theorem d_X_init_62 : decode b_X_init 62 = .ok (.iinc 1 1, 3) := by decide +kernel
theorem d_X_init_65 : decode b_X_init 65 = .ok (.goto (-22), 3) := by decide +kernel
theorem d_X_init_68 : decode b_X_init 68 = .ok (.aload_n 0, 1) := by decide +kernel
theorem d_X_init_69 : decode b_X_init 69 = .ok (.invokevirtual 33, 3) := by decide +kernel
theorem d_X_init_72 : decode b_X_init 72 = .ok (.return_, 1) := by decide +kernel
theorem d_X_anew_0 : decode b_X_anew 0 = .ok (.aload_n 0, 1) := by decide +kernel
theorem d_X_anew_1 : decode b_X_anew 1 = .ok (.getfield 20, 3) := by decide +kernel
theorem d_X_anew_4 : decode b_X_anew 4 = .ok (.invokevirtual 36, 3) := by decide +kernel
theorem d_X_anew_7 : decode b_X_anew 7 = .ok (.iconst 0, 1) := by decide +kernel
theorem d_X_anew_8 : decode b_X_anew 8 = .ok (.istore_n 1, 1) := by decide +kernel
theorem d_X_anew_9 : decode b_X_anew 9 = .ok (.iload_n 1, 1) := by decide +kernel
theorem d_X_anew_10 : decode b_X_anew 10 = .ok (.aload_n 0, 1) := by decide +kernel
theorem d_X_anew_11 : decode b_X_anew 11 = .ok (.getfield 24, 3) := by decide +kernel
theorem d_X_anew_14 : decode b_X_anew 14 = .ok (.arraylength, 1) := by decide +kernel
theorem d_X_anew_15 : decode b_X_anew 15 = .ok (.if_icmp .ge 18, 3) := by decide +kernel
theorem d_X_anew_18 : decode b_X_anew 18 = .ok (.aload_n 0, 1) := by decide +kernel
theorem d_X_anew_19 : decode b_X_anew 19 = .ok (.getfield 24, 3) := by decide +kernel
theorem d_X_anew_22 : decode b_X_anew 22 = .ok (.iload_n 1, 1) := by decide +kernel
theorem d_X_anew_23 : decode b_X_anew 23 = .ok (.ldc2_w 39, 3) := by decide +kernel
theorem d_X_anew_26 : decode b_X_anew 26 = .ok (.lastore, 1) := by decide +kernel
theorem d_X_anew_27 : decode b_X_anew 27 = .ok (.iinc 1 1, 3) := by decide +kernel
theorem d_X_anew_30 : decode b_X_anew 30 = .ok (.goto (-21), 3) := by decide +kernel
theorem d_X_anew_33 : decode b_X_anew 33 = .ok (.iconst 0, 1) := by decide +kernel
theorem d_X_anew_34 : decode b_X_anew 34 = .ok (.istore_n 1, 1) := by decide +kernel
theorem d_X_anew_35 : decode b_X_anew 35 = .ok (.iload_n 1, 1) := by decide +kernel
theorem d_X_anew_36 : decode b_X_anew 36 = .ok (.aload_n 0, 1) := by decide +kernel
theorem d_X_anew_37 : decode b_X_anew 37 = .ok (.getfield 41, 3) := by decide +kernel
theorem d_X_anew_40 : decode b_X_anew 40 = .ok (.if_icmp .ge 31, 3) := by decide +kernel
theorem d_X_anew_43 : decode b_X_anew 43 = .ok (.aload_n 0, 1) := by decide +kernel
theorem d_X_anew_44 : decode b_X_anew 44 = .ok (.getfield 13, 3) := by decide +kernel
theorem d_X_anew_47 : decode b_X_anew 47 = .ok (.iload_n 1, 1) := by decide +kernel
theorem d_X_anew_48 : decode b_X_anew 48 = .ok (.aaload, 1) := by decide +kernel
theorem d_X_anew_49 : decode b_X_anew 49 = .ok (.getfield 45, 3) := by decide +kernel
theorem d_X_anew_52 : decode b_X_anew 52 = .ok (.ifCond .eq 13, 3) := by decide +kernel
theorem d_X_anew_55 : decode b_X_anew 55 = .ok (.aload_n 0, 1) := by decide +kernel
theorem d_X_anew_56 : decode b_X_anew 56 = .ok (.aload_n 0, 1) := by decide +kernel
theorem d_X_anew_57 : decode b_X_anew 57 = .ok (.getfield 13, 3) := by decide +kernel
theorem d_X_anew_60 : decode b_X_anew 60 = .ok (.iload_n 1, 1) := by decide +kernel
theorem d_X_anew_61 : decode b_X_anew 61 = .ok (.aaload, 1) := by decide +kernel
theorem d_X_anew_62 : decode b_X_anew 62 = .ok (.invokevirtual 49, 3) := by decide +kernel
theorem d_X_anew_65 : decode b_X_anew 65 = .ok (.iinc 1 1, 3) := by decide +kernel
theorem d_X_anew_68 : decode b_X_anew 68 = .ok (.goto (-33), 3) := by decide +kernel
theorem d_X_anew_71 : decode b_X_anew 71 = .ok (.return_, 1) := by decide +kernel
theorem d_X_takes_0 : decode b_X_takes 0 = .ok (.aload_n 1, 1) := by decide +kernel
theorem d_X_takes_1 : decode b_X_takes 1 = .ok (.getfield 53, 3) := by decide +kernel
theorem d_X_takes_4 : decode b_X_takes 4 = .ok (.aload_n 1, 1) := by decide +kernel
theorem d_X_takes_5 : decode b_X_takes 5 = .ok (.getfield 56, 3) := by decide +kernel
theorem d_X_takes_8 : decode b_X_takes 8 = .ok (.invokestatic 59, 3) := by decide +kernel
theorem d_X_takes_11 : decode b_X_takes 11 = .ok (.istore_n 2, 1) := by decide +kernel
theorem d_X_takes_12 : decode b_X_takes 12 = .ok (.aload_n 0, 1) := by decide +kernel
theorem d_X_takes_13 : decode b_X_takes 13 = .ok (.getfield 24, 3) := by decide +kernel
theorem d_X_takes_16 : decode b_X_takes 16 = .ok (.iload_n 2, 1) := by decide +kernel
theorem d_X_takes_17 : decode b_X_takes 17 = .ok (.aload_n 0, 1) := by decide +kernel
theorem d_X_takes_18 : decode b_X_takes 18 = .ok (.getfield 24, 3) := by decide +kernel
theorem d_X_takes_21 : decode b_X_takes 21 = .ok (.iload_n 2, 1) := by decide +kernel
theorem d_X_takes_22 : decode b_X_takes 22 = .ok (.laload, 1) := by decide +kernel
theorem d_X_takes_23 : decode b_X_takes 23 = .ok (.aload_n 1, 1) := by decide +kernel
theorem d_X_takes_24 : decode b_X_takes 24 = .ok (.getfield 63, 3) := by decide +kernel
theorem d_X_takes_27 : decode b_X_takes 27 = .ok (.invokestatic 67, 3) := by decide +kernel
theorem d_X_takes_30 : decode b_X_takes 30 = .ok (.lastore, 1) := by decide +kernel
theorem d_X_takes_31 : decode b_X_takes 31 = .ok (.aload_n 0, 1) := by decide +kernel
theorem d_X_takes_32 : decode b_X_takes 32 = .ok (.getfield 20, 3) := by decide +kernel
theorem d_X_takes_35 : decode b_X_takes 35 = .ok (.aload_n 1, 1) := by decide +kernel
theorem d_X_takes_36 : decode b_X_takes 36 = .ok (.getfield 53, 3) := by decide +kernel
theorem d_X_takes_39 : decode b_X_takes 39 = .ok (.aload_n 1, 1) := by decide +kernel
theorem d_X_takes_40 : decode b_X_takes 40 = .ok (.getfield 56, 3) := by decide +kernel
theorem d_X_takes_43 : decode b_X_takes 43 = .ok (.aload_n 1, 1) := by decide +kernel
theorem d_X_takes_44 : decode b_X_takes 44 = .ok (.getfield 63, 3) := by decide +kernel
theorem d_X_takes_47 : decode b_X_takes 47 = .ok (.invokevirtual 73, 3) := by decide +kernel
theorem d_X_takes_50 : decode b_X_takes 50 = .ok (.return_, 1) := by decide +kernel
theorem d_X_isPoint_0 : decode b_X_isPoint 0 = .ok (.iload_n 0, 1) := by decide +kernel
theorem d_X_isPoint_1 : decode b_X_isPoint 1 = .ok (.ifCond .lt 13, 3) := by decide +kernel
theorem d_X_isPoint_4 : decode b_X_isPoint 4 = .ok (.iload_n 0, 1) := by decide +kernel
theorem d_X_isPoint_5 : decode b_X_isPoint 5 = .ok (.bipush 20, 2) := by decide +kernel
theorem d_X_isPoint_7 : decode b_X_isPoint 7 = .ok (.if_icmp .ge 7, 3) := by decide +kernel
theorem d_X_isPoint_10 : decode b_X_isPoint 10 = .ok (.iconst 1, 1) := by decide +kernel
theorem d_X_isPoint_11 : decode b_X_isPoint 11 = .ok (.goto 4, 3) := by decide +kernel
theorem d_X_isPoint_14 : decode b_X_isPoint 14 = .ok (.iconst 0, 1) := by decide +kernel
theorem d_X_isPoint_15 : decode b_X_isPoint 15 = .ok (.ireturn, 1) := by decide +kernel
theorem d_X_clearRow_0 : decode b_X_clearRow 0 = .ok (.aload_n 0, 1) := by decide +kernel
theorem d_X_clearRow_1 : decode b_X_clearRow 1 = .ok (.iconst 0, 1) := by decide +kernel
theorem d_X_clearRow_2 : decode b_X_clearRow 2 = .ok (.putfield 77, 3) := by decide +kernel
theorem d_X_clearRow_5 : decode b_X_clearRow 5 = .ok (.aload_n 0, 1) := by decide +kernel
theorem d_X_clearRow_6 : decode b_X_clearRow 6 = .ok (.lconst 0, 1) := by decide +kernel
theorem d_X_clearRow_7 : decode b_X_clearRow 7 = .ok (.putfield 80, 3) := by decide +kernel
theorem d_X_clearRow_10 : decode b_X_clearRow 10 = .ok (.return_, 1) := by decide +kernel
theorem d_X_tell_0 : decode b_X_tell 0 = .ok (.aload_n 0, 1) := by decide +kernel
theorem d_X_tell_1 : decode b_X_tell 1 = .ok (.getfield 28, 3) := by decide +kernel
theorem d_X_tell_4 : decode b_X_tell 4 = .ok (.aload_n 0, 1) := by decide +kernel
theorem d_X_tell_5 : decode b_X_tell 5 = .ok (.getfield 77, 3) := by decide +kernel
theorem d_X_tell_8 : decode b_X_tell 8 = .ok (.iload_n 1, 1) := by decide +kernel
theorem d_X_tell_9 : decode b_X_tell 9 = .ok (.iastore, 1) := by decide +kernel
theorem d_X_tell_10 : decode b_X_tell 10 = .ok (.aload_n 0, 1) := by decide +kernel
theorem d_X_tell_11 : decode b_X_tell 11 = .ok (.dup, 1) := by decide +kernel
theorem d_X_tell_12 : decode b_X_tell 12 = .ok (.getfield 77, 3) := by decide +kernel
theorem d_X_tell_15 : decode b_X_tell 15 = .ok (.iconst 1, 1) := by decide +kernel
theorem d_X_tell_16 : decode b_X_tell 16 = .ok (.iadd, 1) := by decide +kernel
theorem d_X_tell_17 : decode b_X_tell 17 = .ok (.putfield 77, 3) := by decide +kernel
theorem d_X_tell_20 : decode b_X_tell 20 = .ok (.return_, 1) := by decide +kernel
theorem d_X_follow_0 : decode b_X_follow 0 = .ok (.iload_n 1, 1) := by decide +kernel
theorem d_X_follow_1 : decode b_X_follow 1 = .ok (.istore_n 3, 1) := by decide +kernel
theorem d_X_follow_2 : decode b_X_follow 2 = .ok (.aload_n 0, 1) := by decide +kernel
theorem d_X_follow_3 : decode b_X_follow 3 = .ok (.getfield 20, 3) := by decide +kernel
theorem d_X_follow_6 : decode b_X_follow 6 = .ok (.getfield 83, 3) := by decide +kernel
theorem d_X_follow_9 : decode b_X_follow 9 = .ok (.iload_n 1, 1) := by decide +kernel
theorem d_X_follow_10 : decode b_X_follow 10 = .ok (.iload_n 2, 1) := by decide +kernel
theorem d_X_follow_11 : decode b_X_follow 11 = .ok (.invokestatic 59, 3) := by decide +kernel
theorem d_X_follow_14 : decode b_X_follow 14 = .ok (.laload, 1) := by decide +kernel
theorem d_X_follow_15 : decode b_X_follow 15 = .ok (.lstore 4, 2) := by decide +kernel
theorem d_X_follow_17 : decode b_X_follow 17 = .ok (.aload_n 0, 1) := by decide +kernel
theorem d_X_follow_18 : decode b_X_follow 18 = .ok (.getfield 20, 3) := by decide +kernel
theorem d_X_follow_21 : decode b_X_follow 21 = .ok (.getfield 86, 3) := by decide +kernel
theorem d_X_follow_24 : decode b_X_follow 24 = .ok (.iload_n 1, 1) := by decide +kernel
theorem d_X_follow_25 : decode b_X_follow 25 = .ok (.iload_n 2, 1) := by decide +kernel
theorem d_X_follow_26 : decode b_X_follow 26 = .ok (.invokestatic 59, 3) := by decide +kernel
theorem d_X_follow_29 : decode b_X_follow 29 = .ok (.iaload, 1) := by decide +kernel
theorem d_X_follow_30 : decode b_X_follow 30 = .ok (.istore 6, 2) := by decide +kernel
theorem d_X_follow_32 : decode b_X_follow 32 = .ok (.iload 6, 2) := by decide +kernel
theorem d_X_follow_34 : decode b_X_follow 34 = .ok (.ifCond .le 58, 3) := by decide +kernel
theorem d_X_follow_37 : decode b_X_follow 37 = .ok (.iconst 0, 1) := by decide +kernel
theorem d_X_follow_38 : decode b_X_follow 38 = .ok (.istore 7, 2) := by decide +kernel
theorem d_X_follow_40 : decode b_X_follow 40 = .ok (.aload_n 0, 1) := by decide +kernel
theorem d_X_follow_41 : decode b_X_follow 41 = .ok (.iload_n 3, 1) := by decide +kernel
theorem d_X_follow_42 : decode b_X_follow 42 = .ok (.iload 7, 2) := by decide +kernel
theorem d_X_follow_44 : decode b_X_follow 44 = .ok (.iload_n 2, 1) := by decide +kernel
theorem d_X_follow_45 : decode b_X_follow 45 = .ok (.lload 4, 2) := by decide +kernel
theorem d_X_follow_47 : decode b_X_follow 47 = .ok (.iload 6, 2) := by decide +kernel
theorem d_X_follow_49 : decode b_X_follow 49 = .ok (.invokevirtual 89, 3) := by decide +kernel
theorem d_X_follow_52 : decode b_X_follow 52 = .ok (.ifCond .ne 9, 3) := by decide +kernel
theorem d_X_follow_55 : decode b_X_follow 55 = .ok (.iinc 7 1, 3) := by decide +kernel
theorem d_X_follow_58 : decode b_X_follow 58 = .ok (.goto (-18), 3) := by decide +kernel
theorem d_X_follow_61 : decode b_X_follow 61 = .ok (.lload 4, 2) := by decide +kernel
theorem d_X_follow_63 : decode b_X_follow 63 = .ok (.aload_n 0, 1) := by decide +kernel
theorem d_X_follow_64 : decode b_X_follow 64 = .ok (.getfield 24, 3) := by decide +kernel
theorem d_X_follow_67 : decode b_X_follow 67 = .ok (.iload_n 3, 1) := by decide +kernel
theorem d_X_follow_68 : decode b_X_follow 68 = .ok (.iload 7, 2) := by decide +kernel
theorem d_X_follow_70 : decode b_X_follow 70 = .ok (.invokestatic 59, 3) := by decide +kernel
theorem d_X_follow_73 : decode b_X_follow 73 = .ok (.laload, 1) := by decide +kernel
theorem d_X_follow_74 : decode b_X_follow 74 = .ok (.lsub, 1) := by decide +kernel
theorem d_X_follow_75 : decode b_X_follow 75 = .ok (.lstore 4, 2) := by decide +kernel
theorem d_X_follow_77 : decode b_X_follow 77 = .ok (.iinc 6 (-1), 3) := by decide +kernel
theorem d_X_follow_80 : decode b_X_follow 80 = .ok (.aload_n 0, 1) := by decide +kernel
theorem d_X_follow_81 : decode b_X_follow 81 = .ok (.iload 7, 2) := by decide +kernel
theorem d_X_follow_83 : decode b_X_follow 83 = .ok (.invokevirtual 93, 3) := by decide +kernel
theorem d_X_follow_86 : decode b_X_follow 86 = .ok (.iload 7, 2) := by decide +kernel
theorem d_X_follow_88 : decode b_X_follow 88 = .ok (.istore_n 3, 1) := by decide +kernel
theorem d_X_follow_89 : decode b_X_follow 89 = .ok (.goto (-57), 3) := by decide +kernel
theorem d_X_follow_92 : decode b_X_follow 92 = .ok (.return_, 1) := by decide +kernel
theorem d_X_goes_0 : decode b_X_goes 0 = .ok (.aload_n 0, 1) := by decide +kernel
theorem d_X_goes_1 : decode b_X_goes 1 = .ok (.getfield 24, 3) := by decide +kernel
theorem d_X_goes_4 : decode b_X_goes 4 = .ok (.iload_n 1, 1) := by decide +kernel
theorem d_X_goes_5 : decode b_X_goes 5 = .ok (.iload_n 2, 1) := by decide +kernel
theorem d_X_goes_6 : decode b_X_goes 6 = .ok (.invokestatic 59, 3) := by decide +kernel
theorem d_X_goes_9 : decode b_X_goes 9 = .ok (.laload, 1) := by decide +kernel
theorem d_X_goes_10 : decode b_X_goes 10 = .ok (.lstore 7, 2) := by decide +kernel
theorem d_X_goes_12 : decode b_X_goes 12 = .ok (.lload 7, 2) := by decide +kernel
theorem d_X_goes_14 : decode b_X_goes 14 = .ok (.ldc2_w 39, 3) := by decide +kernel
theorem d_X_goes_17 : decode b_X_goes 17 = .ok (.lcmp, 1) := by decide +kernel
theorem d_X_goes_18 : decode b_X_goes 18 = .ok (.ifCond .eq 61, 3) := by decide +kernel
theorem d_X_goes_21 : decode b_X_goes 21 = .ok (.aload_n 0, 1) := by decide +kernel
theorem d_X_goes_22 : decode b_X_goes 22 = .ok (.getfield 20, 3) := by decide +kernel
theorem d_X_goes_25 : decode b_X_goes 25 = .ok (.iload_n 2, 1) := by decide +kernel
theorem d_X_goes_26 : decode b_X_goes 26 = .ok (.iload_n 3, 1) := by decide +kernel
theorem d_X_goes_27 : decode b_X_goes 27 = .ok (.invokevirtual 97, 3) := by decide +kernel
theorem d_X_goes_30 : decode b_X_goes 30 = .ok (.ifCond .eq 49, 3) := by decide +kernel
theorem d_X_goes_33 : decode b_X_goes 33 = .ok (.aload_n 0, 1) := by decide +kernel
theorem d_X_goes_34 : decode b_X_goes 34 = .ok (.getfield 20, 3) := by decide +kernel
theorem d_X_goes_37 : decode b_X_goes 37 = .ok (.getfield 83, 3) := by decide +kernel
theorem d_X_goes_40 : decode b_X_goes 40 = .ok (.iload_n 2, 1) := by decide +kernel
theorem d_X_goes_41 : decode b_X_goes 41 = .ok (.iload_n 3, 1) := by decide +kernel
theorem d_X_goes_42 : decode b_X_goes 42 = .ok (.invokestatic 59, 3) := by decide +kernel
theorem d_X_goes_45 : decode b_X_goes 45 = .ok (.laload, 1) := by decide +kernel
theorem d_X_goes_46 : decode b_X_goes 46 = .ok (.lload 4, 2) := by decide +kernel
theorem d_X_goes_48 : decode b_X_goes 48 = .ok (.lload 7, 2) := by decide +kernel
theorem d_X_goes_50 : decode b_X_goes 50 = .ok (.lsub, 1) := by decide +kernel
theorem d_X_goes_51 : decode b_X_goes 51 = .ok (.lcmp, 1) := by decide +kernel
theorem d_X_goes_52 : decode b_X_goes 52 = .ok (.ifCond .ne 27, 3) := by decide +kernel
theorem d_X_goes_55 : decode b_X_goes 55 = .ok (.aload_n 0, 1) := by decide +kernel
theorem d_X_goes_56 : decode b_X_goes 56 = .ok (.getfield 20, 3) := by decide +kernel
theorem d_X_goes_59 : decode b_X_goes 59 = .ok (.getfield 86, 3) := by decide +kernel
theorem d_X_goes_62 : decode b_X_goes 62 = .ok (.iload_n 2, 1) := by decide +kernel
theorem d_X_goes_63 : decode b_X_goes 63 = .ok (.iload_n 3, 1) := by decide +kernel
theorem d_X_goes_64 : decode b_X_goes 64 = .ok (.invokestatic 59, 3) := by decide +kernel
theorem d_X_goes_67 : decode b_X_goes 67 = .ok (.iaload, 1) := by decide +kernel
theorem d_X_goes_68 : decode b_X_goes 68 = .ok (.iload 6, 2) := by decide +kernel
theorem d_X_goes_70 : decode b_X_goes 70 = .ok (.iconst 1, 1) := by decide +kernel
theorem d_X_goes_71 : decode b_X_goes 71 = .ok (.isub, 1) := by decide +kernel
theorem d_X_goes_72 : decode b_X_goes 72 = .ok (.if_icmp .ne 7, 3) := by decide +kernel
theorem d_X_goes_75 : decode b_X_goes 75 = .ok (.iconst 1, 1) := by decide +kernel
theorem d_X_goes_76 : decode b_X_goes 76 = .ok (.goto 4, 3) := by decide +kernel
theorem d_X_goes_79 : decode b_X_goes 79 = .ok (.iconst 0, 1) := by decide +kernel
theorem d_X_goes_80 : decode b_X_goes 80 = .ok (.ireturn, 1) := by decide +kernel
end
section
theorem d_X_isRefused_0 : decode b_X_isRefused 0 = .ok (.aload_n 0, 1) := by decide +kernel
theorem d_X_isRefused_1 : decode b_X_isRefused 1 = .ok (.getfield 20, 3) := by decide +kernel
theorem d_X_isRefused_4 : decode b_X_isRefused 4 = .ok (.iload_n 2, 1) := by decide +kernel
theorem d_X_isRefused_5 : decode b_X_isRefused 5 = .ok (.iload_n 1, 1) := by decide +kernel
theorem d_X_isRefused_6 : decode b_X_isRefused 6 = .ok (.invokevirtual 97, 3) := by decide +kernel
theorem d_X_isRefused_9 : decode b_X_isRefused 9 = .ok (.ifCond .eq 23, 3) := by decide +kernel
theorem d_X_isRefused_12 : decode b_X_isRefused 12 = .ok (.aload_n 0, 1) := by decide +kernel
theorem d_X_isRefused_13 : decode b_X_isRefused 13 = .ok (.getfield 20, 3) := by decide +kernel
theorem d_X_isRefused_16 : decode b_X_isRefused 16 = .ok (.getfield 83, 3) := by decide +kernel
theorem d_X_isRefused_19 : decode b_X_isRefused 19 = .ok (.iload_n 2, 1) := by decide +kernel
theorem d_X_isRefused_20 : decode b_X_isRefused 20 = .ok (.iload_n 1, 1) := by decide +kernel
theorem d_X_isRefused_21 : decode b_X_isRefused 21 = .ok (.invokestatic 59, 3) := by decide +kernel
theorem d_X_isRefused_24 : decode b_X_isRefused 24 = .ok (.laload, 1) := by decide +kernel
theorem d_X_isRefused_25 : decode b_X_isRefused 25 = .ok (.lload_n 3, 1) := by decide +kernel
theorem d_X_isRefused_26 : decode b_X_isRefused 26 = .ok (.ladd, 1) := by decide +kernel
theorem d_X_isRefused_27 : decode b_X_isRefused 27 = .ok (.lconst 0, 1) := by decide +kernel
theorem d_X_isRefused_28 : decode b_X_isRefused 28 = .ok (.lcmp, 1) := by decide +kernel
theorem d_X_isRefused_29 : decode b_X_isRefused 29 = .ok (.ifCond .lt 5, 3) := by decide +kernel
theorem d_X_isRefused_32 : decode b_X_isRefused 32 = .ok (.iconst 0, 1) := by decide +kernel
theorem d_X_isRefused_33 : decode b_X_isRefused 33 = .ok (.ireturn, 1) := by decide +kernel
theorem d_X_isRefused_34 : decode b_X_isRefused 34 = .ok (.aload_n 0, 1) := by decide +kernel
theorem d_X_isRefused_35 : decode b_X_isRefused 35 = .ok (.invokevirtual 101, 3) := by decide +kernel
theorem d_X_isRefused_38 : decode b_X_isRefused 38 = .ok (.aload_n 0, 1) := by decide +kernel
theorem d_X_isRefused_39 : decode b_X_isRefused 39 = .ok (.iload_n 1, 1) := by decide +kernel
theorem d_X_isRefused_40 : decode b_X_isRefused 40 = .ok (.invokevirtual 93, 3) := by decide +kernel
theorem d_X_isRefused_43 : decode b_X_isRefused 43 = .ok (.aload_n 0, 1) := by decide +kernel
theorem d_X_isRefused_44 : decode b_X_isRefused 44 = .ok (.iload_n 2, 1) := by decide +kernel
theorem d_X_isRefused_45 : decode b_X_isRefused 45 = .ok (.invokevirtual 93, 3) := by decide +kernel
theorem d_X_isRefused_48 : decode b_X_isRefused 48 = .ok (.aload_n 0, 1) := by decide +kernel
theorem d_X_isRefused_49 : decode b_X_isRefused 49 = .ok (.iload_n 2, 1) := by decide +kernel
theorem d_X_isRefused_50 : decode b_X_isRefused 50 = .ok (.iload_n 1, 1) := by decide +kernel
theorem d_X_isRefused_51 : decode b_X_isRefused 51 = .ok (.invokevirtual 104, 3) := by decide +kernel
theorem d_X_isRefused_54 : decode b_X_isRefused 54 = .ok (.aload_n 0, 1) := by decide +kernel
theorem d_X_isRefused_55 : decode b_X_isRefused 55 = .ok (.aload_n 0, 1) := by decide +kernel
theorem d_X_isRefused_56 : decode b_X_isRefused 56 = .ok (.getfield 20, 3) := by decide +kernel
theorem d_X_isRefused_59 : decode b_X_isRefused 59 = .ok (.getfield 83, 3) := by decide +kernel
theorem d_X_isRefused_62 : decode b_X_isRefused 62 = .ok (.iload_n 2, 1) := by decide +kernel
theorem d_X_isRefused_63 : decode b_X_isRefused 63 = .ok (.iload_n 1, 1) := by decide +kernel
theorem d_X_isRefused_64 : decode b_X_isRefused 64 = .ok (.invokestatic 59, 3) := by decide +kernel
theorem d_X_isRefused_67 : decode b_X_isRefused 67 = .ok (.laload, 1) := by decide +kernel
theorem d_X_isRefused_68 : decode b_X_isRefused 68 = .ok (.lload_n 3, 1) := by decide +kernel
theorem d_X_isRefused_69 : decode b_X_isRefused 69 = .ok (.ladd, 1) := by decide +kernel
theorem d_X_isRefused_70 : decode b_X_isRefused 70 = .ok (.putfield 80, 3) := by decide +kernel
theorem d_X_isRefused_73 : decode b_X_isRefused 73 = .ok (.iconst 1, 1) := by decide +kernel
theorem d_X_isRefused_74 : decode b_X_isRefused 74 = .ok (.ireturn, 1) := by decide +kernel
theorem d_X_add_0 : decode b_X_add 0 = .ok (.iload_n 1, 1) := by decide +kernel
theorem d_X_add_1 : decode b_X_add 1 = .ok (.invokestatic 108, 3) := by decide +kernel
theorem d_X_add_4 : decode b_X_add 4 = .ok (.ifCond .eq 40, 3) := by decide +kernel
theorem d_X_add_7 : decode b_X_add 7 = .ok (.iload_n 2, 1) := by decide +kernel
theorem d_X_add_8 : decode b_X_add 8 = .ok (.invokestatic 108, 3) := by decide +kernel
theorem d_X_add_11 : decode b_X_add 11 = .ok (.ifCond .eq 33, 3) := by decide +kernel
theorem d_X_add_14 : decode b_X_add 14 = .ok (.iload_n 1, 1) := by decide +kernel
theorem d_X_add_15 : decode b_X_add 15 = .ok (.iload_n 2, 1) := by decide +kernel
theorem d_X_add_16 : decode b_X_add 16 = .ok (.if_icmp .eq 28, 3) := by decide +kernel
theorem d_X_add_19 : decode b_X_add 19 = .ok (.lload_n 3, 1) := by decide +kernel
theorem d_X_add_20 : decode b_X_add 20 = .ok (.ldc2_w 112, 3) := by decide +kernel
theorem d_X_add_23 : decode b_X_add 23 = .ok (.lcmp, 1) := by decide +kernel
theorem d_X_add_24 : decode b_X_add 24 = .ok (.ifCond .lt 20, 3) := by decide +kernel
theorem d_X_add_27 : decode b_X_add 27 = .ok (.lload_n 3, 1) := by decide +kernel
theorem d_X_add_28 : decode b_X_add 28 = .ok (.ldc2_w 114, 3) := by decide +kernel
theorem d_X_add_31 : decode b_X_add 31 = .ok (.lcmp, 1) := by decide +kernel
theorem d_X_add_32 : decode b_X_add 32 = .ok (.ifCond .gt 12, 3) := by decide +kernel
theorem d_X_add_35 : decode b_X_add 35 = .ok (.aload_n 0, 1) := by decide +kernel
theorem d_X_add_36 : decode b_X_add 36 = .ok (.getfield 41, 3) := by decide +kernel
theorem d_X_add_39 : decode b_X_add 39 = .ok (.bipush 120, 2) := by decide +kernel
theorem d_X_add_41 : decode b_X_add 41 = .ok (.if_icmp .ne 5, 3) := by decide +kernel
theorem d_X_add_44 : decode b_X_add 44 = .ok (.iconst (-1), 1) := by decide +kernel
theorem d_X_add_45 : decode b_X_add 45 = .ok (.ireturn, 1) := by decide +kernel
theorem d_X_add_46 : decode b_X_add 46 = .ok (.aload_n 0, 1) := by decide +kernel
theorem d_X_add_47 : decode b_X_add 47 = .ok (.iload_n 1, 1) := by decide +kernel
theorem d_X_add_48 : decode b_X_add 48 = .ok (.iload_n 2, 1) := by decide +kernel
theorem d_X_add_49 : decode b_X_add 49 = .ok (.lload_n 3, 1) := by decide +kernel
theorem d_X_add_50 : decode b_X_add 50 = .ok (.invokevirtual 116, 3) := by decide +kernel
theorem d_X_add_53 : decode b_X_add 53 = .ok (.ifCond .eq 6, 3) := by decide +kernel
theorem d_X_add_56 : decode b_X_add 56 = .ok (.bipush (-2), 2) := by decide +kernel
theorem d_X_add_58 : decode b_X_add 58 = .ok (.ireturn, 1) := by decide +kernel
theorem d_X_add_59 : decode b_X_add 59 = .ok (.aload_n 0, 1) := by decide +kernel
theorem d_X_add_60 : decode b_X_add 60 = .ok (.getfield 13, 3) := by decide +kernel
theorem d_X_add_63 : decode b_X_add 63 = .ok (.aload_n 0, 1) := by decide +kernel
theorem d_X_add_64 : decode b_X_add 64 = .ok (.getfield 41, 3) := by decide +kernel
theorem d_X_add_67 : decode b_X_add 67 = .ok (.aaload, 1) := by decide +kernel
theorem d_X_add_68 : decode b_X_add 68 = .ok (.astore 5, 2) := by decide +kernel
theorem d_X_add_70 : decode b_X_add 70 = .ok (.aload 5, 2) := by decide +kernel
theorem d_X_add_72 : decode b_X_add 72 = .ok (.iload_n 1, 1) := by decide +kernel
theorem d_X_add_73 : decode b_X_add 73 = .ok (.putfield 53, 3) := by decide +kernel
theorem d_X_add_76 : decode b_X_add 76 = .ok (.aload 5, 2) := by decide +kernel
theorem d_X_add_78 : decode b_X_add 78 = .ok (.iload_n 2, 1) := by decide +kernel
theorem d_X_add_79 : decode b_X_add 79 = .ok (.putfield 56, 3) := by decide +kernel
theorem d_X_add_82 : decode b_X_add 82 = .ok (.aload 5, 2) := by decide +kernel
theorem d_X_add_84 : decode b_X_add 84 = .ok (.lload_n 3, 1) := by decide +kernel
theorem d_X_add_85 : decode b_X_add 85 = .ok (.putfield 63, 3) := by decide +kernel
theorem d_X_add_88 : decode b_X_add 88 = .ok (.aload 5, 2) := by decide +kernel
theorem d_X_add_90 : decode b_X_add 90 = .ok (.iconst 1, 1) := by decide +kernel
theorem d_X_add_91 : decode b_X_add 91 = .ok (.putfield 45, 3) := by decide +kernel
theorem d_X_add_94 : decode b_X_add 94 = .ok (.aload_n 0, 1) := by decide +kernel
theorem d_X_add_95 : decode b_X_add 95 = .ok (.aload 5, 2) := by decide +kernel
theorem d_X_add_97 : decode b_X_add 97 = .ok (.invokevirtual 49, 3) := by decide +kernel
theorem d_X_add_100 : decode b_X_add 100 = .ok (.aload_n 0, 1) := by decide +kernel
theorem d_X_add_101 : decode b_X_add 101 = .ok (.dup, 1) := by decide +kernel
theorem d_X_add_102 : decode b_X_add 102 = .ok (.getfield 41, 3) := by decide +kernel
theorem d_X_add_105 : decode b_X_add 105 = .ok (.iconst 1, 1) := by decide +kernel
theorem d_X_add_106 : decode b_X_add 106 = .ok (.iadd, 1) := by decide +kernel
theorem d_X_add_107 : decode b_X_add 107 = .ok (.putfield 41, 3) := by decide +kernel
theorem d_X_add_110 : decode b_X_add 110 = .ok (.aload_n 0, 1) := by decide +kernel
theorem d_X_add_111 : decode b_X_add 111 = .ok (.dup, 1) := by decide +kernel
theorem d_X_add_112 : decode b_X_add 112 = .ok (.getfield 120, 3) := by decide +kernel
theorem d_X_add_115 : decode b_X_add 115 = .ok (.iconst 1, 1) := by decide +kernel
theorem d_X_add_116 : decode b_X_add 116 = .ok (.iadd, 1) := by decide +kernel
theorem d_X_add_117 : decode b_X_add 117 = .ok (.putfield 120, 3) := by decide +kernel
theorem d_X_add_120 : decode b_X_add 120 = .ok (.aload_n 0, 1) := by decide +kernel
theorem d_X_add_121 : decode b_X_add 121 = .ok (.getfield 41, 3) := by decide +kernel
theorem d_X_add_124 : decode b_X_add 124 = .ok (.iconst 1, 1) := by decide +kernel
theorem d_X_add_125 : decode b_X_add 125 = .ok (.isub, 1) := by decide +kernel
theorem d_X_add_126 : decode b_X_add 126 = .ok (.ireturn, 1) := by decide +kernel
theorem d_X_off_0 : decode b_X_off 0 = .ok (.iload_n 1, 1) := by decide +kernel
theorem d_X_off_1 : decode b_X_off 1 = .ok (.ifCond .lt 23, 3) := by decide +kernel
theorem d_X_off_4 : decode b_X_off 4 = .ok (.iload_n 1, 1) := by decide +kernel
theorem d_X_off_5 : decode b_X_off 5 = .ok (.aload_n 0, 1) := by decide +kernel
theorem d_X_off_6 : decode b_X_off 6 = .ok (.getfield 41, 3) := by decide +kernel
theorem d_X_off_9 : decode b_X_off 9 = .ok (.if_icmp .ge 15, 3) := by decide +kernel
theorem d_X_off_12 : decode b_X_off 12 = .ok (.aload_n 0, 1) := by decide +kernel
theorem d_X_off_13 : decode b_X_off 13 = .ok (.getfield 13, 3) := by decide +kernel
theorem d_X_off_16 : decode b_X_off 16 = .ok (.iload_n 1, 1) := by decide +kernel
theorem d_X_off_17 : decode b_X_off 17 = .ok (.aaload, 1) := by decide +kernel
theorem d_X_off_18 : decode b_X_off 18 = .ok (.getfield 45, 3) := by decide +kernel
theorem d_X_off_21 : decode b_X_off 21 = .ok (.ifCond .ne 5, 3) := by decide +kernel
theorem d_X_off_24 : decode b_X_off 24 = .ok (.iconst 0, 1) := by decide +kernel
theorem d_X_off_25 : decode b_X_off 25 = .ok (.ireturn, 1) := by decide +kernel
theorem d_X_off_26 : decode b_X_off 26 = .ok (.aload_n 0, 1) := by decide +kernel
theorem d_X_off_27 : decode b_X_off 27 = .ok (.getfield 13, 3) := by decide +kernel
theorem d_X_off_30 : decode b_X_off 30 = .ok (.iload_n 1, 1) := by decide +kernel
theorem d_X_off_31 : decode b_X_off 31 = .ok (.aaload, 1) := by decide +kernel
theorem d_X_off_32 : decode b_X_off 32 = .ok (.iconst 0, 1) := by decide +kernel
theorem d_X_off_33 : decode b_X_off 33 = .ok (.putfield 45, 3) := by decide +kernel
theorem d_X_off_36 : decode b_X_off 36 = .ok (.aload_n 0, 1) := by decide +kernel
theorem d_X_off_37 : decode b_X_off 37 = .ok (.dup, 1) := by decide +kernel
theorem d_X_off_38 : decode b_X_off 38 = .ok (.getfield 120, 3) := by decide +kernel
theorem d_X_off_41 : decode b_X_off 41 = .ok (.iconst 1, 1) := by decide +kernel
theorem d_X_off_42 : decode b_X_off 42 = .ok (.isub, 1) := by decide +kernel
theorem d_X_off_43 : decode b_X_off 43 = .ok (.putfield 120, 3) := by decide +kernel
theorem d_X_off_46 : decode b_X_off 46 = .ok (.aload_n 0, 1) := by decide +kernel
theorem d_X_off_47 : decode b_X_off 47 = .ok (.invokevirtual 33, 3) := by decide +kernel
theorem d_X_off_50 : decode b_X_off 50 = .ok (.iconst 1, 1) := by decide +kernel
theorem d_X_off_51 : decode b_X_off 51 = .ok (.ireturn, 1) := by decide +kernel
theorem d_X_on_0 : decode b_X_on 0 = .ok (.iload_n 1, 1) := by decide +kernel
theorem d_X_on_1 : decode b_X_on 1 = .ok (.ifCond .lt 23, 3) := by decide +kernel
theorem d_X_on_4 : decode b_X_on 4 = .ok (.iload_n 1, 1) := by decide +kernel
theorem d_X_on_5 : decode b_X_on 5 = .ok (.aload_n 0, 1) := by decide +kernel
theorem d_X_on_6 : decode b_X_on 6 = .ok (.getfield 41, 3) := by decide +kernel
theorem d_X_on_9 : decode b_X_on 9 = .ok (.if_icmp .ge 15, 3) := by decide +kernel
theorem d_X_on_12 : decode b_X_on 12 = .ok (.aload_n 0, 1) := by decide +kernel
theorem d_X_on_13 : decode b_X_on 13 = .ok (.getfield 13, 3) := by decide +kernel
theorem d_X_on_16 : decode b_X_on 16 = .ok (.iload_n 1, 1) := by decide +kernel
theorem d_X_on_17 : decode b_X_on 17 = .ok (.aaload, 1) := by decide +kernel
theorem d_X_on_18 : decode b_X_on 18 = .ok (.getfield 45, 3) := by decide +kernel
theorem d_X_on_21 : decode b_X_on 21 = .ok (.ifCond .eq 5, 3) := by decide +kernel
theorem d_X_on_24 : decode b_X_on 24 = .ok (.iconst (-1), 1) := by decide +kernel
theorem d_X_on_25 : decode b_X_on 25 = .ok (.ireturn, 1) := by decide +kernel
theorem d_X_on_26 : decode b_X_on 26 = .ok (.aload_n 0, 1) := by decide +kernel
theorem d_X_on_27 : decode b_X_on 27 = .ok (.getfield 13, 3) := by decide +kernel
theorem d_X_on_30 : decode b_X_on 30 = .ok (.iload_n 1, 1) := by decide +kernel
theorem d_X_on_31 : decode b_X_on 31 = .ok (.aaload, 1) := by decide +kernel
theorem d_X_on_32 : decode b_X_on 32 = .ok (.astore_n 2, 1) := by decide +kernel
theorem d_X_on_33 : decode b_X_on 33 = .ok (.aload_n 0, 1) := by decide +kernel
theorem d_X_on_34 : decode b_X_on 34 = .ok (.aload_n 2, 1) := by decide +kernel
theorem d_X_on_35 : decode b_X_on 35 = .ok (.getfield 53, 3) := by decide +kernel
theorem d_X_on_38 : decode b_X_on 38 = .ok (.aload_n 2, 1) := by decide +kernel
theorem d_X_on_39 : decode b_X_on 39 = .ok (.getfield 56, 3) := by decide +kernel
theorem d_X_on_42 : decode b_X_on 42 = .ok (.aload_n 2, 1) := by decide +kernel
theorem d_X_on_43 : decode b_X_on 43 = .ok (.getfield 63, 3) := by decide +kernel
theorem d_X_on_46 : decode b_X_on 46 = .ok (.invokevirtual 116, 3) := by decide +kernel
theorem d_X_on_49 : decode b_X_on 49 = .ok (.ifCond .eq 6, 3) := by decide +kernel
theorem d_X_on_52 : decode b_X_on 52 = .ok (.bipush (-2), 2) := by decide +kernel
theorem d_X_on_54 : decode b_X_on 54 = .ok (.ireturn, 1) := by decide +kernel
theorem d_X_on_55 : decode b_X_on 55 = .ok (.aload_n 2, 1) := by decide +kernel
theorem d_X_on_56 : decode b_X_on 56 = .ok (.iconst 1, 1) := by decide +kernel
theorem d_X_on_57 : decode b_X_on 57 = .ok (.putfield 45, 3) := by decide +kernel
theorem d_X_on_60 : decode b_X_on 60 = .ok (.aload_n 0, 1) := by decide +kernel
theorem d_X_on_61 : decode b_X_on 61 = .ok (.dup, 1) := by decide +kernel
theorem d_X_on_62 : decode b_X_on 62 = .ok (.getfield 120, 3) := by decide +kernel
theorem d_X_on_65 : decode b_X_on 65 = .ok (.iconst 1, 1) := by decide +kernel
theorem d_X_on_66 : decode b_X_on 66 = .ok (.iadd, 1) := by decide +kernel
theorem d_X_on_67 : decode b_X_on 67 = .ok (.putfield 120, 3) := by decide +kernel
theorem d_X_on_70 : decode b_X_on 70 = .ok (.aload_n 0, 1) := by decide +kernel
theorem d_X_on_71 : decode b_X_on 71 = .ok (.aload_n 2, 1) := by decide +kernel
theorem d_X_on_72 : decode b_X_on 72 = .ok (.invokevirtual 49, 3) := by decide +kernel
theorem d_X_on_75 : decode b_X_on 75 = .ok (.iload_n 1, 1) := by decide +kernel
theorem d_X_on_76 : decode b_X_on 76 = .ok (.ireturn, 1) := by decide +kernel
theorem d_X_must_0 : decode b_X_must 0 = .ok (.iload_n 0, 1) := by decide +kernel
theorem d_X_must_1 : decode b_X_must 1 = .ok (.ifCond .ne 11, 3) := by decide +kernel
theorem d_X_must_4 : decode b_X_must 4 = .ok (.new 123, 3) := by decide +kernel
theorem d_X_must_7 : decode b_X_must 7 = .ok (.dup, 1) := by decide +kernel
theorem d_X_must_8 : decode b_X_must 8 = .ok (.invokespecial 125, 3) := by decide +kernel
theorem d_X_must_11 : decode b_X_must 11 = .ok (.athrow, 1) := by decide +kernel
theorem d_X_must_12 : decode b_X_must 12 = .ok (.return_, 1) := by decide +kernel
theorem d_X_bound_0 : decode b_X_bound 0 = .ok (.iload_n 1, 1) := by decide +kernel
theorem d_X_bound_1 : decode b_X_bound 1 = .ok (.invokestatic 108, 3) := by decide +kernel
theorem d_X_bound_4 : decode b_X_bound 4 = .ok (.ifCond .eq 14, 3) := by decide +kernel
theorem d_X_bound_7 : decode b_X_bound 7 = .ok (.iload_n 2, 1) := by decide +kernel
theorem d_X_bound_8 : decode b_X_bound 8 = .ok (.invokestatic 108, 3) := by decide +kernel
theorem d_X_bound_11 : decode b_X_bound 11 = .ok (.ifCond .eq 7, 3) := by decide +kernel
theorem d_X_bound_14 : decode b_X_bound 14 = .ok (.iconst 1, 1) := by decide +kernel
theorem d_X_bound_15 : decode b_X_bound 15 = .ok (.goto 4, 3) := by decide +kernel
theorem d_X_bound_18 : decode b_X_bound 18 = .ok (.iconst 0, 1) := by decide +kernel
theorem d_X_bound_19 : decode b_X_bound 19 = .ok (.invokestatic 126, 3) := by decide +kernel
theorem d_X_bound_22 : decode b_X_bound 22 = .ok (.aload_n 0, 1) := by decide +kernel
theorem d_X_bound_23 : decode b_X_bound 23 = .ok (.getfield 20, 3) := by decide +kernel
theorem d_X_bound_26 : decode b_X_bound 26 = .ok (.getfield 83, 3) := by decide +kernel
theorem d_X_bound_29 : decode b_X_bound 29 = .ok (.iload_n 1, 1) := by decide +kernel
theorem d_X_bound_30 : decode b_X_bound 30 = .ok (.iload_n 2, 1) := by decide +kernel
theorem d_X_bound_31 : decode b_X_bound 31 = .ok (.invokestatic 59, 3) := by decide +kernel
theorem d_X_bound_34 : decode b_X_bound 34 = .ok (.laload, 1) := by decide +kernel
theorem d_X_bound_35 : decode b_X_bound 35 = .ok (.lreturn, 1) := by decide +kernel
theorem d_X_steps_0 : decode b_X_steps 0 = .ok (.iload_n 1, 1) := by decide +kernel
theorem d_X_steps_1 : decode b_X_steps 1 = .ok (.invokestatic 108, 3) := by decide +kernel
theorem d_X_steps_4 : decode b_X_steps 4 = .ok (.ifCond .eq 38, 3) := by decide +kernel
theorem d_X_steps_7 : decode b_X_steps 7 = .ok (.iload_n 2, 1) := by decide +kernel
theorem d_X_steps_8 : decode b_X_steps 8 = .ok (.invokestatic 108, 3) := by decide +kernel
theorem d_X_steps_11 : decode b_X_steps 11 = .ok (.ifCond .eq 31, 3) := by decide +kernel
theorem d_X_steps_14 : decode b_X_steps 14 = .ok (.aload_n 0, 1) := by decide +kernel
theorem d_X_steps_15 : decode b_X_steps 15 = .ok (.getfield 20, 3) := by decide +kernel
theorem d_X_steps_18 : decode b_X_steps 18 = .ok (.iload_n 1, 1) := by decide +kernel
theorem d_X_steps_19 : decode b_X_steps 19 = .ok (.iload_n 2, 1) := by decide +kernel
theorem d_X_steps_20 : decode b_X_steps 20 = .ok (.invokevirtual 97, 3) := by decide +kernel
theorem d_X_steps_23 : decode b_X_steps 23 = .ok (.ifCond .eq 19, 3) := by decide +kernel
theorem d_X_steps_26 : decode b_X_steps 26 = .ok (.aload_n 0, 1) := by decide +kernel
theorem d_X_steps_27 : decode b_X_steps 27 = .ok (.getfield 20, 3) := by decide +kernel
theorem d_X_steps_30 : decode b_X_steps 30 = .ok (.getfield 86, 3) := by decide +kernel
theorem d_X_steps_33 : decode b_X_steps 33 = .ok (.iload_n 1, 1) := by decide +kernel
theorem d_X_steps_34 : decode b_X_steps 34 = .ok (.iload_n 2, 1) := by decide +kernel
theorem d_X_steps_35 : decode b_X_steps 35 = .ok (.invokestatic 59, 3) := by decide +kernel
theorem d_X_steps_38 : decode b_X_steps 38 = .ok (.iaload, 1) := by decide +kernel
theorem d_X_steps_39 : decode b_X_steps 39 = .ok (.goto 4, 3) := by decide +kernel
theorem d_X_steps_42 : decode b_X_steps 42 = .ok (.iconst (-1), 1) := by decide +kernel
theorem d_X_steps_43 : decode b_X_steps 43 = .ok (.ireturn, 1) := by decide +kernel
theorem d_X_path_0 : decode b_X_path 0 = .ok (.aload_n 0, 1) := by decide +kernel
theorem d_X_path_1 : decode b_X_path 1 = .ok (.iload_n 1, 1) := by decide +kernel
theorem d_X_path_2 : decode b_X_path 2 = .ok (.iload_n 2, 1) := by decide +kernel
theorem d_X_path_3 : decode b_X_path 3 = .ok (.invokevirtual 130, 3) := by decide +kernel
theorem d_X_path_6 : decode b_X_path 6 = .ok (.ifCond .ge 5, 3) := by decide +kernel
theorem d_X_path_9 : decode b_X_path 9 = .ok (.iconst (-1), 1) := by decide +kernel
theorem d_X_path_10 : decode b_X_path 10 = .ok (.ireturn, 1) := by decide +kernel
theorem d_X_path_11 : decode b_X_path 11 = .ok (.aload_n 0, 1) := by decide +kernel
theorem d_X_path_12 : decode b_X_path 12 = .ok (.invokevirtual 101, 3) := by decide +kernel
theorem d_X_path_15 : decode b_X_path 15 = .ok (.aload_n 0, 1) := by decide +kernel
theorem d_X_path_16 : decode b_X_path 16 = .ok (.iload_n 1, 1) := by decide +kernel
theorem d_X_path_17 : decode b_X_path 17 = .ok (.invokevirtual 93, 3) := by decide +kernel
theorem d_X_path_20 : decode b_X_path 20 = .ok (.aload_n 0, 1) := by decide +kernel
theorem d_X_path_21 : decode b_X_path 21 = .ok (.iload_n 1, 1) := by decide +kernel
theorem d_X_path_22 : decode b_X_path 22 = .ok (.iload_n 2, 1) := by decide +kernel
theorem d_X_path_23 : decode b_X_path 23 = .ok (.invokevirtual 104, 3) := by decide +kernel
theorem d_X_path_26 : decode b_X_path 26 = .ok (.aload_n 0, 1) := by decide +kernel
theorem d_X_path_27 : decode b_X_path 27 = .ok (.aload_n 0, 1) := by decide +kernel
theorem d_X_path_28 : decode b_X_path 28 = .ok (.getfield 20, 3) := by decide +kernel
theorem d_X_path_31 : decode b_X_path 31 = .ok (.getfield 83, 3) := by decide +kernel
theorem d_X_path_34 : decode b_X_path 34 = .ok (.iload_n 1, 1) := by decide +kernel
theorem d_X_path_35 : decode b_X_path 35 = .ok (.iload_n 2, 1) := by decide +kernel
theorem d_X_path_36 : decode b_X_path 36 = .ok (.invokestatic 59, 3) := by decide +kernel
theorem d_X_path_39 : decode b_X_path 39 = .ok (.laload, 1) := by decide +kernel
theorem d_X_path_40 : decode b_X_path 40 = .ok (.putfield 80, 3) := by decide +kernel
theorem d_X_path_43 : decode b_X_path 43 = .ok (.aload_n 0, 1) := by decide +kernel
theorem d_X_path_44 : decode b_X_path 44 = .ok (.getfield 77, 3) := by decide +kernel
theorem d_X_path_47 : decode b_X_path 47 = .ok (.ireturn, 1) := by decide +kernel
theorem d_X_row_0 : decode b_X_row 0 = .ok (.aload_n 0, 1) := by decide +kernel
theorem d_X_row_1 : decode b_X_row 1 = .ok (.getfield 77, 3) := by decide +kernel
theorem d_X_row_4 : decode b_X_row 4 = .ok (.ireturn, 1) := by decide +kernel
theorem d_X_rowAt_0 : decode b_X_rowAt 0 = .ok (.iload_n 1, 1) := by decide +kernel
theorem d_X_rowAt_1 : decode b_X_rowAt 1 = .ok (.ifCond .lt 20, 3) := by decide +kernel
theorem d_X_rowAt_4 : decode b_X_rowAt 4 = .ok (.iload_n 1, 1) := by decide +kernel
theorem d_X_rowAt_5 : decode b_X_rowAt 5 = .ok (.aload_n 0, 1) := by decide +kernel
theorem d_X_rowAt_6 : decode b_X_rowAt 6 = .ok (.getfield 77, 3) := by decide +kernel
theorem d_X_rowAt_9 : decode b_X_rowAt 9 = .ok (.if_icmp .ge 12, 3) := by decide +kernel
theorem d_X_rowAt_12 : decode b_X_rowAt 12 = .ok (.aload_n 0, 1) := by decide +kernel
theorem d_X_rowAt_13 : decode b_X_rowAt 13 = .ok (.getfield 28, 3) := by decide +kernel
theorem d_X_rowAt_16 : decode b_X_rowAt 16 = .ok (.iload_n 1, 1) := by decide +kernel
theorem d_X_rowAt_17 : decode b_X_rowAt 17 = .ok (.iaload, 1) := by decide +kernel
theorem d_X_rowAt_18 : decode b_X_rowAt 18 = .ok (.goto 4, 3) := by decide +kernel
theorem d_X_rowAt_21 : decode b_X_rowAt 21 = .ok (.iconst (-1), 1) := by decide +kernel
theorem d_X_rowAt_22 : decode b_X_rowAt 22 = .ok (.ireturn, 1) := by decide +kernel
theorem d_X_length_0 : decode b_X_length 0 = .ok (.aload_n 0, 1) := by decide +kernel
theorem d_X_length_1 : decode b_X_length 1 = .ok (.getfield 80, 3) := by decide +kernel
theorem d_X_length_4 : decode b_X_length 4 = .ok (.lreturn, 1) := by decide +kernel
theorem d_X_earliest_0 : decode b_X_earliest 0 = .ok (.iload_n 1, 1) := by decide +kernel
theorem d_X_earliest_1 : decode b_X_earliest 1 = .ok (.invokestatic 108, 3) := by decide +kernel
theorem d_X_earliest_4 : decode b_X_earliest 4 = .ok (.invokestatic 126, 3) := by decide +kernel
theorem d_X_earliest_7 : decode b_X_earliest 7 = .ok (.aload_n 0, 1) := by decide +kernel
theorem d_X_earliest_8 : decode b_X_earliest 8 = .ok (.getfield 20, 3) := by decide +kernel
theorem d_X_earliest_11 : decode b_X_earliest 11 = .ok (.iload_n 1, 1) := by decide +kernel
theorem d_X_earliest_12 : decode b_X_earliest 12 = .ok (.iconst 0, 1) := by decide +kernel
theorem d_X_earliest_13 : decode b_X_earliest 13 = .ok (.invokevirtual 97, 3) := by decide +kernel
theorem d_X_earliest_16 : decode b_X_earliest 16 = .ok (.ifCond .eq 20, 3) := by decide +kernel
theorem d_X_earliest_19 : decode b_X_earliest 19 = .ok (.aload_n 0, 1) := by decide +kernel
theorem d_X_earliest_20 : decode b_X_earliest 20 = .ok (.getfield 20, 3) := by decide +kernel
theorem d_X_earliest_23 : decode b_X_earliest 23 = .ok (.getfield 83, 3) := by decide +kernel
theorem d_X_earliest_26 : decode b_X_earliest 26 = .ok (.iload_n 1, 1) := by decide +kernel
theorem d_X_earliest_27 : decode b_X_earliest 27 = .ok (.iconst 0, 1) := by decide +kernel
theorem d_X_earliest_28 : decode b_X_earliest 28 = .ok (.invokestatic 59, 3) := by decide +kernel
theorem d_X_earliest_31 : decode b_X_earliest 31 = .ok (.laload, 1) := by decide +kernel
theorem d_X_earliest_32 : decode b_X_earliest 32 = .ok (.lneg, 1) := by decide +kernel
theorem d_X_earliest_33 : decode b_X_earliest 33 = .ok (.goto 6, 3) := by decide +kernel
theorem d_X_earliest_36 : decode b_X_earliest 36 = .ok (.ldc2_w 132, 3) := by decide +kernel
theorem d_X_earliest_39 : decode b_X_earliest 39 = .ok (.lreturn, 1) := by decide +kernel
theorem d_X_slack_0 : decode b_X_slack 0 = .ok (.iload_n 1, 1) := by decide +kernel
theorem d_X_slack_1 : decode b_X_slack 1 = .ok (.ifCond .lt 23, 3) := by decide +kernel
theorem d_X_slack_4 : decode b_X_slack 4 = .ok (.iload_n 1, 1) := by decide +kernel
theorem d_X_slack_5 : decode b_X_slack 5 = .ok (.aload_n 0, 1) := by decide +kernel
theorem d_X_slack_6 : decode b_X_slack 6 = .ok (.getfield 41, 3) := by decide +kernel
theorem d_X_slack_9 : decode b_X_slack 9 = .ok (.if_icmp .ge 15, 3) := by decide +kernel
theorem d_X_slack_12 : decode b_X_slack 12 = .ok (.aload_n 0, 1) := by decide +kernel
theorem d_X_slack_13 : decode b_X_slack 13 = .ok (.getfield 13, 3) := by decide +kernel
theorem d_X_slack_16 : decode b_X_slack 16 = .ok (.iload_n 1, 1) := by decide +kernel
theorem d_X_slack_17 : decode b_X_slack 17 = .ok (.aaload, 1) := by decide +kernel
theorem d_X_slack_18 : decode b_X_slack 18 = .ok (.getfield 45, 3) := by decide +kernel
theorem d_X_slack_21 : decode b_X_slack 21 = .ok (.ifCond .ne 7, 3) := by decide +kernel
theorem d_X_slack_24 : decode b_X_slack 24 = .ok (.ldc2_w 134, 3) := by decide +kernel
theorem d_X_slack_27 : decode b_X_slack 27 = .ok (.lreturn, 1) := by decide +kernel
theorem d_X_slack_28 : decode b_X_slack 28 = .ok (.aload_n 0, 1) := by decide +kernel
theorem d_X_slack_29 : decode b_X_slack 29 = .ok (.getfield 13, 3) := by decide +kernel
theorem d_X_slack_32 : decode b_X_slack 32 = .ok (.iload_n 1, 1) := by decide +kernel
theorem d_X_slack_33 : decode b_X_slack 33 = .ok (.aaload, 1) := by decide +kernel
theorem d_X_slack_34 : decode b_X_slack 34 = .ok (.getfield 63, 3) := by decide +kernel
theorem d_X_slack_37 : decode b_X_slack 37 = .ok (.aload_n 0, 1) := by decide +kernel
theorem d_X_slack_38 : decode b_X_slack 38 = .ok (.getfield 20, 3) := by decide +kernel
theorem d_X_slack_41 : decode b_X_slack 41 = .ok (.getfield 83, 3) := by decide +kernel
theorem d_X_slack_44 : decode b_X_slack 44 = .ok (.aload_n 0, 1) := by decide +kernel
theorem d_X_slack_45 : decode b_X_slack 45 = .ok (.getfield 13, 3) := by decide +kernel
theorem d_X_slack_48 : decode b_X_slack 48 = .ok (.iload_n 1, 1) := by decide +kernel
theorem d_X_slack_49 : decode b_X_slack 49 = .ok (.aaload, 1) := by decide +kernel
theorem d_X_slack_50 : decode b_X_slack 50 = .ok (.getfield 53, 3) := by decide +kernel
theorem d_X_slack_53 : decode b_X_slack 53 = .ok (.aload_n 0, 1) := by decide +kernel
theorem d_X_slack_54 : decode b_X_slack 54 = .ok (.getfield 13, 3) := by decide +kernel
theorem d_X_slack_57 : decode b_X_slack 57 = .ok (.iload_n 1, 1) := by decide +kernel
theorem d_X_slack_58 : decode b_X_slack 58 = .ok (.aaload, 1) := by decide +kernel
theorem d_X_slack_59 : decode b_X_slack 59 = .ok (.getfield 56, 3) := by decide +kernel
theorem d_X_slack_62 : decode b_X_slack 62 = .ok (.invokestatic 59, 3) := by decide +kernel
theorem d_X_slack_65 : decode b_X_slack 65 = .ok (.laload, 1) := by decide +kernel
theorem d_X_slack_66 : decode b_X_slack 66 = .ok (.lsub, 1) := by decide +kernel
theorem d_X_slack_67 : decode b_X_slack 67 = .ok (.lreturn, 1) := by decide +kernel
theorem d_X_alive_0 : decode b_X_alive 0 = .ok (.aload_n 0, 1) := by decide +kernel
theorem d_X_alive_1 : decode b_X_alive 1 = .ok (.getfield 120, 3) := by decide +kernel
theorem d_X_alive_4 : decode b_X_alive 4 = .ok (.ireturn, 1) := by decide +kernel
end
section
theorem d_M_init_0 : decode b_M_init 0 = .ok (.aload_n 0, 1) := by decide +kernel
theorem d_M_init_1 : decode b_M_init 1 = .ok (.invokespecial 1, 3) := by decide +kernel
theorem d_M_init_4 : decode b_M_init 4 = .ok (.aload_n 0, 1) := by decide +kernel
theorem d_M_init_5 : decode b_M_init 5 = .ok (.bipush 120, 2) := by decide +kernel
theorem d_M_init_7 : decode b_M_init 7 = .ok (.newarray .int, 2) := by decide +kernel
theorem d_M_init_9 : decode b_M_init 9 = .ok (.putfield 7, 3) := by decide +kernel
theorem d_M_init_12 : decode b_M_init 12 = .ok (.aload_n 0, 1) := by decide +kernel
theorem d_M_init_13 : decode b_M_init 13 = .ok (.bipush 120, 2) := by decide +kernel
theorem d_M_init_15 : decode b_M_init 15 = .ok (.newarray .int, 2) := by decide +kernel
theorem d_M_init_17 : decode b_M_init 17 = .ok (.putfield 13, 3) := by decide +kernel
theorem d_M_init_20 : decode b_M_init 20 = .ok (.aload_n 0, 1) := by decide +kernel
theorem d_M_init_21 : decode b_M_init 21 = .ok (.bipush 120, 2) := by decide +kernel
theorem d_M_init_23 : decode b_M_init 23 = .ok (.newarray .long, 2) := by decide +kernel
theorem d_M_init_25 : decode b_M_init 25 = .ok (.putfield 16, 3) := by decide +kernel
theorem d_M_init_28 : decode b_M_init 28 = .ok (.aload_n 0, 1) := by decide +kernel
theorem d_M_init_29 : decode b_M_init 29 = .ok (.bipush 120, 2) := by decide +kernel
theorem d_M_init_31 : decode b_M_init 31 = .ok (.newarray .boolean, 2) := by decide +kernel
theorem d_M_init_33 : decode b_M_init 33 = .ok (.putfield 20, 3) := by decide +kernel
theorem d_M_init_36 : decode b_M_init 36 = .ok (.aload_n 0, 1) := by decide +kernel
theorem d_M_init_37 : decode b_M_init 37 = .ok (.bipush 24, 2) := by decide +kernel
theorem d_M_init_39 : decode b_M_init 39 = .ok (.newarray .int, 2) := by decide +kernel
theorem d_M_init_41 : decode b_M_init 41 = .ok (.putfield 24, 3) := by decide +kernel
theorem d_M_init_44 : decode b_M_init 44 = .ok (.aload_n 0, 1) := by decide +kernel
theorem d_M_init_45 : decode b_M_init 45 = .ok (.sipush 420, 3) := by decide +kernel
theorem d_M_init_48 : decode b_M_init 48 = .ok (.newarray .long, 2) := by decide +kernel
theorem d_M_init_50 : decode b_M_init 50 = .ok (.putfield 27, 3) := by decide +kernel
theorem d_M_init_53 : decode b_M_init 53 = .ok (.return_, 1) := by decide +kernel
theorem d_M_thrown_0 : decode b_M_thrown 0 = .ok (.aload_n 0, 1) := by decide +kernel
theorem d_M_thrown_1 : decode b_M_thrown 1 = .ok (.getfield 30, 3) := by decide +kernel
theorem d_M_thrown_4 : decode b_M_thrown 4 = .ok (.ireturn, 1) := by decide +kernel
theorem d_M_isPoint_0 : decode b_M_isPoint 0 = .ok (.iload_n 0, 1) := by decide +kernel
theorem d_M_isPoint_1 : decode b_M_isPoint 1 = .ok (.ifCond .lt 13, 3) := by decide +kernel
theorem d_M_isPoint_4 : decode b_M_isPoint 4 = .ok (.iload_n 0, 1) := by decide +kernel
theorem d_M_isPoint_5 : decode b_M_isPoint 5 = .ok (.bipush 20, 2) := by decide +kernel
theorem d_M_isPoint_7 : decode b_M_isPoint 7 = .ok (.if_icmp .ge 7, 3) := by decide +kernel
theorem d_M_isPoint_10 : decode b_M_isPoint 10 = .ok (.iconst 1, 1) := by decide +kernel
theorem d_M_isPoint_11 : decode b_M_isPoint 11 = .ok (.goto 4, 3) := by decide +kernel
theorem d_M_isPoint_14 : decode b_M_isPoint 14 = .ok (.iconst 0, 1) := by decide +kernel
theorem d_M_isPoint_15 : decode b_M_isPoint 15 = .ok (.ireturn, 1) := by decide +kernel
theorem d_M_isThere_0 : decode b_M_isThere 0 = .ok (.iload_n 1, 1) := by decide +kernel
theorem d_M_isThere_1 : decode b_M_isThere 1 = .ok (.ifCond .lt 15, 3) := by decide +kernel
theorem d_M_isThere_4 : decode b_M_isThere 4 = .ok (.iload_n 1, 1) := by decide +kernel
theorem d_M_isThere_5 : decode b_M_isThere 5 = .ok (.aload_n 0, 1) := by decide +kernel
theorem d_M_isThere_6 : decode b_M_isThere 6 = .ok (.getfield 34, 3) := by decide +kernel
theorem d_M_isThere_9 : decode b_M_isThere 9 = .ok (.if_icmp .ge 7, 3) := by decide +kernel
theorem d_M_isThere_12 : decode b_M_isThere 12 = .ok (.iconst 1, 1) := by decide +kernel
theorem d_M_isThere_13 : decode b_M_isThere 13 = .ok (.goto 4, 3) := by decide +kernel
theorem d_M_isThere_16 : decode b_M_isThere 16 = .ok (.iconst 0, 1) := by decide +kernel
theorem d_M_isThere_17 : decode b_M_isThere 17 = .ok (.ireturn, 1) := by decide +kernel
theorem d_M_step_0 : decode b_M_step 0 = .ok (.ldc2_w 37, 3) := by decide +kernel
theorem d_M_step_3 : decode b_M_step 3 = .ok (.lstore_n 3, 1) := by decide +kernel
theorem d_M_step_4 : decode b_M_step 4 = .ok (.iconst 0, 1) := by decide +kernel
theorem d_M_step_5 : decode b_M_step 5 = .ok (.istore 5, 2) := by decide +kernel
theorem d_M_step_7 : decode b_M_step 7 = .ok (.iload 5, 2) := by decide +kernel
theorem d_M_step_9 : decode b_M_step 9 = .ok (.aload_n 0, 1) := by decide +kernel
theorem d_M_step_10 : decode b_M_step 10 = .ok (.getfield 34, 3) := by decide +kernel
theorem d_M_step_13 : decode b_M_step 13 = .ok (.if_icmp .ge 65, 3) := by decide +kernel
theorem d_M_step_16 : decode b_M_step 16 = .ok (.aload_n 0, 1) := by decide +kernel
theorem d_M_step_17 : decode b_M_step 17 = .ok (.getfield 20, 3) := by decide +kernel
theorem d_M_step_20 : decode b_M_step 20 = .ok (.iload 5, 2) := by decide +kernel
theorem d_M_step_22 : decode b_M_step 22 = .ok (.baload, 1) := by decide +kernel
theorem d_M_step_23 : decode b_M_step 23 = .ok (.ifCond .eq 47, 3) := by decide +kernel
theorem d_M_step_26 : decode b_M_step 26 = .ok (.aload_n 0, 1) := by decide +kernel
theorem d_M_step_27 : decode b_M_step 27 = .ok (.getfield 7, 3) := by decide +kernel
theorem d_M_step_30 : decode b_M_step 30 = .ok (.iload 5, 2) := by decide +kernel
theorem d_M_step_32 : decode b_M_step 32 = .ok (.iaload, 1) := by decide +kernel
theorem d_M_step_33 : decode b_M_step 33 = .ok (.iload_n 1, 1) := by decide +kernel
theorem d_M_step_34 : decode b_M_step 34 = .ok (.if_icmp .ne 36, 3) := by decide +kernel
theorem d_M_step_37 : decode b_M_step 37 = .ok (.aload_n 0, 1) := by decide +kernel
theorem d_M_step_38 : decode b_M_step 38 = .ok (.getfield 13, 3) := by decide +kernel
theorem d_M_step_41 : decode b_M_step 41 = .ok (.iload 5, 2) := by decide +kernel
theorem d_M_step_43 : decode b_M_step 43 = .ok (.iaload, 1) := by decide +kernel
theorem d_M_step_44 : decode b_M_step 44 = .ok (.iload_n 2, 1) := by decide +kernel
theorem d_M_step_45 : decode b_M_step 45 = .ok (.if_icmp .ne 25, 3) := by decide +kernel
theorem d_M_step_48 : decode b_M_step 48 = .ok (.aload_n 0, 1) := by decide +kernel
theorem d_M_step_49 : decode b_M_step 49 = .ok (.getfield 16, 3) := by decide +kernel
theorem d_M_step_52 : decode b_M_step 52 = .ok (.iload 5, 2) := by decide +kernel
theorem d_M_step_54 : decode b_M_step 54 = .ok (.laload, 1) := by decide +kernel
theorem d_M_step_55 : decode b_M_step 55 = .ok (.lload_n 3, 1) := by decide +kernel
theorem d_M_step_56 : decode b_M_step 56 = .ok (.lcmp, 1) := by decide +kernel
theorem d_M_step_57 : decode b_M_step 57 = .ok (.ifCond .ge 13, 3) := by decide +kernel
theorem d_M_step_60 : decode b_M_step 60 = .ok (.aload_n 0, 1) := by decide +kernel
theorem d_M_step_61 : decode b_M_step 61 = .ok (.getfield 16, 3) := by decide +kernel
theorem d_M_step_64 : decode b_M_step 64 = .ok (.iload 5, 2) := by decide +kernel
theorem d_M_step_66 : decode b_M_step 66 = .ok (.laload, 1) := by decide +kernel
theorem d_M_step_67 : decode b_M_step 67 = .ok (.goto 4, 3) := by decide +kernel
theorem d_M_step_70 : decode b_M_step 70 = .ok (.lload_n 3, 1) := by decide +kernel
theorem d_M_step_71 : decode b_M_step 71 = .ok (.lstore_n 3, 1) := by decide +kernel
theorem d_M_step_72 : decode b_M_step 72 = .ok (.iinc 5 1, 3) := by decide +kernel
theorem d_M_step_75 : decode b_M_step 75 = .ok (.goto (-68), 3) := by decide +kernel
theorem d_M_step_78 : decode b_M_step 78 = .ok (.lload_n 3, 1) := by decide +kernel
theorem d_M_step_79 : decode b_M_step 79 = .ok (.lreturn, 1) := by decide +kernel
theorem d_M_best_0 : decode b_M_best 0 = .ok (.iconst 0, 1) := by decide +kernel
theorem d_M_best_1 : decode b_M_best 1 = .ok (.istore_n 3, 1) := by decide +kernel
theorem d_M_best_2 : decode b_M_best 2 = .ok (.iload_n 3, 1) := by decide +kernel
theorem d_M_best_3 : decode b_M_best 3 = .ok (.bipush 20, 2) := by decide +kernel
theorem d_M_best_5 : decode b_M_best 5 = .ok (.if_icmp .ge 27, 3) := by decide +kernel
theorem d_M_best_8 : decode b_M_best 8 = .ok (.aload_n 0, 1) := by decide +kernel
theorem d_M_best_9 : decode b_M_best 9 = .ok (.getfield 27, 3) := by decide +kernel
theorem d_M_best_12 : decode b_M_best 12 = .ok (.iload_n 3, 1) := by decide +kernel
theorem d_M_best_13 : decode b_M_best 13 = .ok (.iload_n 3, 1) := by decide +kernel
theorem d_M_best_14 : decode b_M_best 14 = .ok (.iload_n 2, 1) := by decide +kernel
theorem d_M_best_15 : decode b_M_best 15 = .ok (.if_icmp .ne 7, 3) := by decide +kernel
theorem d_M_best_18 : decode b_M_best 18 = .ok (.lconst 0, 1) := by decide +kernel
theorem d_M_best_19 : decode b_M_best 19 = .ok (.goto 6, 3) := by decide +kernel
theorem d_M_best_22 : decode b_M_best 22 = .ok (.ldc2_w 37, 3) := by decide +kernel
theorem d_M_best_25 : decode b_M_best 25 = .ok (.lastore, 1) := by decide +kernel
theorem d_M_best_26 : decode b_M_best 26 = .ok (.iinc 3 1, 3) := by decide +kernel
theorem d_M_best_29 : decode b_M_best 29 = .ok (.goto (-27), 3) := by decide +kernel
theorem d_M_best_32 : decode b_M_best 32 = .ok (.iconst 1, 1) := by decide +kernel
theorem d_M_best_33 : decode b_M_best 33 = .ok (.istore_n 3, 1) := by decide +kernel
theorem d_M_best_34 : decode b_M_best 34 = .ok (.iload_n 3, 1) := by decide +kernel
theorem d_M_best_35 : decode b_M_best 35 = .ok (.bipush 20, 2) := by decide +kernel
theorem d_M_best_37 : decode b_M_best 37 = .ok (.if_icmp .gt 160, 3) := by decide +kernel
theorem d_M_best_40 : decode b_M_best 40 = .ok (.iconst 0, 1) := by decide +kernel
theorem d_M_best_41 : decode b_M_best 41 = .ok (.istore 4, 2) := by decide +kernel
theorem d_M_best_43 : decode b_M_best 43 = .ok (.iload 4, 2) := by decide +kernel
theorem d_M_best_45 : decode b_M_best 45 = .ok (.bipush 20, 2) := by decide +kernel
theorem d_M_best_47 : decode b_M_best 47 = .ok (.if_icmp .ge 24, 3) := by decide +kernel
theorem d_M_best_50 : decode b_M_best 50 = .ok (.aload_n 0, 1) := by decide +kernel
theorem d_M_best_51 : decode b_M_best 51 = .ok (.getfield 27, 3) := by decide +kernel
theorem d_M_best_54 : decode b_M_best 54 = .ok (.bipush 20, 2) := by decide +kernel
theorem d_M_best_56 : decode b_M_best 56 = .ok (.iload_n 3, 1) := by decide +kernel
theorem d_M_best_57 : decode b_M_best 57 = .ok (.imul, 1) := by decide +kernel
theorem d_M_best_58 : decode b_M_best 58 = .ok (.iload 4, 2) := by decide +kernel
theorem d_M_best_60 : decode b_M_best 60 = .ok (.iadd, 1) := by decide +kernel
theorem d_M_best_61 : decode b_M_best 61 = .ok (.ldc2_w 37, 3) := by decide +kernel
theorem d_M_best_64 : decode b_M_best 64 = .ok (.lastore, 1) := by decide +kernel
theorem d_M_best_65 : decode b_M_best 65 = .ok (.iinc 4 1, 3) := by decide +kernel
theorem d_M_best_68 : decode b_M_best 68 = .ok (.goto (-25), 3) := by decide +kernel
theorem d_M_best_71 : decode b_M_best 71 = .ok (.iconst 0, 1) := by decide +kernel
theorem d_M_best_72 : decode b_M_best 72 = .ok (.istore 4, 2) := by decide +kernel
theorem d_M_best_74 : decode b_M_best 74 = .ok (.iload 4, 2) := by decide +kernel
theorem d_M_best_76 : decode b_M_best 76 = .ok (.aload_n 0, 1) := by decide +kernel
theorem d_M_best_77 : decode b_M_best 77 = .ok (.getfield 34, 3) := by decide +kernel
theorem d_M_best_80 : decode b_M_best 80 = .ok (.if_icmp .ge 111, 3) := by decide +kernel
theorem d_M_best_83 : decode b_M_best 83 = .ok (.bipush 20, 2) := by decide +kernel
theorem d_M_best_85 : decode b_M_best 85 = .ok (.iload_n 3, 1) := by decide +kernel
theorem d_M_best_86 : decode b_M_best 86 = .ok (.iconst 1, 1) := by decide +kernel
theorem d_M_best_87 : decode b_M_best 87 = .ok (.isub, 1) := by decide +kernel
theorem d_M_best_88 : decode b_M_best 88 = .ok (.imul, 1) := by decide +kernel
theorem d_M_best_89 : decode b_M_best 89 = .ok (.aload_n 0, 1) := by decide +kernel
theorem d_M_best_90 : decode b_M_best 90 = .ok (.getfield 13, 3) := by decide +kernel
theorem d_M_best_93 : decode b_M_best 93 = .ok (.iload 4, 2) := by decide +kernel
theorem d_M_best_95 : decode b_M_best 95 = .ok (.iaload, 1) := by decide +kernel
theorem d_M_best_96 : decode b_M_best 96 = .ok (.iadd, 1) := by decide +kernel
theorem d_M_best_97 : decode b_M_best 97 = .ok (.istore 5, 2) := by decide +kernel
theorem d_M_best_99 : decode b_M_best 99 = .ok (.bipush 20, 2) := by decide +kernel
theorem d_M_best_101 : decode b_M_best 101 = .ok (.iload_n 3, 1) := by decide +kernel
theorem d_M_best_102 : decode b_M_best 102 = .ok (.imul, 1) := by decide +kernel
theorem d_M_best_103 : decode b_M_best 103 = .ok (.aload_n 0, 1) := by decide +kernel
theorem d_M_best_104 : decode b_M_best 104 = .ok (.getfield 7, 3) := by decide +kernel
theorem d_M_best_107 : decode b_M_best 107 = .ok (.iload 4, 2) := by decide +kernel
theorem d_M_best_109 : decode b_M_best 109 = .ok (.iaload, 1) := by decide +kernel
theorem d_M_best_110 : decode b_M_best 110 = .ok (.iadd, 1) := by decide +kernel
theorem d_M_best_111 : decode b_M_best 111 = .ok (.istore 6, 2) := by decide +kernel
theorem d_M_best_113 : decode b_M_best 113 = .ok (.aload_n 0, 1) := by decide +kernel
theorem d_M_best_114 : decode b_M_best 114 = .ok (.getfield 20, 3) := by decide +kernel
theorem d_M_best_117 : decode b_M_best 117 = .ok (.iload 4, 2) := by decide +kernel
theorem d_M_best_119 : decode b_M_best 119 = .ok (.baload, 1) := by decide +kernel
theorem d_M_best_120 : decode b_M_best 120 = .ok (.ifCond .eq 65, 3) := by decide +kernel
theorem d_M_best_123 : decode b_M_best 123 = .ok (.aload_n 0, 1) := by decide +kernel
theorem d_M_best_124 : decode b_M_best 124 = .ok (.getfield 27, 3) := by decide +kernel
theorem d_M_best_127 : decode b_M_best 127 = .ok (.iload 5, 2) := by decide +kernel
theorem d_M_best_129 : decode b_M_best 129 = .ok (.laload, 1) := by decide +kernel
theorem d_M_best_130 : decode b_M_best 130 = .ok (.ldc2_w 37, 3) := by decide +kernel
theorem d_M_best_133 : decode b_M_best 133 = .ok (.lcmp, 1) := by decide +kernel
theorem d_M_best_134 : decode b_M_best 134 = .ok (.ifCond .eq 51, 3) := by decide +kernel
theorem d_M_best_137 : decode b_M_best 137 = .ok (.aload_n 0, 1) := by decide +kernel
theorem d_M_best_138 : decode b_M_best 138 = .ok (.getfield 16, 3) := by decide +kernel
theorem d_M_best_141 : decode b_M_best 141 = .ok (.iload 4, 2) := by decide +kernel
theorem d_M_best_143 : decode b_M_best 143 = .ok (.laload, 1) := by decide +kernel
theorem d_M_best_144 : decode b_M_best 144 = .ok (.aload_n 0, 1) := by decide +kernel
theorem d_M_best_145 : decode b_M_best 145 = .ok (.getfield 27, 3) := by decide +kernel
theorem d_M_best_148 : decode b_M_best 148 = .ok (.iload 5, 2) := by decide +kernel
theorem d_M_best_150 : decode b_M_best 150 = .ok (.laload, 1) := by decide +kernel
theorem d_M_best_151 : decode b_M_best 151 = .ok (.ladd, 1) := by decide +kernel
theorem d_M_best_152 : decode b_M_best 152 = .ok (.aload_n 0, 1) := by decide +kernel
theorem d_M_best_153 : decode b_M_best 153 = .ok (.getfield 27, 3) := by decide +kernel
theorem d_M_best_156 : decode b_M_best 156 = .ok (.iload 6, 2) := by decide +kernel
theorem d_M_best_158 : decode b_M_best 158 = .ok (.laload, 1) := by decide +kernel
theorem d_M_best_159 : decode b_M_best 159 = .ok (.lcmp, 1) := by decide +kernel
theorem d_M_best_160 : decode b_M_best 160 = .ok (.ifCond .ge 25, 3) := by decide +kernel
theorem d_M_best_163 : decode b_M_best 163 = .ok (.aload_n 0, 1) := by decide +kernel
theorem d_M_best_164 : decode b_M_best 164 = .ok (.getfield 27, 3) := by decide +kernel
theorem d_M_best_167 : decode b_M_best 167 = .ok (.iload 6, 2) := by decide +kernel
theorem d_M_best_169 : decode b_M_best 169 = .ok (.aload_n 0, 1) := by decide +kernel
theorem d_M_best_170 : decode b_M_best 170 = .ok (.getfield 16, 3) := by decide +kernel
theorem d_M_best_173 : decode b_M_best 173 = .ok (.iload 4, 2) := by decide +kernel
theorem d_M_best_175 : decode b_M_best 175 = .ok (.laload, 1) := by decide +kernel
theorem d_M_best_176 : decode b_M_best 176 = .ok (.aload_n 0, 1) := by decide +kernel
theorem d_M_best_177 : decode b_M_best 177 = .ok (.getfield 27, 3) := by decide +kernel
theorem d_M_best_180 : decode b_M_best 180 = .ok (.iload 5, 2) := by decide +kernel
theorem d_M_best_182 : decode b_M_best 182 = .ok (.laload, 1) := by decide +kernel
theorem d_M_best_183 : decode b_M_best 183 = .ok (.ladd, 1) := by decide +kernel
theorem d_M_best_184 : decode b_M_best 184 = .ok (.lastore, 1) := by decide +kernel
theorem d_M_best_185 : decode b_M_best 185 = .ok (.iinc 4 1, 3) := by decide +kernel
theorem d_M_best_188 : decode b_M_best 188 = .ok (.goto (-114), 3) := by decide +kernel
theorem d_M_best_191 : decode b_M_best 191 = .ok (.iinc 3 1, 3) := by decide +kernel
theorem d_M_best_194 : decode b_M_best 194 = .ok (.goto (-160), 3) := by decide +kernel
theorem d_M_best_197 : decode b_M_best 197 = .ok (.aload_n 0, 1) := by decide +kernel
theorem d_M_best_198 : decode b_M_best 198 = .ok (.iconst (-1), 1) := by decide +kernel
theorem d_M_best_199 : decode b_M_best 199 = .ok (.putfield 39, 3) := by decide +kernel
theorem d_M_best_202 : decode b_M_best 202 = .ok (.aload_n 0, 1) := by decide +kernel
theorem d_M_best_203 : decode b_M_best 203 = .ok (.ldc2_w 37, 3) := by decide +kernel
theorem d_M_best_206 : decode b_M_best 206 = .ok (.putfield 42, 3) := by decide +kernel
theorem d_M_best_209 : decode b_M_best 209 = .ok (.iconst 0, 1) := by decide +kernel
theorem d_M_best_210 : decode b_M_best 210 = .ok (.istore_n 3, 1) := by decide +kernel
theorem d_M_best_211 : decode b_M_best 211 = .ok (.iload_n 3, 1) := by decide +kernel
theorem d_M_best_212 : decode b_M_best 212 = .ok (.bipush 20, 2) := by decide +kernel
theorem d_M_best_214 : decode b_M_best 214 = .ok (.if_icmp .gt 48, 3) := by decide +kernel
theorem d_M_best_217 : decode b_M_best 217 = .ok (.aload_n 0, 1) := by decide +kernel
theorem d_M_best_218 : decode b_M_best 218 = .ok (.getfield 27, 3) := by decide +kernel
theorem d_M_best_221 : decode b_M_best 221 = .ok (.bipush 20, 2) := by decide +kernel
theorem d_M_best_223 : decode b_M_best 223 = .ok (.iload_n 3, 1) := by decide +kernel
theorem d_M_best_224 : decode b_M_best 224 = .ok (.imul, 1) := by decide +kernel
theorem d_M_best_225 : decode b_M_best 225 = .ok (.iload_n 1, 1) := by decide +kernel
theorem d_M_best_226 : decode b_M_best 226 = .ok (.iadd, 1) := by decide +kernel
theorem d_M_best_227 : decode b_M_best 227 = .ok (.laload, 1) := by decide +kernel
theorem d_M_best_228 : decode b_M_best 228 = .ok (.aload_n 0, 1) := by decide +kernel
theorem d_M_best_229 : decode b_M_best 229 = .ok (.getfield 42, 3) := by decide +kernel
theorem d_M_best_232 : decode b_M_best 232 = .ok (.lcmp, 1) := by decide +kernel
theorem d_M_best_233 : decode b_M_best 233 = .ok (.ifCond .ge 23, 3) := by decide +kernel
theorem d_M_best_236 : decode b_M_best 236 = .ok (.aload_n 0, 1) := by decide +kernel
theorem d_M_best_237 : decode b_M_best 237 = .ok (.aload_n 0, 1) := by decide +kernel
theorem d_M_best_238 : decode b_M_best 238 = .ok (.getfield 27, 3) := by decide +kernel
theorem d_M_best_241 : decode b_M_best 241 = .ok (.bipush 20, 2) := by decide +kernel
theorem d_M_best_243 : decode b_M_best 243 = .ok (.iload_n 3, 1) := by decide +kernel
theorem d_M_best_244 : decode b_M_best 244 = .ok (.imul, 1) := by decide +kernel
theorem d_M_best_245 : decode b_M_best 245 = .ok (.iload_n 1, 1) := by decide +kernel
theorem d_M_best_246 : decode b_M_best 246 = .ok (.iadd, 1) := by decide +kernel
theorem d_M_best_247 : decode b_M_best 247 = .ok (.laload, 1) := by decide +kernel
theorem d_M_best_248 : decode b_M_best 248 = .ok (.putfield 42, 3) := by decide +kernel
theorem d_M_best_251 : decode b_M_best 251 = .ok (.aload_n 0, 1) := by decide +kernel
theorem d_M_best_252 : decode b_M_best 252 = .ok (.iload_n 3, 1) := by decide +kernel
theorem d_M_best_253 : decode b_M_best 253 = .ok (.putfield 39, 3) := by decide +kernel
theorem d_M_best_256 : decode b_M_best 256 = .ok (.iinc 3 1, 3) := by decide +kernel
theorem d_M_best_259 : decode b_M_best 259 = .ok (.goto (-48), 3) := by decide +kernel
theorem d_M_best_262 : decode b_M_best 262 = .ok (.aload_n 0, 1) := by decide +kernel
theorem d_M_best_263 : decode b_M_best 263 = .ok (.getfield 39, 3) := by decide +kernel
theorem d_M_best_266 : decode b_M_best 266 = .ok (.ifCond .lt 7, 3) := by decide +kernel
theorem d_M_best_269 : decode b_M_best 269 = .ok (.iconst 1, 1) := by decide +kernel
theorem d_M_best_270 : decode b_M_best 270 = .ok (.goto 4, 3) := by decide +kernel
theorem d_M_best_273 : decode b_M_best 273 = .ok (.iconst 0, 1) := by decide +kernel
theorem d_M_best_274 : decode b_M_best 274 = .ok (.ireturn, 1) := by decide +kernel
theorem d_M_walk_0 : decode b_M_walk 0 = .ok (.iload_n 1, 1) := by decide +kernel
theorem d_M_walk_1 : decode b_M_walk 1 = .ok (.istore_n 2, 1) := by decide +kernel
theorem d_M_walk_2 : decode b_M_walk 2 = .ok (.aload_n 0, 1) := by decide +kernel
theorem d_M_walk_3 : decode b_M_walk 3 = .ok (.getfield 39, 3) := by decide +kernel
theorem d_M_walk_6 : decode b_M_walk 6 = .ok (.istore_n 3, 1) := by decide +kernel
theorem d_M_walk_7 : decode b_M_walk 7 = .ok (.iload_n 3, 1) := by decide +kernel
theorem d_M_walk_8 : decode b_M_walk 8 = .ok (.ifCond .le 114, 3) := by decide +kernel
theorem d_M_walk_11 : decode b_M_walk 11 = .ok (.iconst 0, 1) := by decide +kernel
theorem d_M_walk_12 : decode b_M_walk 12 = .ok (.istore 4, 2) := by decide +kernel
theorem d_M_walk_14 : decode b_M_walk 14 = .ok (.aload_n 0, 1) := by decide +kernel
theorem d_M_walk_15 : decode b_M_walk 15 = .ok (.iload_n 2, 1) := by decide +kernel
theorem d_M_walk_16 : decode b_M_walk 16 = .ok (.iload 4, 2) := by decide +kernel
theorem d_M_walk_18 : decode b_M_walk 18 = .ok (.invokevirtual 46, 3) := by decide +kernel
theorem d_M_walk_21 : decode b_M_walk 21 = .ok (.ldc2_w 37, 3) := by decide +kernel
theorem d_M_walk_24 : decode b_M_walk 24 = .ok (.lcmp, 1) := by decide +kernel
theorem d_M_walk_25 : decode b_M_walk 25 = .ok (.ifCond .eq 61, 3) := by decide +kernel
theorem d_M_walk_28 : decode b_M_walk 28 = .ok (.aload_n 0, 1) := by decide +kernel
theorem d_M_walk_29 : decode b_M_walk 29 = .ok (.getfield 27, 3) := by decide +kernel
theorem d_M_walk_32 : decode b_M_walk 32 = .ok (.bipush 20, 2) := by decide +kernel
theorem d_M_walk_34 : decode b_M_walk 34 = .ok (.iload_n 3, 1) := by decide +kernel
theorem d_M_walk_35 : decode b_M_walk 35 = .ok (.iconst 1, 1) := by decide +kernel
theorem d_M_walk_36 : decode b_M_walk 36 = .ok (.isub, 1) := by decide +kernel
theorem d_M_walk_37 : decode b_M_walk 37 = .ok (.imul, 1) := by decide +kernel
theorem d_M_walk_38 : decode b_M_walk 38 = .ok (.iload 4, 2) := by decide +kernel
theorem d_M_walk_40 : decode b_M_walk 40 = .ok (.iadd, 1) := by decide +kernel
theorem d_M_walk_41 : decode b_M_walk 41 = .ok (.laload, 1) := by decide +kernel
theorem d_M_walk_42 : decode b_M_walk 42 = .ok (.ldc2_w 37, 3) := by decide +kernel
theorem d_M_walk_45 : decode b_M_walk 45 = .ok (.lcmp, 1) := by decide +kernel
theorem d_M_walk_46 : decode b_M_walk 46 = .ok (.ifCond .eq 40, 3) := by decide +kernel
theorem d_M_walk_49 : decode b_M_walk 49 = .ok (.aload_n 0, 1) := by decide +kernel
theorem d_M_walk_50 : decode b_M_walk 50 = .ok (.iload_n 2, 1) := by decide +kernel
theorem d_M_walk_51 : decode b_M_walk 51 = .ok (.iload 4, 2) := by decide +kernel
theorem d_M_walk_53 : decode b_M_walk 53 = .ok (.invokevirtual 46, 3) := by decide +kernel
theorem d_M_walk_56 : decode b_M_walk 56 = .ok (.aload_n 0, 1) := by decide +kernel
theorem d_M_walk_57 : decode b_M_walk 57 = .ok (.getfield 27, 3) := by decide +kernel
theorem d_M_walk_60 : decode b_M_walk 60 = .ok (.bipush 20, 2) := by decide +kernel
theorem d_M_walk_62 : decode b_M_walk 62 = .ok (.iload_n 3, 1) := by decide +kernel
theorem d_M_walk_63 : decode b_M_walk 63 = .ok (.iconst 1, 1) := by decide +kernel
theorem d_M_walk_64 : decode b_M_walk 64 = .ok (.isub, 1) := by decide +kernel
theorem d_M_walk_65 : decode b_M_walk 65 = .ok (.imul, 1) := by decide +kernel
theorem d_M_walk_66 : decode b_M_walk 66 = .ok (.iload 4, 2) := by decide +kernel
theorem d_M_walk_68 : decode b_M_walk 68 = .ok (.iadd, 1) := by decide +kernel
theorem d_M_walk_69 : decode b_M_walk 69 = .ok (.laload, 1) := by decide +kernel
theorem d_M_walk_70 : decode b_M_walk 70 = .ok (.ladd, 1) := by decide +kernel
theorem d_M_walk_71 : decode b_M_walk 71 = .ok (.aload_n 0, 1) := by decide +kernel
theorem d_M_walk_72 : decode b_M_walk 72 = .ok (.getfield 27, 3) := by decide +kernel
theorem d_M_walk_75 : decode b_M_walk 75 = .ok (.bipush 20, 2) := by decide +kernel
theorem d_M_walk_77 : decode b_M_walk 77 = .ok (.iload_n 3, 1) := by decide +kernel
theorem d_M_walk_78 : decode b_M_walk 78 = .ok (.imul, 1) := by decide +kernel
theorem d_M_walk_79 : decode b_M_walk 79 = .ok (.iload_n 2, 1) := by decide +kernel
theorem d_M_walk_80 : decode b_M_walk 80 = .ok (.iadd, 1) := by decide +kernel
theorem d_M_walk_81 : decode b_M_walk 81 = .ok (.laload, 1) := by decide +kernel
theorem d_M_walk_82 : decode b_M_walk 82 = .ok (.lcmp, 1) := by decide +kernel
theorem d_M_walk_83 : decode b_M_walk 83 = .ok (.ifCond .eq 9, 3) := by decide +kernel
theorem d_M_walk_86 : decode b_M_walk 86 = .ok (.iinc 4 1, 3) := by decide +kernel
theorem d_M_walk_89 : decode b_M_walk 89 = .ok (.goto (-75), 3) := by decide +kernel
theorem d_M_walk_92 : decode b_M_walk 92 = .ok (.aload_n 0, 1) := by decide +kernel
theorem d_M_walk_93 : decode b_M_walk 93 = .ok (.getfield 24, 3) := by decide +kernel
theorem d_M_walk_96 : decode b_M_walk 96 = .ok (.aload_n 0, 1) := by decide +kernel
theorem d_M_walk_97 : decode b_M_walk 97 = .ok (.getfield 50, 3) := by decide +kernel
theorem d_M_walk_100 : decode b_M_walk 100 = .ok (.iload 4, 2) := by decide +kernel
theorem d_M_walk_102 : decode b_M_walk 102 = .ok (.iastore, 1) := by decide +kernel
theorem d_M_walk_103 : decode b_M_walk 103 = .ok (.aload_n 0, 1) := by decide +kernel
theorem d_M_walk_104 : decode b_M_walk 104 = .ok (.dup, 1) := by decide +kernel
theorem d_M_walk_105 : decode b_M_walk 105 = .ok (.getfield 50, 3) := by decide +kernel
theorem d_M_walk_108 : decode b_M_walk 108 = .ok (.iconst 1, 1) := by decide +kernel
theorem d_M_walk_109 : decode b_M_walk 109 = .ok (.iadd, 1) := by decide +kernel
theorem d_M_walk_110 : decode b_M_walk 110 = .ok (.putfield 50, 3) := by decide +kernel
theorem d_M_walk_113 : decode b_M_walk 113 = .ok (.iload 4, 2) := by decide +kernel
theorem d_M_walk_115 : decode b_M_walk 115 = .ok (.istore_n 2, 1) := by decide +kernel
theorem d_M_walk_116 : decode b_M_walk 116 = .ok (.iinc 3 (-1), 3) := by decide +kernel
theorem d_M_walk_119 : decode b_M_walk 119 = .ok (.goto (-112), 3) := by decide +kernel
theorem d_M_walk_122 : decode b_M_walk 122 = .ok (.return_, 1) := by decide +kernel
theorem d_M_isBad_0 : decode b_M_isBad 0 = .ok (.aload_n 0, 1) := by decide +kernel
theorem d_M_isBad_1 : decode b_M_isBad 1 = .ok (.iload_n 2, 1) := by decide +kernel
theorem d_M_isBad_2 : decode b_M_isBad 2 = .ok (.iload_n 1, 1) := by decide +kernel
theorem d_M_isBad_3 : decode b_M_isBad 3 = .ok (.invokevirtual 53, 3) := by decide +kernel
theorem d_M_isBad_6 : decode b_M_isBad 6 = .ok (.ifCond .eq 14, 3) := by decide +kernel
theorem d_M_isBad_9 : decode b_M_isBad 9 = .ok (.lload_n 3, 1) := by decide +kernel
theorem d_M_isBad_10 : decode b_M_isBad 10 = .ok (.aload_n 0, 1) := by decide +kernel
theorem d_M_isBad_11 : decode b_M_isBad 11 = .ok (.getfield 42, 3) := by decide +kernel
theorem d_M_isBad_14 : decode b_M_isBad 14 = .ok (.ladd, 1) := by decide +kernel
theorem d_M_isBad_15 : decode b_M_isBad 15 = .ok (.lconst 0, 1) := by decide +kernel
theorem d_M_isBad_16 : decode b_M_isBad 16 = .ok (.lcmp, 1) := by decide +kernel
theorem d_M_isBad_17 : decode b_M_isBad 17 = .ok (.ifCond .lt 5, 3) := by decide +kernel
theorem d_M_isBad_20 : decode b_M_isBad 20 = .ok (.iconst 0, 1) := by decide +kernel
theorem d_M_isBad_21 : decode b_M_isBad 21 = .ok (.ireturn, 1) := by decide +kernel
theorem d_M_isBad_22 : decode b_M_isBad 22 = .ok (.aload_n 0, 1) := by decide +kernel
theorem d_M_isBad_23 : decode b_M_isBad 23 = .ok (.getfield 24, 3) := by decide +kernel
theorem d_M_isBad_26 : decode b_M_isBad 26 = .ok (.iconst 0, 1) := by decide +kernel
theorem d_M_isBad_27 : decode b_M_isBad 27 = .ok (.iload_n 1, 1) := by decide +kernel
theorem d_M_isBad_28 : decode b_M_isBad 28 = .ok (.iastore, 1) := by decide +kernel
theorem d_M_isBad_29 : decode b_M_isBad 29 = .ok (.aload_n 0, 1) := by decide +kernel
theorem d_M_isBad_30 : decode b_M_isBad 30 = .ok (.getfield 24, 3) := by decide +kernel
theorem d_M_isBad_33 : decode b_M_isBad 33 = .ok (.iconst 1, 1) := by decide +kernel
theorem d_M_isBad_34 : decode b_M_isBad 34 = .ok (.iload_n 2, 1) := by decide +kernel
theorem d_M_isBad_35 : decode b_M_isBad 35 = .ok (.iastore, 1) := by decide +kernel
theorem d_M_isBad_36 : decode b_M_isBad 36 = .ok (.aload_n 0, 1) := by decide +kernel
theorem d_M_isBad_37 : decode b_M_isBad 37 = .ok (.iconst 2, 1) := by decide +kernel
theorem d_M_isBad_38 : decode b_M_isBad 38 = .ok (.putfield 50, 3) := by decide +kernel
theorem d_M_isBad_41 : decode b_M_isBad 41 = .ok (.aload_n 0, 1) := by decide +kernel
theorem d_M_isBad_42 : decode b_M_isBad 42 = .ok (.iload_n 2, 1) := by decide +kernel
theorem d_M_isBad_43 : decode b_M_isBad 43 = .ok (.invokevirtual 57, 3) := by decide +kernel
theorem d_M_isBad_46 : decode b_M_isBad 46 = .ok (.aload_n 0, 1) := by decide +kernel
theorem d_M_isBad_47 : decode b_M_isBad 47 = .ok (.lload_n 3, 1) := by decide +kernel
theorem d_M_isBad_48 : decode b_M_isBad 48 = .ok (.aload_n 0, 1) := by decide +kernel
theorem d_M_isBad_49 : decode b_M_isBad 49 = .ok (.getfield 42, 3) := by decide +kernel
theorem d_M_isBad_52 : decode b_M_isBad 52 = .ok (.ladd, 1) := by decide +kernel
theorem d_M_isBad_53 : decode b_M_isBad 53 = .ok (.putfield 61, 3) := by decide +kernel
theorem d_M_isBad_56 : decode b_M_isBad 56 = .ok (.iconst 1, 1) := by decide +kernel
theorem d_M_isBad_57 : decode b_M_isBad 57 = .ok (.ireturn, 1) := by decide +kernel
end
section
theorem d_M_add_0 : decode b_M_add 0 = .ok (.aload_n 0, 1) := by decide +kernel
theorem d_M_add_1 : decode b_M_add 1 = .ok (.iconst 0, 1) := by decide +kernel
theorem d_M_add_2 : decode b_M_add 2 = .ok (.putfield 30, 3) := by decide +kernel
theorem d_M_add_5 : decode b_M_add 5 = .ok (.iload_n 1, 1) := by decide +kernel
theorem d_M_add_6 : decode b_M_add 6 = .ok (.invokestatic 64, 3) := by decide +kernel
theorem d_M_add_9 : decode b_M_add 9 = .ok (.ifCond .eq 40, 3) := by decide +kernel
theorem d_M_add_12 : decode b_M_add 12 = .ok (.iload_n 2, 1) := by decide +kernel
theorem d_M_add_13 : decode b_M_add 13 = .ok (.invokestatic 64, 3) := by decide +kernel
theorem d_M_add_16 : decode b_M_add 16 = .ok (.ifCond .eq 33, 3) := by decide +kernel
theorem d_M_add_19 : decode b_M_add 19 = .ok (.iload_n 1, 1) := by decide +kernel
theorem d_M_add_20 : decode b_M_add 20 = .ok (.iload_n 2, 1) := by decide +kernel
theorem d_M_add_21 : decode b_M_add 21 = .ok (.if_icmp .eq 28, 3) := by decide +kernel
theorem d_M_add_24 : decode b_M_add 24 = .ok (.lload_n 3, 1) := by decide +kernel
theorem d_M_add_25 : decode b_M_add 25 = .ok (.ldc2_w 68, 3) := by decide +kernel
theorem d_M_add_28 : decode b_M_add 28 = .ok (.lcmp, 1) := by decide +kernel
theorem d_M_add_29 : decode b_M_add 29 = .ok (.ifCond .lt 20, 3) := by decide +kernel
theorem d_M_add_32 : decode b_M_add 32 = .ok (.lload_n 3, 1) := by decide +kernel
theorem d_M_add_33 : decode b_M_add 33 = .ok (.ldc2_w 70, 3) := by decide +kernel
theorem d_M_add_36 : decode b_M_add 36 = .ok (.lcmp, 1) := by decide +kernel
theorem d_M_add_37 : decode b_M_add 37 = .ok (.ifCond .gt 12, 3) := by decide +kernel
theorem d_M_add_40 : decode b_M_add 40 = .ok (.aload_n 0, 1) := by decide +kernel
theorem d_M_add_41 : decode b_M_add 41 = .ok (.getfield 34, 3) := by decide +kernel
theorem d_M_add_44 : decode b_M_add 44 = .ok (.bipush 120, 2) := by decide +kernel
theorem d_M_add_46 : decode b_M_add 46 = .ok (.if_icmp .ne 5, 3) := by decide +kernel
theorem d_M_add_49 : decode b_M_add 49 = .ok (.iconst (-1), 1) := by decide +kernel
theorem d_M_add_50 : decode b_M_add 50 = .ok (.ireturn, 1) := by decide +kernel
theorem d_M_add_51 : decode b_M_add 51 = .ok (.aload_n 0, 1) := by decide +kernel
theorem d_M_add_52 : decode b_M_add 52 = .ok (.iload_n 1, 1) := by decide +kernel
theorem d_M_add_53 : decode b_M_add 53 = .ok (.iload_n 2, 1) := by decide +kernel
theorem d_M_add_54 : decode b_M_add 54 = .ok (.lload_n 3, 1) := by decide +kernel
theorem d_M_add_55 : decode b_M_add 55 = .ok (.invokevirtual 72, 3) := by decide +kernel
theorem d_M_add_58 : decode b_M_add 58 = .ok (.ifCond .eq 6, 3) := by decide +kernel
theorem d_M_add_61 : decode b_M_add 61 = .ok (.bipush (-2), 2) := by decide +kernel
theorem d_M_add_63 : decode b_M_add 63 = .ok (.ireturn, 1) := by decide +kernel
theorem d_M_add_64 : decode b_M_add 64 = .ok (.aload_n 0, 1) := by decide +kernel
theorem d_M_add_65 : decode b_M_add 65 = .ok (.getfield 7, 3) := by decide +kernel
theorem d_M_add_68 : decode b_M_add 68 = .ok (.aload_n 0, 1) := by decide +kernel
theorem d_M_add_69 : decode b_M_add 69 = .ok (.getfield 34, 3) := by decide +kernel
theorem d_M_add_72 : decode b_M_add 72 = .ok (.iload_n 1, 1) := by decide +kernel
theorem d_M_add_73 : decode b_M_add 73 = .ok (.iastore, 1) := by decide +kernel
theorem d_M_add_74 : decode b_M_add 74 = .ok (.aload_n 0, 1) := by decide +kernel
theorem d_M_add_75 : decode b_M_add 75 = .ok (.getfield 13, 3) := by decide +kernel
theorem d_M_add_78 : decode b_M_add 78 = .ok (.aload_n 0, 1) := by decide +kernel
theorem d_M_add_79 : decode b_M_add 79 = .ok (.getfield 34, 3) := by decide +kernel
theorem d_M_add_82 : decode b_M_add 82 = .ok (.iload_n 2, 1) := by decide +kernel
theorem d_M_add_83 : decode b_M_add 83 = .ok (.iastore, 1) := by decide +kernel
theorem d_M_add_84 : decode b_M_add 84 = .ok (.aload_n 0, 1) := by decide +kernel
theorem d_M_add_85 : decode b_M_add 85 = .ok (.getfield 16, 3) := by decide +kernel
theorem d_M_add_88 : decode b_M_add 88 = .ok (.aload_n 0, 1) := by decide +kernel
theorem d_M_add_89 : decode b_M_add 89 = .ok (.getfield 34, 3) := by decide +kernel
theorem d_M_add_92 : decode b_M_add 92 = .ok (.lload_n 3, 1) := by decide +kernel
theorem d_M_add_93 : decode b_M_add 93 = .ok (.lastore, 1) := by decide +kernel
theorem d_M_add_94 : decode b_M_add 94 = .ok (.aload_n 0, 1) := by decide +kernel
theorem d_M_add_95 : decode b_M_add 95 = .ok (.getfield 20, 3) := by decide +kernel
theorem d_M_add_98 : decode b_M_add 98 = .ok (.aload_n 0, 1) := by decide +kernel
theorem d_M_add_99 : decode b_M_add 99 = .ok (.getfield 34, 3) := by decide +kernel
theorem d_M_add_102 : decode b_M_add 102 = .ok (.iconst 1, 1) := by decide +kernel
theorem d_M_add_103 : decode b_M_add 103 = .ok (.bastore, 1) := by decide +kernel
theorem d_M_add_104 : decode b_M_add 104 = .ok (.aload_n 0, 1) := by decide +kernel
theorem d_M_add_105 : decode b_M_add 105 = .ok (.dup, 1) := by decide +kernel
theorem d_M_add_106 : decode b_M_add 106 = .ok (.getfield 34, 3) := by decide +kernel
theorem d_M_add_109 : decode b_M_add 109 = .ok (.iconst 1, 1) := by decide +kernel
theorem d_M_add_110 : decode b_M_add 110 = .ok (.iadd, 1) := by decide +kernel
theorem d_M_add_111 : decode b_M_add 111 = .ok (.putfield 34, 3) := by decide +kernel
theorem d_M_add_114 : decode b_M_add 114 = .ok (.aload_n 0, 1) := by decide +kernel
theorem d_M_add_115 : decode b_M_add 115 = .ok (.getfield 34, 3) := by decide +kernel
theorem d_M_add_118 : decode b_M_add 118 = .ok (.iconst 1, 1) := by decide +kernel
theorem d_M_add_119 : decode b_M_add 119 = .ok (.isub, 1) := by decide +kernel
theorem d_M_add_120 : decode b_M_add 120 = .ok (.ireturn, 1) := by decide +kernel
theorem d_M_off_0 : decode b_M_off 0 = .ok (.aload_n 0, 1) := by decide +kernel
theorem d_M_off_1 : decode b_M_off 1 = .ok (.iconst 0, 1) := by decide +kernel
theorem d_M_off_2 : decode b_M_off 2 = .ok (.putfield 30, 3) := by decide +kernel
theorem d_M_off_5 : decode b_M_off 5 = .ok (.aload_n 0, 1) := by decide +kernel
theorem d_M_off_6 : decode b_M_off 6 = .ok (.iload_n 1, 1) := by decide +kernel
theorem d_M_off_7 : decode b_M_off 7 = .ok (.invokevirtual 76, 3) := by decide +kernel
theorem d_M_off_10 : decode b_M_off 10 = .ok (.ifCond .eq 12, 3) := by decide +kernel
theorem d_M_off_13 : decode b_M_off 13 = .ok (.aload_n 0, 1) := by decide +kernel
theorem d_M_off_14 : decode b_M_off 14 = .ok (.getfield 20, 3) := by decide +kernel
theorem d_M_off_17 : decode b_M_off 17 = .ok (.iload_n 1, 1) := by decide +kernel
theorem d_M_off_18 : decode b_M_off 18 = .ok (.baload, 1) := by decide +kernel
theorem d_M_off_19 : decode b_M_off 19 = .ok (.ifCond .ne 5, 3) := by decide +kernel
theorem d_M_off_22 : decode b_M_off 22 = .ok (.iconst 0, 1) := by decide +kernel
theorem d_M_off_23 : decode b_M_off 23 = .ok (.ireturn, 1) := by decide +kernel
theorem d_M_off_24 : decode b_M_off 24 = .ok (.aload_n 0, 1) := by decide +kernel
theorem d_M_off_25 : decode b_M_off 25 = .ok (.getfield 20, 3) := by decide +kernel
theorem d_M_off_28 : decode b_M_off 28 = .ok (.iload_n 1, 1) := by decide +kernel
theorem d_M_off_29 : decode b_M_off 29 = .ok (.iconst 0, 1) := by decide +kernel
theorem d_M_off_30 : decode b_M_off 30 = .ok (.bastore, 1) := by decide +kernel
theorem d_M_off_31 : decode b_M_off 31 = .ok (.iconst 1, 1) := by decide +kernel
theorem d_M_off_32 : decode b_M_off 32 = .ok (.ireturn, 1) := by decide +kernel
theorem d_M_on_0 : decode b_M_on 0 = .ok (.aload_n 0, 1) := by decide +kernel
theorem d_M_on_1 : decode b_M_on 1 = .ok (.iconst 0, 1) := by decide +kernel
theorem d_M_on_2 : decode b_M_on 2 = .ok (.putfield 30, 3) := by decide +kernel
theorem d_M_on_5 : decode b_M_on 5 = .ok (.aload_n 0, 1) := by decide +kernel
theorem d_M_on_6 : decode b_M_on 6 = .ok (.iload_n 1, 1) := by decide +kernel
theorem d_M_on_7 : decode b_M_on 7 = .ok (.invokevirtual 76, 3) := by decide +kernel
theorem d_M_on_10 : decode b_M_on 10 = .ok (.ifCond .eq 12, 3) := by decide +kernel
theorem d_M_on_13 : decode b_M_on 13 = .ok (.aload_n 0, 1) := by decide +kernel
theorem d_M_on_14 : decode b_M_on 14 = .ok (.getfield 20, 3) := by decide +kernel
theorem d_M_on_17 : decode b_M_on 17 = .ok (.iload_n 1, 1) := by decide +kernel
theorem d_M_on_18 : decode b_M_on 18 = .ok (.baload, 1) := by decide +kernel
theorem d_M_on_19 : decode b_M_on 19 = .ok (.ifCond .eq 5, 3) := by decide +kernel
theorem d_M_on_22 : decode b_M_on 22 = .ok (.iconst (-1), 1) := by decide +kernel
theorem d_M_on_23 : decode b_M_on 23 = .ok (.ireturn, 1) := by decide +kernel
theorem d_M_on_24 : decode b_M_on 24 = .ok (.aload_n 0, 1) := by decide +kernel
theorem d_M_on_25 : decode b_M_on 25 = .ok (.aload_n 0, 1) := by decide +kernel
theorem d_M_on_26 : decode b_M_on 26 = .ok (.getfield 7, 3) := by decide +kernel
theorem d_M_on_29 : decode b_M_on 29 = .ok (.iload_n 1, 1) := by decide +kernel
theorem d_M_on_30 : decode b_M_on 30 = .ok (.iaload, 1) := by decide +kernel
theorem d_M_on_31 : decode b_M_on 31 = .ok (.aload_n 0, 1) := by decide +kernel
theorem d_M_on_32 : decode b_M_on 32 = .ok (.getfield 13, 3) := by decide +kernel
theorem d_M_on_35 : decode b_M_on 35 = .ok (.iload_n 1, 1) := by decide +kernel
theorem d_M_on_36 : decode b_M_on 36 = .ok (.iaload, 1) := by decide +kernel
theorem d_M_on_37 : decode b_M_on 37 = .ok (.aload_n 0, 1) := by decide +kernel
theorem d_M_on_38 : decode b_M_on 38 = .ok (.getfield 16, 3) := by decide +kernel
theorem d_M_on_41 : decode b_M_on 41 = .ok (.iload_n 1, 1) := by decide +kernel
theorem d_M_on_42 : decode b_M_on 42 = .ok (.laload, 1) := by decide +kernel
theorem d_M_on_43 : decode b_M_on 43 = .ok (.invokevirtual 72, 3) := by decide +kernel
theorem d_M_on_46 : decode b_M_on 46 = .ok (.ifCond .eq 6, 3) := by decide +kernel
theorem d_M_on_49 : decode b_M_on 49 = .ok (.bipush (-2), 2) := by decide +kernel
theorem d_M_on_51 : decode b_M_on 51 = .ok (.ireturn, 1) := by decide +kernel
theorem d_M_on_52 : decode b_M_on 52 = .ok (.aload_n 0, 1) := by decide +kernel
theorem d_M_on_53 : decode b_M_on 53 = .ok (.getfield 20, 3) := by decide +kernel
theorem d_M_on_56 : decode b_M_on 56 = .ok (.iload_n 1, 1) := by decide +kernel
theorem d_M_on_57 : decode b_M_on 57 = .ok (.iconst 1, 1) := by decide +kernel
theorem d_M_on_58 : decode b_M_on 58 = .ok (.bastore, 1) := by decide +kernel
theorem d_M_on_59 : decode b_M_on 59 = .ok (.iload_n 1, 1) := by decide +kernel
theorem d_M_on_60 : decode b_M_on 60 = .ok (.ireturn, 1) := by decide +kernel
theorem d_M_bound_0 : decode b_M_bound 0 = .ok (.aload_n 0, 1) := by decide +kernel
theorem d_M_bound_1 : decode b_M_bound 1 = .ok (.iload_n 1, 1) := by decide +kernel
theorem d_M_bound_2 : decode b_M_bound 2 = .ok (.invokestatic 64, 3) := by decide +kernel
theorem d_M_bound_5 : decode b_M_bound 5 = .ok (.ifCond .eq 14, 3) := by decide +kernel
theorem d_M_bound_8 : decode b_M_bound 8 = .ok (.iload_n 2, 1) := by decide +kernel
theorem d_M_bound_9 : decode b_M_bound 9 = .ok (.invokestatic 64, 3) := by decide +kernel
theorem d_M_bound_12 : decode b_M_bound 12 = .ok (.ifCond .eq 7, 3) := by decide +kernel
theorem d_M_bound_15 : decode b_M_bound 15 = .ok (.iconst 0, 1) := by decide +kernel
theorem d_M_bound_16 : decode b_M_bound 16 = .ok (.goto 4, 3) := by decide +kernel
theorem d_M_bound_19 : decode b_M_bound 19 = .ok (.iconst 1, 1) := by decide +kernel
theorem d_M_bound_20 : decode b_M_bound 20 = .ok (.putfield 30, 3) := by decide +kernel
theorem d_M_bound_23 : decode b_M_bound 23 = .ok (.aload_n 0, 1) := by decide +kernel
theorem d_M_bound_24 : decode b_M_bound 24 = .ok (.getfield 30, 3) := by decide +kernel
theorem d_M_bound_27 : decode b_M_bound 27 = .ok (.ifCond .le 5, 3) := by decide +kernel
theorem d_M_bound_30 : decode b_M_bound 30 = .ok (.lconst 0, 1) := by decide +kernel
theorem d_M_bound_31 : decode b_M_bound 31 = .ok (.lreturn, 1) := by decide +kernel
theorem d_M_bound_32 : decode b_M_bound 32 = .ok (.aload_n 0, 1) := by decide +kernel
theorem d_M_bound_33 : decode b_M_bound 33 = .ok (.iload_n 1, 1) := by decide +kernel
theorem d_M_bound_34 : decode b_M_bound 34 = .ok (.iload_n 2, 1) := by decide +kernel
theorem d_M_bound_35 : decode b_M_bound 35 = .ok (.invokevirtual 53, 3) := by decide +kernel
theorem d_M_bound_38 : decode b_M_bound 38 = .ok (.ifCond .eq 10, 3) := by decide +kernel
theorem d_M_bound_41 : decode b_M_bound 41 = .ok (.aload_n 0, 1) := by decide +kernel
theorem d_M_bound_42 : decode b_M_bound 42 = .ok (.getfield 42, 3) := by decide +kernel
theorem d_M_bound_45 : decode b_M_bound 45 = .ok (.goto 6, 3) := by decide +kernel
theorem d_M_bound_48 : decode b_M_bound 48 = .ok (.ldc2_w 37, 3) := by decide +kernel
theorem d_M_bound_51 : decode b_M_bound 51 = .ok (.lreturn, 1) := by decide +kernel
theorem d_M_steps_0 : decode b_M_steps 0 = .ok (.aload_n 0, 1) := by decide +kernel
theorem d_M_steps_1 : decode b_M_steps 1 = .ok (.iconst 0, 1) := by decide +kernel
theorem d_M_steps_2 : decode b_M_steps 2 = .ok (.putfield 30, 3) := by decide +kernel
theorem d_M_steps_5 : decode b_M_steps 5 = .ok (.iload_n 1, 1) := by decide +kernel
theorem d_M_steps_6 : decode b_M_steps 6 = .ok (.invokestatic 64, 3) := by decide +kernel
theorem d_M_steps_9 : decode b_M_steps 9 = .ok (.ifCond .eq 26, 3) := by decide +kernel
theorem d_M_steps_12 : decode b_M_steps 12 = .ok (.iload_n 2, 1) := by decide +kernel
theorem d_M_steps_13 : decode b_M_steps 13 = .ok (.invokestatic 64, 3) := by decide +kernel
theorem d_M_steps_16 : decode b_M_steps 16 = .ok (.ifCond .eq 19, 3) := by decide +kernel
theorem d_M_steps_19 : decode b_M_steps 19 = .ok (.aload_n 0, 1) := by decide +kernel
theorem d_M_steps_20 : decode b_M_steps 20 = .ok (.iload_n 1, 1) := by decide +kernel
theorem d_M_steps_21 : decode b_M_steps 21 = .ok (.iload_n 2, 1) := by decide +kernel
theorem d_M_steps_22 : decode b_M_steps 22 = .ok (.invokevirtual 53, 3) := by decide +kernel
theorem d_M_steps_25 : decode b_M_steps 25 = .ok (.ifCond .eq 10, 3) := by decide +kernel
theorem d_M_steps_28 : decode b_M_steps 28 = .ok (.aload_n 0, 1) := by decide +kernel
theorem d_M_steps_29 : decode b_M_steps 29 = .ok (.getfield 39, 3) := by decide +kernel
theorem d_M_steps_32 : decode b_M_steps 32 = .ok (.goto 4, 3) := by decide +kernel
theorem d_M_steps_35 : decode b_M_steps 35 = .ok (.iconst (-1), 1) := by decide +kernel
theorem d_M_steps_36 : decode b_M_steps 36 = .ok (.ireturn, 1) := by decide +kernel
theorem d_M_path_0 : decode b_M_path 0 = .ok (.aload_n 0, 1) := by decide +kernel
theorem d_M_path_1 : decode b_M_path 1 = .ok (.iconst 0, 1) := by decide +kernel
theorem d_M_path_2 : decode b_M_path 2 = .ok (.putfield 30, 3) := by decide +kernel
theorem d_M_path_5 : decode b_M_path 5 = .ok (.iload_n 1, 1) := by decide +kernel
theorem d_M_path_6 : decode b_M_path 6 = .ok (.invokestatic 64, 3) := by decide +kernel
theorem d_M_path_9 : decode b_M_path 9 = .ok (.ifCond .eq 19, 3) := by decide +kernel
theorem d_M_path_12 : decode b_M_path 12 = .ok (.iload_n 2, 1) := by decide +kernel
theorem d_M_path_13 : decode b_M_path 13 = .ok (.invokestatic 64, 3) := by decide +kernel
theorem d_M_path_16 : decode b_M_path 16 = .ok (.ifCond .eq 12, 3) := by decide +kernel
theorem d_M_path_19 : decode b_M_path 19 = .ok (.aload_n 0, 1) := by decide +kernel
theorem d_M_path_20 : decode b_M_path 20 = .ok (.iload_n 1, 1) := by decide +kernel
theorem d_M_path_21 : decode b_M_path 21 = .ok (.iload_n 2, 1) := by decide +kernel
theorem d_M_path_22 : decode b_M_path 22 = .ok (.invokevirtual 53, 3) := by decide +kernel
theorem d_M_path_25 : decode b_M_path 25 = .ok (.ifCond .ne 5, 3) := by decide +kernel
theorem d_M_path_28 : decode b_M_path 28 = .ok (.iconst (-1), 1) := by decide +kernel
theorem d_M_path_29 : decode b_M_path 29 = .ok (.ireturn, 1) := by decide +kernel
theorem d_M_path_30 : decode b_M_path 30 = .ok (.aload_n 0, 1) := by decide +kernel
theorem d_M_path_31 : decode b_M_path 31 = .ok (.getfield 24, 3) := by decide +kernel
theorem d_M_path_34 : decode b_M_path 34 = .ok (.iconst 0, 1) := by decide +kernel
theorem d_M_path_35 : decode b_M_path 35 = .ok (.iload_n 1, 1) := by decide +kernel
theorem d_M_path_36 : decode b_M_path 36 = .ok (.iastore, 1) := by decide +kernel
theorem d_M_path_37 : decode b_M_path 37 = .ok (.aload_n 0, 1) := by decide +kernel
theorem d_M_path_38 : decode b_M_path 38 = .ok (.iconst 1, 1) := by decide +kernel
theorem d_M_path_39 : decode b_M_path 39 = .ok (.putfield 50, 3) := by decide +kernel
theorem d_M_path_42 : decode b_M_path 42 = .ok (.aload_n 0, 1) := by decide +kernel
theorem d_M_path_43 : decode b_M_path 43 = .ok (.iload_n 1, 1) := by decide +kernel
theorem d_M_path_44 : decode b_M_path 44 = .ok (.invokevirtual 57, 3) := by decide +kernel
theorem d_M_path_47 : decode b_M_path 47 = .ok (.aload_n 0, 1) := by decide +kernel
theorem d_M_path_48 : decode b_M_path 48 = .ok (.aload_n 0, 1) := by decide +kernel
theorem d_M_path_49 : decode b_M_path 49 = .ok (.getfield 42, 3) := by decide +kernel
theorem d_M_path_52 : decode b_M_path 52 = .ok (.putfield 61, 3) := by decide +kernel
theorem d_M_path_55 : decode b_M_path 55 = .ok (.aload_n 0, 1) := by decide +kernel
theorem d_M_path_56 : decode b_M_path 56 = .ok (.getfield 50, 3) := by decide +kernel
theorem d_M_path_59 : decode b_M_path 59 = .ok (.ireturn, 1) := by decide +kernel
theorem d_M_row_0 : decode b_M_row 0 = .ok (.aload_n 0, 1) := by decide +kernel
theorem d_M_row_1 : decode b_M_row 1 = .ok (.iconst 0, 1) := by decide +kernel
theorem d_M_row_2 : decode b_M_row 2 = .ok (.putfield 30, 3) := by decide +kernel
theorem d_M_row_5 : decode b_M_row 5 = .ok (.aload_n 0, 1) := by decide +kernel
theorem d_M_row_6 : decode b_M_row 6 = .ok (.getfield 50, 3) := by decide +kernel
theorem d_M_row_9 : decode b_M_row 9 = .ok (.ireturn, 1) := by decide +kernel
theorem d_M_rowAt_0 : decode b_M_rowAt 0 = .ok (.aload_n 0, 1) := by decide +kernel
theorem d_M_rowAt_1 : decode b_M_rowAt 1 = .ok (.iconst 0, 1) := by decide +kernel
theorem d_M_rowAt_2 : decode b_M_rowAt 2 = .ok (.putfield 30, 3) := by decide +kernel
theorem d_M_rowAt_5 : decode b_M_rowAt 5 = .ok (.iload_n 1, 1) := by decide +kernel
theorem d_M_rowAt_6 : decode b_M_rowAt 6 = .ok (.ifCond .lt 20, 3) := by decide +kernel
theorem d_M_rowAt_9 : decode b_M_rowAt 9 = .ok (.iload_n 1, 1) := by decide +kernel
theorem d_M_rowAt_10 : decode b_M_rowAt 10 = .ok (.aload_n 0, 1) := by decide +kernel
theorem d_M_rowAt_11 : decode b_M_rowAt 11 = .ok (.getfield 50, 3) := by decide +kernel
theorem d_M_rowAt_14 : decode b_M_rowAt 14 = .ok (.if_icmp .ge 12, 3) := by decide +kernel
theorem d_M_rowAt_17 : decode b_M_rowAt 17 = .ok (.aload_n 0, 1) := by decide +kernel
theorem d_M_rowAt_18 : decode b_M_rowAt 18 = .ok (.getfield 24, 3) := by decide +kernel
theorem d_M_rowAt_21 : decode b_M_rowAt 21 = .ok (.iload_n 1, 1) := by decide +kernel
theorem d_M_rowAt_22 : decode b_M_rowAt 22 = .ok (.iaload, 1) := by decide +kernel
theorem d_M_rowAt_23 : decode b_M_rowAt 23 = .ok (.goto 4, 3) := by decide +kernel
theorem d_M_rowAt_26 : decode b_M_rowAt 26 = .ok (.iconst (-1), 1) := by decide +kernel
theorem d_M_rowAt_27 : decode b_M_rowAt 27 = .ok (.ireturn, 1) := by decide +kernel
theorem d_M_length_0 : decode b_M_length 0 = .ok (.aload_n 0, 1) := by decide +kernel
theorem d_M_length_1 : decode b_M_length 1 = .ok (.iconst 0, 1) := by decide +kernel
theorem d_M_length_2 : decode b_M_length 2 = .ok (.putfield 30, 3) := by decide +kernel
theorem d_M_length_5 : decode b_M_length 5 = .ok (.aload_n 0, 1) := by decide +kernel
theorem d_M_length_6 : decode b_M_length 6 = .ok (.getfield 50, 3) := by decide +kernel
theorem d_M_length_9 : decode b_M_length 9 = .ok (.ifCond .ne 7, 3) := by decide +kernel
theorem d_M_length_12 : decode b_M_length 12 = .ok (.lconst 0, 1) := by decide +kernel
theorem d_M_length_13 : decode b_M_length 13 = .ok (.goto 7, 3) := by decide +kernel
theorem d_M_length_16 : decode b_M_length 16 = .ok (.aload_n 0, 1) := by decide +kernel
theorem d_M_length_17 : decode b_M_length 17 = .ok (.getfield 61, 3) := by decide +kernel
theorem d_M_length_20 : decode b_M_length 20 = .ok (.lreturn, 1) := by decide +kernel
theorem d_M_earliest_0 : decode b_M_earliest 0 = .ok (.aload_n 0, 1) := by decide +kernel
theorem d_M_earliest_1 : decode b_M_earliest 1 = .ok (.iload_n 1, 1) := by decide +kernel
theorem d_M_earliest_2 : decode b_M_earliest 2 = .ok (.invokestatic 64, 3) := by decide +kernel
theorem d_M_earliest_5 : decode b_M_earliest 5 = .ok (.ifCond .eq 7, 3) := by decide +kernel
theorem d_M_earliest_8 : decode b_M_earliest 8 = .ok (.iconst 0, 1) := by decide +kernel
theorem d_M_earliest_9 : decode b_M_earliest 9 = .ok (.goto 4, 3) := by decide +kernel
theorem d_M_earliest_12 : decode b_M_earliest 12 = .ok (.iconst 1, 1) := by decide +kernel
theorem d_M_earliest_13 : decode b_M_earliest 13 = .ok (.putfield 30, 3) := by decide +kernel
theorem d_M_earliest_16 : decode b_M_earliest 16 = .ok (.aload_n 0, 1) := by decide +kernel
theorem d_M_earliest_17 : decode b_M_earliest 17 = .ok (.getfield 30, 3) := by decide +kernel
theorem d_M_earliest_20 : decode b_M_earliest 20 = .ok (.ifCond .le 5, 3) := by decide +kernel
theorem d_M_earliest_23 : decode b_M_earliest 23 = .ok (.lconst 0, 1) := by decide +kernel
theorem d_M_earliest_24 : decode b_M_earliest 24 = .ok (.lreturn, 1) := by decide +kernel
theorem d_M_earliest_25 : decode b_M_earliest 25 = .ok (.aload_n 0, 1) := by decide +kernel
theorem d_M_earliest_26 : decode b_M_earliest 26 = .ok (.iload_n 1, 1) := by decide +kernel
theorem d_M_earliest_27 : decode b_M_earliest 27 = .ok (.iconst 0, 1) := by decide +kernel
theorem d_M_earliest_28 : decode b_M_earliest 28 = .ok (.invokevirtual 53, 3) := by decide +kernel
theorem d_M_earliest_31 : decode b_M_earliest 31 = .ok (.ifCond .eq 11, 3) := by decide +kernel
theorem d_M_earliest_34 : decode b_M_earliest 34 = .ok (.aload_n 0, 1) := by decide +kernel
theorem d_M_earliest_35 : decode b_M_earliest 35 = .ok (.getfield 42, 3) := by decide +kernel
theorem d_M_earliest_38 : decode b_M_earliest 38 = .ok (.lneg, 1) := by decide +kernel
theorem d_M_earliest_39 : decode b_M_earliest 39 = .ok (.goto 6, 3) := by decide +kernel
theorem d_M_earliest_42 : decode b_M_earliest 42 = .ok (.ldc2_w 79, 3) := by decide +kernel
theorem d_M_earliest_45 : decode b_M_earliest 45 = .ok (.lreturn, 1) := by decide +kernel
theorem d_M_slack_0 : decode b_M_slack 0 = .ok (.aload_n 0, 1) := by decide +kernel
theorem d_M_slack_1 : decode b_M_slack 1 = .ok (.iconst 0, 1) := by decide +kernel
theorem d_M_slack_2 : decode b_M_slack 2 = .ok (.putfield 30, 3) := by decide +kernel
theorem d_M_slack_5 : decode b_M_slack 5 = .ok (.aload_n 0, 1) := by decide +kernel
theorem d_M_slack_6 : decode b_M_slack 6 = .ok (.iload_n 1, 1) := by decide +kernel
theorem d_M_slack_7 : decode b_M_slack 7 = .ok (.invokevirtual 76, 3) := by decide +kernel
theorem d_M_slack_10 : decode b_M_slack 10 = .ok (.ifCond .eq 31, 3) := by decide +kernel
theorem d_M_slack_13 : decode b_M_slack 13 = .ok (.aload_n 0, 1) := by decide +kernel
theorem d_M_slack_14 : decode b_M_slack 14 = .ok (.getfield 20, 3) := by decide +kernel
theorem d_M_slack_17 : decode b_M_slack 17 = .ok (.iload_n 1, 1) := by decide +kernel
theorem d_M_slack_18 : decode b_M_slack 18 = .ok (.baload, 1) := by decide +kernel
theorem d_M_slack_19 : decode b_M_slack 19 = .ok (.ifCond .eq 22, 3) := by decide +kernel
theorem d_M_slack_22 : decode b_M_slack 22 = .ok (.aload_n 0, 1) := by decide +kernel
theorem d_M_slack_23 : decode b_M_slack 23 = .ok (.aload_n 0, 1) := by decide +kernel
theorem d_M_slack_24 : decode b_M_slack 24 = .ok (.getfield 7, 3) := by decide +kernel
theorem d_M_slack_27 : decode b_M_slack 27 = .ok (.iload_n 1, 1) := by decide +kernel
theorem d_M_slack_28 : decode b_M_slack 28 = .ok (.iaload, 1) := by decide +kernel
theorem d_M_slack_29 : decode b_M_slack 29 = .ok (.aload_n 0, 1) := by decide +kernel
theorem d_M_slack_30 : decode b_M_slack 30 = .ok (.getfield 13, 3) := by decide +kernel
theorem d_M_slack_33 : decode b_M_slack 33 = .ok (.iload_n 1, 1) := by decide +kernel
theorem d_M_slack_34 : decode b_M_slack 34 = .ok (.iaload, 1) := by decide +kernel
theorem d_M_slack_35 : decode b_M_slack 35 = .ok (.invokevirtual 53, 3) := by decide +kernel
theorem d_M_slack_38 : decode b_M_slack 38 = .ok (.ifCond .ne 7, 3) := by decide +kernel
theorem d_M_slack_41 : decode b_M_slack 41 = .ok (.ldc2_w 81, 3) := by decide +kernel
theorem d_M_slack_44 : decode b_M_slack 44 = .ok (.lreturn, 1) := by decide +kernel
theorem d_M_slack_45 : decode b_M_slack 45 = .ok (.aload_n 0, 1) := by decide +kernel
theorem d_M_slack_46 : decode b_M_slack 46 = .ok (.getfield 16, 3) := by decide +kernel
theorem d_M_slack_49 : decode b_M_slack 49 = .ok (.iload_n 1, 1) := by decide +kernel
theorem d_M_slack_50 : decode b_M_slack 50 = .ok (.laload, 1) := by decide +kernel
theorem d_M_slack_51 : decode b_M_slack 51 = .ok (.aload_n 0, 1) := by decide +kernel
theorem d_M_slack_52 : decode b_M_slack 52 = .ok (.getfield 42, 3) := by decide +kernel
theorem d_M_slack_55 : decode b_M_slack 55 = .ok (.lsub, 1) := by decide +kernel
theorem d_M_slack_56 : decode b_M_slack 56 = .ok (.lreturn, 1) := by decide +kernel
theorem d_M_alive_0 : decode b_M_alive 0 = .ok (.aload_n 0, 1) := by decide +kernel
theorem d_M_alive_1 : decode b_M_alive 1 = .ok (.iconst 0, 1) := by decide +kernel
theorem d_M_alive_2 : decode b_M_alive 2 = .ok (.putfield 30, 3) := by decide +kernel
theorem d_M_alive_5 : decode b_M_alive 5 = .ok (.iconst 0, 1) := by decide +kernel
theorem d_M_alive_6 : decode b_M_alive 6 = .ok (.istore_n 1, 1) := by decide +kernel
theorem d_M_alive_7 : decode b_M_alive 7 = .ok (.iconst 0, 1) := by decide +kernel
theorem d_M_alive_8 : decode b_M_alive 8 = .ok (.istore_n 2, 1) := by decide +kernel
theorem d_M_alive_9 : decode b_M_alive 9 = .ok (.iload_n 2, 1) := by decide +kernel
theorem d_M_alive_10 : decode b_M_alive 10 = .ok (.aload_n 0, 1) := by decide +kernel
theorem d_M_alive_11 : decode b_M_alive 11 = .ok (.getfield 34, 3) := by decide +kernel
theorem d_M_alive_14 : decode b_M_alive 14 = .ok (.if_icmp .ge 26, 3) := by decide +kernel
theorem d_M_alive_17 : decode b_M_alive 17 = .ok (.iload_n 1, 1) := by decide +kernel
theorem d_M_alive_18 : decode b_M_alive 18 = .ok (.aload_n 0, 1) := by decide +kernel
theorem d_M_alive_19 : decode b_M_alive 19 = .ok (.getfield 20, 3) := by decide +kernel
theorem d_M_alive_22 : decode b_M_alive 22 = .ok (.iload_n 2, 1) := by decide +kernel
theorem d_M_alive_23 : decode b_M_alive 23 = .ok (.baload, 1) := by decide +kernel
theorem d_M_alive_24 : decode b_M_alive 24 = .ok (.ifCond .eq 7, 3) := by decide +kernel
theorem d_M_alive_27 : decode b_M_alive 27 = .ok (.iconst 1, 1) := by decide +kernel
theorem d_M_alive_28 : decode b_M_alive 28 = .ok (.goto 4, 3) := by decide +kernel
theorem d_M_alive_31 : decode b_M_alive 31 = .ok (.iconst 0, 1) := by decide +kernel
theorem d_M_alive_32 : decode b_M_alive 32 = .ok (.iadd, 1) := by decide +kernel
theorem d_M_alive_33 : decode b_M_alive 33 = .ok (.istore_n 1, 1) := by decide +kernel
theorem d_M_alive_34 : decode b_M_alive 34 = .ok (.iinc 2 1, 3) := by decide +kernel
theorem d_M_alive_37 : decode b_M_alive 37 = .ok (.goto (-28), 3) := by decide +kernel
theorem d_M_alive_40 : decode b_M_alive 40 = .ok (.iload_n 1, 1) := by decide +kernel
theorem d_M_alive_41 : decode b_M_alive 41 = .ok (.ireturn, 1) := by decide +kernel
end
section
theorem d_L_bound_0 : decode b_L_bound 0 = .ok (.aload_n 3, 1) := by decide +kernel
theorem d_L_bound_1 : decode b_L_bound 1 = .ok (.iconst 0, 1) := by decide +kernel
theorem d_L_bound_2 : decode b_L_bound 2 = .ok (.aload_n 0, 1) := by decide +kernel
theorem d_L_bound_3 : decode b_L_bound 3 = .ok (.iload_n 1, 1) := by decide +kernel
theorem d_L_bound_4 : decode b_L_bound 4 = .ok (.iload_n 2, 1) := by decide +kernel
theorem d_L_bound_5 : decode b_L_bound 5 = .ok (.invokevirtual 7, 3) := by decide +kernel
theorem d_L_bound_8 : decode b_L_bound 8 = .ok (.lastore, 1) := by decide +kernel
theorem d_L_bound_9 : decode b_L_bound 9 = .ok (.goto 7, 3) := by decide +kernel
theorem d_L_bound_12 : decode b_L_bound 12 = .ok (.astore 4, 2) := by decide +kernel
theorem d_L_bound_14 : decode b_L_bound 14 = .ok (.iconst 1, 1) := by decide +kernel
theorem d_L_bound_15 : decode b_L_bound 15 = .ok (.ireturn, 1) := by decide +kernel
theorem d_L_bound_16 : decode b_L_bound 16 = .ok (.iconst 0, 1) := by decide +kernel
theorem d_L_bound_17 : decode b_L_bound 17 = .ok (.ireturn, 1) := by decide +kernel
theorem d_L_earliest_0 : decode b_L_earliest 0 = .ok (.aload_n 2, 1) := by decide +kernel
theorem d_L_earliest_1 : decode b_L_earliest 1 = .ok (.iconst 0, 1) := by decide +kernel
theorem d_L_earliest_2 : decode b_L_earliest 2 = .ok (.aload_n 0, 1) := by decide +kernel
theorem d_L_earliest_3 : decode b_L_earliest 3 = .ok (.iload_n 1, 1) := by decide +kernel
theorem d_L_earliest_4 : decode b_L_earliest 4 = .ok (.invokevirtual 15, 3) := by decide +kernel
theorem d_L_earliest_7 : decode b_L_earliest 7 = .ok (.lastore, 1) := by decide +kernel
theorem d_L_earliest_8 : decode b_L_earliest 8 = .ok (.goto 6, 3) := by decide +kernel
theorem d_L_earliest_11 : decode b_L_earliest 11 = .ok (.astore_n 3, 1) := by decide +kernel
theorem d_L_earliest_12 : decode b_L_earliest 12 = .ok (.iconst 1, 1) := by decide +kernel
theorem d_L_earliest_13 : decode b_L_earliest 13 = .ok (.ireturn, 1) := by decide +kernel
theorem d_L_earliest_14 : decode b_L_earliest 14 = .ok (.iconst 0, 1) := by decide +kernel
theorem d_L_earliest_15 : decode b_L_earliest 15 = .ok (.ireturn, 1) := by decide +kernel
theorem d_L_law_0 : decode code 0 = .ok (.new 8, 3) := by decide +kernel
theorem d_L_law_3 : decode code 3 = .ok (.dup, 1) := by decide +kernel
theorem d_L_law_4 : decode code 4 = .ok (.invokespecial 19, 3) := by decide +kernel
theorem d_L_law_7 : decode code 7 = .ok (.astore_n 1, 1) := by decide +kernel
theorem d_L_law_8 : decode code 8 = .ok (.new 20, 3) := by decide +kernel
theorem d_L_law_11 : decode code 11 = .ok (.dup, 1) := by decide +kernel
theorem d_L_law_12 : decode code 12 = .ok (.invokespecial 22, 3) := by decide +kernel
theorem d_L_law_15 : decode code 15 = .ok (.astore_n 2, 1) := by decide +kernel
theorem d_L_law_16 : decode code 16 = .ok (.iconst 1, 1) := by decide +kernel
theorem d_L_law_17 : decode code 17 = .ok (.newarray .long, 2) := by decide +kernel
theorem d_L_law_19 : decode code 19 = .ok (.astore_n 3, 1) := by decide +kernel
theorem d_L_law_20 : decode code 20 = .ok (.iconst 0, 1) := by decide +kernel
theorem d_L_law_21 : decode code 21 = .ok (.istore 4, 2) := by decide +kernel
theorem d_L_law_23 : decode code 23 = .ok (.iload 4, 2) := by decide +kernel
theorem d_L_law_25 : decode code 25 = .ok (.aload_n 0, 1) := by decide +kernel
theorem d_L_law_26 : decode code 26 = .ok (.arraylength, 1) := by decide +kernel
theorem d_L_law_27 : decode code 27 = .ok (.iconst 5, 1) := by decide +kernel
theorem d_L_law_28 : decode code 28 = .ok (.isub, 1) := by decide +kernel
theorem d_L_law_29 : decode code 29 = .ok (.if_icmp .gt 495, 3) := by decide +kernel
theorem d_L_law_32 : decode code 32 = .ok (.aload_n 0, 1) := by decide +kernel
theorem d_L_law_33 : decode code 33 = .ok (.iload 4, 2) := by decide +kernel
theorem d_L_law_35 : decode code 35 = .ok (.iaload, 1) := by decide +kernel
theorem d_L_law_36 : decode code 36 = .ok (.bipush 15, 2) := by decide +kernel
theorem d_L_law_38 : decode code 38 = .ok (.iand, 1) := by decide +kernel
theorem d_L_law_39 : decode code 39 = .ok (.tableswitch 479 0 11 #[61, 142, 167, 192, 259, 296, 333, 346, 371, 385, 440, 466], 61) := by decide +kernel
theorem d_L_law_100 : decode code 100 = .ok (.aload_n 1, 1) := by decide +kernel
theorem d_L_law_101 : decode code 101 = .ok (.aload_n 0, 1) := by decide +kernel
theorem d_L_law_102 : decode code 102 = .ok (.iload 4, 2) := by decide +kernel
theorem d_L_law_104 : decode code 104 = .ok (.iconst 1, 1) := by decide +kernel
theorem d_L_law_105 : decode code 105 = .ok (.iadd, 1) := by decide +kernel
theorem d_L_law_106 : decode code 106 = .ok (.iaload, 1) := by decide +kernel
theorem d_L_law_107 : decode code 107 = .ok (.aload_n 0, 1) := by decide +kernel
theorem d_L_law_108 : decode code 108 = .ok (.iload 4, 2) := by decide +kernel
theorem d_L_law_110 : decode code 110 = .ok (.iconst 2, 1) := by decide +kernel
theorem d_L_law_111 : decode code 111 = .ok (.iadd, 1) := by decide +kernel
theorem d_L_law_112 : decode code 112 = .ok (.iaload, 1) := by decide +kernel
theorem d_L_law_113 : decode code 113 = .ok (.aload_n 0, 1) := by decide +kernel
theorem d_L_law_114 : decode code 114 = .ok (.iload 4, 2) := by decide +kernel
theorem d_L_law_116 : decode code 116 = .ok (.iconst 3, 1) := by decide +kernel
theorem d_L_law_117 : decode code 117 = .ok (.iadd, 1) := by decide +kernel
theorem d_L_law_118 : decode code 118 = .ok (.iaload, 1) := by decide +kernel
theorem d_L_law_119 : decode code 119 = .ok (.i2l, 1) := by decide +kernel
theorem d_L_law_120 : decode code 120 = .ok (.bipush 32, 2) := by decide +kernel
theorem d_L_law_122 : decode code 122 = .ok (.lshl, 1) := by decide +kernel
theorem d_L_law_123 : decode code 123 = .ok (.aload_n 0, 1) := by decide +kernel
theorem d_L_law_124 : decode code 124 = .ok (.iload 4, 2) := by decide +kernel
theorem d_L_law_126 : decode code 126 = .ok (.iconst 4, 1) := by decide +kernel
theorem d_L_law_127 : decode code 127 = .ok (.iadd, 1) := by decide +kernel
theorem d_L_law_128 : decode code 128 = .ok (.iaload, 1) := by decide +kernel
theorem d_L_law_129 : decode code 129 = .ok (.i2l, 1) := by decide +kernel
theorem d_L_law_130 : decode code 130 = .ok (.ldc2_w 23, 3) := by decide +kernel
theorem d_L_law_133 : decode code 133 = .ok (.land, 1) := by decide +kernel
theorem d_L_law_134 : decode code 134 = .ok (.lor, 1) := by decide +kernel
theorem d_L_law_135 : decode code 135 = .ok (.invokevirtual 25, 3) := by decide +kernel
theorem d_L_law_138 : decode code 138 = .ok (.aload_n 2, 1) := by decide +kernel
theorem d_L_law_139 : decode code 139 = .ok (.aload_n 0, 1) := by decide +kernel
theorem d_L_law_140 : decode code 140 = .ok (.iload 4, 2) := by decide +kernel
theorem d_L_law_142 : decode code 142 = .ok (.iconst 1, 1) := by decide +kernel
theorem d_L_law_143 : decode code 143 = .ok (.iadd, 1) := by decide +kernel
theorem d_L_law_144 : decode code 144 = .ok (.iaload, 1) := by decide +kernel
theorem d_L_law_145 : decode code 145 = .ok (.aload_n 0, 1) := by decide +kernel
theorem d_L_law_146 : decode code 146 = .ok (.iload 4, 2) := by decide +kernel
theorem d_L_law_148 : decode code 148 = .ok (.iconst 2, 1) := by decide +kernel
theorem d_L_law_149 : decode code 149 = .ok (.iadd, 1) := by decide +kernel
theorem d_L_law_150 : decode code 150 = .ok (.iaload, 1) := by decide +kernel
theorem d_L_law_151 : decode code 151 = .ok (.aload_n 0, 1) := by decide +kernel
theorem d_L_law_152 : decode code 152 = .ok (.iload 4, 2) := by decide +kernel
theorem d_L_law_154 : decode code 154 = .ok (.iconst 3, 1) := by decide +kernel
theorem d_L_law_155 : decode code 155 = .ok (.iadd, 1) := by decide +kernel
theorem d_L_law_156 : decode code 156 = .ok (.iaload, 1) := by decide +kernel
theorem d_L_law_157 : decode code 157 = .ok (.i2l, 1) := by decide +kernel
theorem d_L_law_158 : decode code 158 = .ok (.bipush 32, 2) := by decide +kernel
theorem d_L_law_160 : decode code 160 = .ok (.lshl, 1) := by decide +kernel
theorem d_L_law_161 : decode code 161 = .ok (.aload_n 0, 1) := by decide +kernel
theorem d_L_law_162 : decode code 162 = .ok (.iload 4, 2) := by decide +kernel
theorem d_L_law_164 : decode code 164 = .ok (.iconst 4, 1) := by decide +kernel
theorem d_L_law_165 : decode code 165 = .ok (.iadd, 1) := by decide +kernel
theorem d_L_law_166 : decode code 166 = .ok (.iaload, 1) := by decide +kernel
theorem d_L_law_167 : decode code 167 = .ok (.i2l, 1) := by decide +kernel
theorem d_L_law_168 : decode code 168 = .ok (.ldc2_w 23, 3) := by decide +kernel
theorem d_L_law_171 : decode code 171 = .ok (.land, 1) := by decide +kernel
theorem d_L_law_172 : decode code 172 = .ok (.lor, 1) := by decide +kernel
theorem d_L_law_173 : decode code 173 = .ok (.invokevirtual 29, 3) := by decide +kernel
theorem d_L_law_176 : decode code 176 = .ok (.if_icmp .eq 342, 3) := by decide +kernel
theorem d_L_law_179 : decode code 179 = .ok (.iconst 0, 1) := by decide +kernel
theorem d_L_law_180 : decode code 180 = .ok (.ireturn, 1) := by decide +kernel
theorem d_L_law_181 : decode code 181 = .ok (.aload_n 1, 1) := by decide +kernel
theorem d_L_law_182 : decode code 182 = .ok (.aload_n 0, 1) := by decide +kernel
theorem d_L_law_183 : decode code 183 = .ok (.iload 4, 2) := by decide +kernel
theorem d_L_law_185 : decode code 185 = .ok (.iconst 1, 1) := by decide +kernel
theorem d_L_law_186 : decode code 186 = .ok (.iadd, 1) := by decide +kernel
theorem d_L_law_187 : decode code 187 = .ok (.iaload, 1) := by decide +kernel
theorem d_L_law_188 : decode code 188 = .ok (.invokevirtual 30, 3) := by decide +kernel
theorem d_L_law_191 : decode code 191 = .ok (.aload_n 2, 1) := by decide +kernel
theorem d_L_law_192 : decode code 192 = .ok (.aload_n 0, 1) := by decide +kernel
theorem d_L_law_193 : decode code 193 = .ok (.iload 4, 2) := by decide +kernel
theorem d_L_law_195 : decode code 195 = .ok (.iconst 1, 1) := by decide +kernel
theorem d_L_law_196 : decode code 196 = .ok (.iadd, 1) := by decide +kernel
theorem d_L_law_197 : decode code 197 = .ok (.iaload, 1) := by decide +kernel
theorem d_L_law_198 : decode code 198 = .ok (.invokevirtual 34, 3) := by decide +kernel
theorem d_L_law_201 : decode code 201 = .ok (.if_icmp .eq 317, 3) := by decide +kernel
theorem d_L_law_204 : decode code 204 = .ok (.iconst 0, 1) := by decide +kernel
theorem d_L_law_205 : decode code 205 = .ok (.ireturn, 1) := by decide +kernel
theorem d_L_law_206 : decode code 206 = .ok (.aload_n 1, 1) := by decide +kernel
theorem d_L_law_207 : decode code 207 = .ok (.aload_n 0, 1) := by decide +kernel
theorem d_L_law_208 : decode code 208 = .ok (.iload 4, 2) := by decide +kernel
theorem d_L_law_210 : decode code 210 = .ok (.iconst 1, 1) := by decide +kernel
theorem d_L_law_211 : decode code 211 = .ok (.iadd, 1) := by decide +kernel
theorem d_L_law_212 : decode code 212 = .ok (.iaload, 1) := by decide +kernel
theorem d_L_law_213 : decode code 213 = .ok (.invokevirtual 35, 3) := by decide +kernel
theorem d_L_law_216 : decode code 216 = .ok (.aload_n 2, 1) := by decide +kernel
theorem d_L_law_217 : decode code 217 = .ok (.aload_n 0, 1) := by decide +kernel
theorem d_L_law_218 : decode code 218 = .ok (.iload 4, 2) := by decide +kernel
theorem d_L_law_220 : decode code 220 = .ok (.iconst 1, 1) := by decide +kernel
theorem d_L_law_221 : decode code 221 = .ok (.iadd, 1) := by decide +kernel
theorem d_L_law_222 : decode code 222 = .ok (.iaload, 1) := by decide +kernel
theorem d_L_law_223 : decode code 223 = .ok (.invokevirtual 39, 3) := by decide +kernel
theorem d_L_law_226 : decode code 226 = .ok (.if_icmp .eq 292, 3) := by decide +kernel
theorem d_L_law_229 : decode code 229 = .ok (.iconst 0, 1) := by decide +kernel
theorem d_L_law_230 : decode code 230 = .ok (.ireturn, 1) := by decide +kernel
theorem d_L_law_231 : decode code 231 = .ok (.aload_n 1, 1) := by decide +kernel
theorem d_L_law_232 : decode code 232 = .ok (.aload_n 0, 1) := by decide +kernel
theorem d_L_law_233 : decode code 233 = .ok (.iload 4, 2) := by decide +kernel
theorem d_L_law_235 : decode code 235 = .ok (.iconst 1, 1) := by decide +kernel
theorem d_L_law_236 : decode code 236 = .ok (.iadd, 1) := by decide +kernel
theorem d_L_law_237 : decode code 237 = .ok (.iaload, 1) := by decide +kernel
theorem d_L_law_238 : decode code 238 = .ok (.aload_n 0, 1) := by decide +kernel
theorem d_L_law_239 : decode code 239 = .ok (.iload 4, 2) := by decide +kernel
theorem d_L_law_241 : decode code 241 = .ok (.iconst 2, 1) := by decide +kernel
theorem d_L_law_242 : decode code 242 = .ok (.iadd, 1) := by decide +kernel
theorem d_L_law_243 : decode code 243 = .ok (.iaload, 1) := by decide +kernel
theorem d_L_law_244 : decode code 244 = .ok (.aload_n 3, 1) := by decide +kernel
theorem d_L_law_245 : decode code 245 = .ok (.invokestatic 40, 3) := by decide +kernel
theorem d_L_law_248 : decode code 248 = .ok (.istore 5, 2) := by decide +kernel
theorem d_L_law_250 : decode code 250 = .ok (.aload_n 2, 1) := by decide +kernel
theorem d_L_law_251 : decode code 251 = .ok (.aload_n 0, 1) := by decide +kernel
theorem d_L_law_252 : decode code 252 = .ok (.iload 4, 2) := by decide +kernel
theorem d_L_law_254 : decode code 254 = .ok (.iconst 1, 1) := by decide +kernel
theorem d_L_law_255 : decode code 255 = .ok (.iadd, 1) := by decide +kernel
theorem d_L_law_256 : decode code 256 = .ok (.iaload, 1) := by decide +kernel
theorem d_L_law_257 : decode code 257 = .ok (.aload_n 0, 1) := by decide +kernel
theorem d_L_law_258 : decode code 258 = .ok (.iload 4, 2) := by decide +kernel
theorem d_L_law_260 : decode code 260 = .ok (.iconst 2, 1) := by decide +kernel
theorem d_L_law_261 : decode code 261 = .ok (.iadd, 1) := by decide +kernel
theorem d_L_law_262 : decode code 262 = .ok (.iaload, 1) := by decide +kernel
theorem d_L_law_263 : decode code 263 = .ok (.invokevirtual 45, 3) := by decide +kernel
theorem d_L_law_266 : decode code 266 = .ok (.lstore 6, 2) := by decide +kernel
theorem d_L_law_268 : decode code 268 = .ok (.aload_n 2, 1) := by decide +kernel
theorem d_L_law_269 : decode code 269 = .ok (.invokevirtual 46, 3) := by decide +kernel
theorem d_L_law_272 : decode code 272 = .ok (.iload 5, 2) := by decide +kernel
theorem d_L_law_274 : decode code 274 = .ok (.if_icmp .eq 5, 3) := by decide +kernel
theorem d_L_law_277 : decode code 277 = .ok (.iconst 0, 1) := by decide +kernel
theorem d_L_law_278 : decode code 278 = .ok (.ireturn, 1) := by decide +kernel
theorem d_L_law_279 : decode code 279 = .ok (.iload 5, 2) := by decide +kernel
theorem d_L_law_281 : decode code 281 = .ok (.ifCond .ne 14, 3) := by decide +kernel
theorem d_L_law_284 : decode code 284 = .ok (.aload_n 3, 1) := by decide +kernel
theorem d_L_law_285 : decode code 285 = .ok (.iconst 0, 1) := by decide +kernel
theorem d_L_law_286 : decode code 286 = .ok (.laload, 1) := by decide +kernel
theorem d_L_law_287 : decode code 287 = .ok (.lload 6, 2) := by decide +kernel
theorem d_L_law_289 : decode code 289 = .ok (.lcmp, 1) := by decide +kernel
theorem d_L_law_290 : decode code 290 = .ok (.ifCond .eq 5, 3) := by decide +kernel
theorem d_L_law_293 : decode code 293 = .ok (.iconst 0, 1) := by decide +kernel
theorem d_L_law_294 : decode code 294 = .ok (.ireturn, 1) := by decide +kernel
theorem d_L_law_295 : decode code 295 = .ok (.goto 223, 3) := by decide +kernel
theorem d_L_law_298 : decode code 298 = .ok (.aload_n 1, 1) := by decide +kernel
theorem d_L_law_299 : decode code 299 = .ok (.aload_n 0, 1) := by decide +kernel
theorem d_L_law_300 : decode code 300 = .ok (.iload 4, 2) := by decide +kernel
theorem d_L_law_302 : decode code 302 = .ok (.iconst 1, 1) := by decide +kernel
theorem d_L_law_303 : decode code 303 = .ok (.iadd, 1) := by decide +kernel
theorem d_L_law_304 : decode code 304 = .ok (.iaload, 1) := by decide +kernel
theorem d_L_law_305 : decode code 305 = .ok (.aload_n 0, 1) := by decide +kernel
theorem d_L_law_306 : decode code 306 = .ok (.iload 4, 2) := by decide +kernel
theorem d_L_law_308 : decode code 308 = .ok (.iconst 2, 1) := by decide +kernel
theorem d_L_law_309 : decode code 309 = .ok (.iadd, 1) := by decide +kernel
theorem d_L_law_310 : decode code 310 = .ok (.iaload, 1) := by decide +kernel
theorem d_L_law_311 : decode code 311 = .ok (.invokevirtual 50, 3) := by decide +kernel
theorem d_L_law_314 : decode code 314 = .ok (.aload_n 2, 1) := by decide +kernel
theorem d_L_law_315 : decode code 315 = .ok (.aload_n 0, 1) := by decide +kernel
theorem d_L_law_316 : decode code 316 = .ok (.iload 4, 2) := by decide +kernel
theorem d_L_law_318 : decode code 318 = .ok (.iconst 1, 1) := by decide +kernel
theorem d_L_law_319 : decode code 319 = .ok (.iadd, 1) := by decide +kernel
theorem d_L_law_320 : decode code 320 = .ok (.iaload, 1) := by decide +kernel
theorem d_L_law_321 : decode code 321 = .ok (.aload_n 0, 1) := by decide +kernel
theorem d_L_law_322 : decode code 322 = .ok (.iload 4, 2) := by decide +kernel
theorem d_L_law_324 : decode code 324 = .ok (.iconst 2, 1) := by decide +kernel
theorem d_L_law_325 : decode code 325 = .ok (.iadd, 1) := by decide +kernel
theorem d_L_law_326 : decode code 326 = .ok (.iaload, 1) := by decide +kernel
theorem d_L_law_327 : decode code 327 = .ok (.invokevirtual 54, 3) := by decide +kernel
theorem d_L_law_330 : decode code 330 = .ok (.if_icmp .eq 188, 3) := by decide +kernel
theorem d_L_law_333 : decode code 333 = .ok (.iconst 0, 1) := by decide +kernel
theorem d_L_law_334 : decode code 334 = .ok (.ireturn, 1) := by decide +kernel
theorem d_L_law_335 : decode code 335 = .ok (.aload_n 1, 1) := by decide +kernel
theorem d_L_law_336 : decode code 336 = .ok (.aload_n 0, 1) := by decide +kernel
theorem d_L_law_337 : decode code 337 = .ok (.iload 4, 2) := by decide +kernel
theorem d_L_law_339 : decode code 339 = .ok (.iconst 1, 1) := by decide +kernel
theorem d_L_law_340 : decode code 340 = .ok (.iadd, 1) := by decide +kernel
theorem d_L_law_341 : decode code 341 = .ok (.iaload, 1) := by decide +kernel
theorem d_L_law_342 : decode code 342 = .ok (.aload_n 0, 1) := by decide +kernel
theorem d_L_law_343 : decode code 343 = .ok (.iload 4, 2) := by decide +kernel
theorem d_L_law_345 : decode code 345 = .ok (.iconst 2, 1) := by decide +kernel
theorem d_L_law_346 : decode code 346 = .ok (.iadd, 1) := by decide +kernel
theorem d_L_law_347 : decode code 347 = .ok (.iaload, 1) := by decide +kernel
theorem d_L_law_348 : decode code 348 = .ok (.invokevirtual 55, 3) := by decide +kernel
theorem d_L_law_351 : decode code 351 = .ok (.aload_n 2, 1) := by decide +kernel
theorem d_L_law_352 : decode code 352 = .ok (.aload_n 0, 1) := by decide +kernel
theorem d_L_law_353 : decode code 353 = .ok (.iload 4, 2) := by decide +kernel
theorem d_L_law_355 : decode code 355 = .ok (.iconst 1, 1) := by decide +kernel
theorem d_L_law_356 : decode code 356 = .ok (.iadd, 1) := by decide +kernel
theorem d_L_law_357 : decode code 357 = .ok (.iaload, 1) := by decide +kernel
theorem d_L_law_358 : decode code 358 = .ok (.aload_n 0, 1) := by decide +kernel
theorem d_L_law_359 : decode code 359 = .ok (.iload 4, 2) := by decide +kernel
theorem d_L_law_361 : decode code 361 = .ok (.iconst 2, 1) := by decide +kernel
theorem d_L_law_362 : decode code 362 = .ok (.iadd, 1) := by decide +kernel
theorem d_L_law_363 : decode code 363 = .ok (.iaload, 1) := by decide +kernel
theorem d_L_law_364 : decode code 364 = .ok (.invokevirtual 58, 3) := by decide +kernel
theorem d_L_law_367 : decode code 367 = .ok (.if_icmp .eq 151, 3) := by decide +kernel
theorem d_L_law_370 : decode code 370 = .ok (.iconst 0, 1) := by decide +kernel
theorem d_L_law_371 : decode code 371 = .ok (.ireturn, 1) := by decide +kernel
theorem d_L_law_372 : decode code 372 = .ok (.aload_n 1, 1) := by decide +kernel
theorem d_L_law_373 : decode code 373 = .ok (.invokevirtual 59, 3) := by decide +kernel
theorem d_L_law_376 : decode code 376 = .ok (.aload_n 2, 1) := by decide +kernel
theorem d_L_law_377 : decode code 377 = .ok (.invokevirtual 62, 3) := by decide +kernel
theorem d_L_law_380 : decode code 380 = .ok (.if_icmp .eq 138, 3) := by decide +kernel
theorem d_L_law_383 : decode code 383 = .ok (.iconst 0, 1) := by decide +kernel
theorem d_L_law_384 : decode code 384 = .ok (.ireturn, 1) := by decide +kernel
theorem d_L_law_385 : decode code 385 = .ok (.aload_n 1, 1) := by decide +kernel
theorem d_L_law_386 : decode code 386 = .ok (.aload_n 0, 1) := by decide +kernel
theorem d_L_law_387 : decode code 387 = .ok (.iload 4, 2) := by decide +kernel
theorem d_L_law_389 : decode code 389 = .ok (.iconst 1, 1) := by decide +kernel
theorem d_L_law_390 : decode code 390 = .ok (.iadd, 1) := by decide +kernel
theorem d_L_law_391 : decode code 391 = .ok (.iaload, 1) := by decide +kernel
theorem d_L_law_392 : decode code 392 = .ok (.invokevirtual 63, 3) := by decide +kernel
theorem d_L_law_395 : decode code 395 = .ok (.aload_n 2, 1) := by decide +kernel
theorem d_L_law_396 : decode code 396 = .ok (.aload_n 0, 1) := by decide +kernel
theorem d_L_law_397 : decode code 397 = .ok (.iload 4, 2) := by decide +kernel
theorem d_L_law_399 : decode code 399 = .ok (.iconst 1, 1) := by decide +kernel
theorem d_L_law_400 : decode code 400 = .ok (.iadd, 1) := by decide +kernel
theorem d_L_law_401 : decode code 401 = .ok (.iaload, 1) := by decide +kernel
theorem d_L_law_402 : decode code 402 = .ok (.invokevirtual 66, 3) := by decide +kernel
theorem d_L_law_405 : decode code 405 = .ok (.if_icmp .eq 113, 3) := by decide +kernel
theorem d_L_law_408 : decode code 408 = .ok (.iconst 0, 1) := by decide +kernel
theorem d_L_law_409 : decode code 409 = .ok (.ireturn, 1) := by decide +kernel
theorem d_L_law_410 : decode code 410 = .ok (.aload_n 1, 1) := by decide +kernel
theorem d_L_law_411 : decode code 411 = .ok (.invokevirtual 67, 3) := by decide +kernel
theorem d_L_law_414 : decode code 414 = .ok (.aload_n 2, 1) := by decide +kernel
theorem d_L_law_415 : decode code 415 = .ok (.invokevirtual 71, 3) := by decide +kernel
theorem d_L_law_418 : decode code 418 = .ok (.lcmp, 1) := by decide +kernel
theorem d_L_law_419 : decode code 419 = .ok (.ifCond .eq 99, 3) := by decide +kernel
theorem d_L_law_422 : decode code 422 = .ok (.iconst 0, 1) := by decide +kernel
theorem d_L_law_423 : decode code 423 = .ok (.ireturn, 1) := by decide +kernel
theorem d_L_law_424 : decode code 424 = .ok (.aload_n 1, 1) := by decide +kernel
theorem d_L_law_425 : decode code 425 = .ok (.aload_n 0, 1) := by decide +kernel
theorem d_L_law_426 : decode code 426 = .ok (.iload 4, 2) := by decide +kernel
theorem d_L_law_428 : decode code 428 = .ok (.iconst 1, 1) := by decide +kernel
theorem d_L_law_429 : decode code 429 = .ok (.iadd, 1) := by decide +kernel
theorem d_L_law_430 : decode code 430 = .ok (.iaload, 1) := by decide +kernel
theorem d_L_law_431 : decode code 431 = .ok (.aload_n 3, 1) := by decide +kernel
theorem d_L_law_432 : decode code 432 = .ok (.invokestatic 72, 3) := by decide +kernel
theorem d_L_law_435 : decode code 435 = .ok (.istore 5, 2) := by decide +kernel
theorem d_L_law_437 : decode code 437 = .ok (.aload_n 2, 1) := by decide +kernel
theorem d_L_law_438 : decode code 438 = .ok (.aload_n 0, 1) := by decide +kernel
theorem d_L_law_439 : decode code 439 = .ok (.iload 4, 2) := by decide +kernel
theorem d_L_law_441 : decode code 441 = .ok (.iconst 1, 1) := by decide +kernel
theorem d_L_law_442 : decode code 442 = .ok (.iadd, 1) := by decide +kernel
theorem d_L_law_443 : decode code 443 = .ok (.iaload, 1) := by decide +kernel
theorem d_L_law_444 : decode code 444 = .ok (.invokevirtual 75, 3) := by decide +kernel
theorem d_L_law_447 : decode code 447 = .ok (.lstore 6, 2) := by decide +kernel
theorem d_L_law_449 : decode code 449 = .ok (.aload_n 2, 1) := by decide +kernel
theorem d_L_law_450 : decode code 450 = .ok (.invokevirtual 46, 3) := by decide +kernel
theorem d_L_law_453 : decode code 453 = .ok (.iload 5, 2) := by decide +kernel
theorem d_L_law_455 : decode code 455 = .ok (.if_icmp .eq 5, 3) := by decide +kernel
theorem d_L_law_458 : decode code 458 = .ok (.iconst 0, 1) := by decide +kernel
theorem d_L_law_459 : decode code 459 = .ok (.ireturn, 1) := by decide +kernel
theorem d_L_law_460 : decode code 460 = .ok (.iload 5, 2) := by decide +kernel
theorem d_L_law_462 : decode code 462 = .ok (.ifCond .ne 14, 3) := by decide +kernel
theorem d_L_law_465 : decode code 465 = .ok (.aload_n 3, 1) := by decide +kernel
theorem d_L_law_466 : decode code 466 = .ok (.iconst 0, 1) := by decide +kernel
theorem d_L_law_467 : decode code 467 = .ok (.laload, 1) := by decide +kernel
theorem d_L_law_468 : decode code 468 = .ok (.lload 6, 2) := by decide +kernel
theorem d_L_law_470 : decode code 470 = .ok (.lcmp, 1) := by decide +kernel
theorem d_L_law_471 : decode code 471 = .ok (.ifCond .eq 5, 3) := by decide +kernel
theorem d_L_law_474 : decode code 474 = .ok (.iconst 0, 1) := by decide +kernel
theorem d_L_law_475 : decode code 475 = .ok (.ireturn, 1) := by decide +kernel
theorem d_L_law_476 : decode code 476 = .ok (.goto 42, 3) := by decide +kernel
theorem d_L_law_479 : decode code 479 = .ok (.aload_n 1, 1) := by decide +kernel
theorem d_L_law_480 : decode code 480 = .ok (.aload_n 0, 1) := by decide +kernel
theorem d_L_law_481 : decode code 481 = .ok (.iload 4, 2) := by decide +kernel
theorem d_L_law_483 : decode code 483 = .ok (.iconst 1, 1) := by decide +kernel
theorem d_L_law_484 : decode code 484 = .ok (.iadd, 1) := by decide +kernel
theorem d_L_law_485 : decode code 485 = .ok (.iaload, 1) := by decide +kernel
theorem d_L_law_486 : decode code 486 = .ok (.invokevirtual 76, 3) := by decide +kernel
theorem d_L_law_489 : decode code 489 = .ok (.aload_n 2, 1) := by decide +kernel
theorem d_L_law_490 : decode code 490 = .ok (.aload_n 0, 1) := by decide +kernel
theorem d_L_law_491 : decode code 491 = .ok (.iload 4, 2) := by decide +kernel
theorem d_L_law_493 : decode code 493 = .ok (.iconst 1, 1) := by decide +kernel
theorem d_L_law_494 : decode code 494 = .ok (.iadd, 1) := by decide +kernel
theorem d_L_law_495 : decode code 495 = .ok (.iaload, 1) := by decide +kernel
theorem d_L_law_496 : decode code 496 = .ok (.invokevirtual 79, 3) := by decide +kernel
theorem d_L_law_499 : decode code 499 = .ok (.lcmp, 1) := by decide +kernel
theorem d_L_law_500 : decode code 500 = .ok (.ifCond .eq 18, 3) := by decide +kernel
theorem d_L_law_503 : decode code 503 = .ok (.iconst 0, 1) := by decide +kernel
theorem d_L_law_504 : decode code 504 = .ok (.ireturn, 1) := by decide +kernel
theorem d_L_law_505 : decode code 505 = .ok (.aload_n 1, 1) := by decide +kernel
theorem d_L_law_506 : decode code 506 = .ok (.invokevirtual 80, 3) := by decide +kernel
theorem d_L_law_509 : decode code 509 = .ok (.aload_n 2, 1) := by decide +kernel
theorem d_L_law_510 : decode code 510 = .ok (.invokevirtual 83, 3) := by decide +kernel
theorem d_L_law_513 : decode code 513 = .ok (.if_icmp .eq 5, 3) := by decide +kernel
theorem d_L_law_516 : decode code 516 = .ok (.iconst 0, 1) := by decide +kernel
theorem d_L_law_517 : decode code 517 = .ok (.ireturn, 1) := by decide +kernel
theorem d_L_law_518 : decode code 518 = .ok (.iinc 4 5, 3) := by decide +kernel
theorem d_L_law_521 : decode code 521 = .ok (.goto (-498), 3) := by decide +kernel
theorem d_L_law_524 : decode code 524 = .ok (.iconst 1, 1) := by decide +kernel
theorem d_L_law_525 : decode code 525 = .ok (.ireturn, 1) := by decide +kernel
end
section
/-! rows of our own over the kit: numbers by Nat, contracts over a whole world, calls and ends -/
def q_b (b : Bool) : Int32 := if b then 1 else 0
theorem q_b_t : q_b true = 1 := rfl
theorem q_b_f : q_b false = 0 := rfl
def q_it {σ : Type} (f : Nat → σ → σ) : Nat → σ → σ
  | 0, s => s
  | k + 1, s => f k (q_it f k s)
theorem q_ii (n : Nat) : nI n + Int32.ofInt 1 = nI (n + 1) := by rw [lit1]; exact nI_1 n
theorem q_im (n : Nat) : nI (n + 1) + Int32.ofInt (-1) = nI n := by
  rw [show Int32.ofInt (-1) = (-1 : Int32) from by decide]; exact pk_m1 n
section WN
variable {p : Program} {l : Launch} {e : Env} {R : Room} {s : State} {m : MethodId} {args : Array Value} {below : List Frame} {meth : Method} {c : Code} {H : Heap} {locs : List Loc} {cells slots : Nat} {Q : State → Prop}
variable {cc : ByteArray} {pc : Nat} {ls : Array Slot} {rest : List Value}
theorem w_top {x y : Value} (h : x = y) (k : W p l e R s m args below meth c H locs cells slots Q (F0 m pc ls (y :: rest))) : W p l e R s m args below meth c H locs cells slots Q (F0 m pc ls (x :: rest)) := by rw [h]; exact k
theorem w_iadd (hx : p.tables.exec = Jvm.exec) (hb : c.code = cc) {a b : Nat} (hdg : decode cc pc = .ok (.iadd, 1)) (k : W p l e R s m args below meth c H locs cells slots Q (F0 m (pc + 1) ls (.int (nI (a + b)) :: rest))) : W p l e R s m args below meth c H locs cells slots Q (F0 m pc ls (.int (nI b) :: .int (nI a) :: rest)) := by
  refine lv_iadd hx hb hdg ?_
  rw [nI_add]; exact k
theorem w_imul (hx : p.tables.exec = Jvm.exec) (hb : c.code = cc) {a b : Nat} (hdg : decode cc pc = .ok (.imul, 1)) (k : W p l e R s m args below meth c H locs cells slots Q (F0 m (pc + 1) ls (.int (nI (a * b)) :: rest))) : W p l e R s m args below meth c H locs cells slots Q (F0 m pc ls (.int (nI b) :: .int (nI a) :: rest)) := by
  refine lv_imul hx hb hdg ?_
  rw [pk_mul]; exact k
theorem w_isub (hx : p.tables.exec = Jvm.exec) (hb : c.code = cc) {a b : Nat} (h : b ≤ a) (hdg : decode cc pc = .ok (.isub, 1)) (k : W p l e R s m args below meth c H locs cells slots Q (F0 m (pc + 1) ls (.int (nI (a - b)) :: rest))) : W p l e R s m args below meth c H locs cells slots Q (F0 m pc ls (.int (nI b) :: .int (nI a) :: rest)) := by
  refine lv_isub hx hb hdg ?_
  rw [pk_sub h]; exact k
theorem w_irem (hx : p.tables.exec = Jvm.exec) (hb : c.code = cc) {a b : Nat} (ha : a < 2 ^ 31) (h0 : 0 < b) (hbb : b < 2 ^ 31) (hdg : decode cc pc = .ok (.irem, 1)) (k : W p l e R s m args below meth c H locs cells slots Q (F0 m (pc + 1) ls (.int (nI (a % b)) :: rest))) : W p l e R s m args below meth c H locs cells slots Q (F0 m pc ls (.int (nI b) :: .int (nI a) :: rest)) := by
  refine lv_irem hx hb hdg (nI_ne0 h0 hbb) ?_
  rw [pk_rem ha h0 hbb]; exact k
/-- branches over Nats -/
theorem w_icge (hx : p.tables.exec = Jvm.exec) (hb : c.code = cc) {a b : Nat} (ha : a < 2 ^ 31) (hbb : b < 2 ^ 31) {off : Int} {tgt : Nat} (hdg : decode cc pc = .ok (.if_icmp .ge off, 3)) (ht : (pc : Int) + off = (tgt : Int))
    (kt : b ≤ a → W p l e R s m args below meth c H locs cells slots Q (F0 m tgt ls rest)) (kf : a < b → W p l e R s m args below meth c H locs cells slots Q (F0 m (pc + 3) ls rest)) : W p l e R s m args below meth c H locs cells slots Q (F0 m pc ls (.int (nI b) :: .int (nI a) :: rest)) :=
  lv_icmp_ge hx hb hdg ht (fun h => kt ((nI_leI hbb ha).mp h)) (fun h => kf (Nat.lt_of_not_le (fun q => h ((nI_leI hbb ha).mpr q))))
theorem w_icgt (hx : p.tables.exec = Jvm.exec) (hb : c.code = cc) {a b : Nat} (ha : a < 2 ^ 31) (hbb : b < 2 ^ 31) {off : Int} {tgt : Nat} (hdg : decode cc pc = .ok (.if_icmp .gt off, 3)) (ht : (pc : Int) + off = (tgt : Int))
    (kt : b < a → W p l e R s m args below meth c H locs cells slots Q (F0 m tgt ls rest)) (kf : a ≤ b → W p l e R s m args below meth c H locs cells slots Q (F0 m (pc + 3) ls rest)) : W p l e R s m args below meth c H locs cells slots Q (F0 m pc ls (.int (nI b) :: .int (nI a) :: rest)) :=
  lv_icmp_gt hx hb hdg ht (fun h => kt ((nI_ltI hbb ha).mp h)) (fun h => kf (Nat.le_of_not_lt (fun q => h ((nI_ltI hbb ha).mpr q))))
theorem w_icne (hx : p.tables.exec = Jvm.exec) (hb : c.code = cc) {a b : Nat} (ha : a < 2 ^ 31) (hbb : b < 2 ^ 31) {off : Int} {tgt : Nat} (hdg : decode cc pc = .ok (.if_icmp .ne off, 3)) (ht : (pc : Int) + off = (tgt : Int))
    (kt : a ≠ b → W p l e R s m args below meth c H locs cells slots Q (F0 m tgt ls rest)) (kf : a = b → W p l e R s m args below meth c H locs cells slots Q (F0 m (pc + 3) ls rest)) : W p l e R s m args below meth c H locs cells slots Q (F0 m pc ls (.int (nI b) :: .int (nI a) :: rest)) :=
  lv_icmp_ne hx hb hdg ht (fun h => kt (fun q => h ((nI_eq ha hbb).mpr q))) (fun h => kf ((nI_eq ha hbb).mp h))
theorem w_iceq (hx : p.tables.exec = Jvm.exec) (hb : c.code = cc) {a b : Nat} (ha : a < 2 ^ 31) (hbb : b < 2 ^ 31) {off : Int} {tgt : Nat} (hdg : decode cc pc = .ok (.if_icmp .eq off, 3)) (ht : (pc : Int) + off = (tgt : Int))
    (kt : a = b → W p l e R s m args below meth c H locs cells slots Q (F0 m tgt ls rest)) (kf : a ≠ b → W p l e R s m args below meth c H locs cells slots Q (F0 m (pc + 3) ls rest)) : W p l e R s m args below meth c H locs cells slots Q (F0 m pc ls (.int (nI b) :: .int (nI a) :: rest)) :=
  lv_icmp_eq hx hb hdg ht (fun h => kt ((nI_eq ha hbb).mp h)) (fun h => kf (fun q => h ((nI_eq ha hbb).mpr q)))
theorem w_ifle (hx : p.tables.exec = Jvm.exec) (hb : c.code = cc) {a : Nat} (ha : a < 2 ^ 31) {off : Int} {tgt : Nat} (hdg : decode cc pc = .ok (.ifCond .le off, 3)) (ht : (pc : Int) + off = (tgt : Int))
    (kt : a = 0 → W p l e R s m args below meth c H locs cells slots Q (F0 m tgt ls rest)) (kf : 0 < a → W p l e R s m args below meth c H locs cells slots Q (F0 m (pc + 3) ls rest)) : W p l e R s m args below meth c H locs cells slots Q (F0 m pc ls (.int (nI a) :: rest)) :=
  lv_if_le hx hb hdg ht (fun h => kt (by rcases Nat.eq_zero_or_pos a with q | q; exact q; exact absurd h (nI_nle q ha))) (fun h => kf (by rcases Nat.eq_zero_or_pos a with q | q; exact absurd (by rw [q]; decide) h; exact q))
theorem w_ifne0 (hx : p.tables.exec = Jvm.exec) (hb : c.code = cc) {a : Nat} (ha : a < 2 ^ 31) {off : Int} {tgt : Nat} (hdg : decode cc pc = .ok (.ifCond .ne off, 3)) (ht : (pc : Int) + off = (tgt : Int))
    (kt : a ≠ 0 → W p l e R s m args below meth c H locs cells slots Q (F0 m tgt ls rest)) (kf : a = 0 → W p l e R s m args below meth c H locs cells slots Q (F0 m (pc + 3) ls rest)) : W p l e R s m args below meth c H locs cells slots Q (F0 m pc ls (.int (nI a) :: rest)) :=
  lv_if_ne hx hb hdg ht (fun h => kt (fun q => h (by rw [q]; rfl))) (fun h => kf (by rcases Nat.eq_zero_or_pos a with q | q; exact q; exact absurd h (nI_ne0 q ha)))
/-- branches on a Bool's number -/
theorem w_ifeqB (hx : p.tables.exec = Jvm.exec) (hb : c.code = cc) {b : Bool} {off : Int} {tgt : Nat} (hdg : decode cc pc = .ok (.ifCond .eq off, 3)) (ht : (pc : Int) + off = (tgt : Int))
    (kt : b = false → W p l e R s m args below meth c H locs cells slots Q (F0 m tgt ls rest)) (kf : b = true → W p l e R s m args below meth c H locs cells slots Q (F0 m (pc + 3) ls rest)) : W p l e R s m args below meth c H locs cells slots Q (F0 m pc ls (.int (q_b b) :: rest)) :=
  lv_if_eq hx hb hdg ht (fun h => kt (by cases b; rfl; exact absurd h (by decide))) (fun h => kf (by cases b; exact absurd rfl h; rfl))
theorem w_ifneB (hx : p.tables.exec = Jvm.exec) (hb : c.code = cc) {b : Bool} {off : Int} {tgt : Nat} (hdg : decode cc pc = .ok (.ifCond .ne off, 3)) (ht : (pc : Int) + off = (tgt : Int))
    (kt : b = true → W p l e R s m args below meth c H locs cells slots Q (F0 m tgt ls rest)) (kf : b = false → W p l e R s m args below meth c H locs cells slots Q (F0 m (pc + 3) ls rest)) : W p l e R s m args below meth c H locs cells slots Q (F0 m pc ls (.int (q_b b) :: rest)) :=
  lv_if_ne hx hb hdg ht (fun h => kt (by cases b; exact absurd rfl h; rfl)) (fun h => kf (by cases b; rfl; exact absurd h (by decide)))
/-- a comparison of longs and the branch behind it -/
theorem w_lceq (hx : p.tables.exec = Jvm.exec) (hb : c.code = cc) {x y : Int64} {off : Int} {tgt : Nat} (hd1 : decode cc pc = .ok (.lcmp, 1)) (hd2 : decode cc (pc + 1) = .ok (.ifCond .eq off, 3)) (ht : ((pc + 1 : Nat) : Int) + off = (tgt : Int))
    (kt : x = y → W p l e R s m args below meth c H locs cells slots Q (F0 m tgt ls rest)) (kf : x ≠ y → W p l e R s m args below meth c H locs cells slots Q (F0 m (pc + 4) ls rest)) : W p l e R s m args below meth c H locs cells slots Q (F0 m pc ls (.long y :: .long x :: rest)) :=
  W.lcmp hx hb hd1 (lv_if_eq hx hb hd2 ht (fun h => kt ((lg_cmp_eq x y).mp h)) (fun h => kf (fun q => h ((lg_cmp_eq x y).mpr q))))
theorem w_lcne (hx : p.tables.exec = Jvm.exec) (hb : c.code = cc) {x y : Int64} {off : Int} {tgt : Nat} (hd1 : decode cc pc = .ok (.lcmp, 1)) (hd2 : decode cc (pc + 1) = .ok (.ifCond .ne off, 3)) (ht : ((pc + 1 : Nat) : Int) + off = (tgt : Int))
    (kt : x ≠ y → W p l e R s m args below meth c H locs cells slots Q (F0 m tgt ls rest)) (kf : x = y → W p l e R s m args below meth c H locs cells slots Q (F0 m (pc + 4) ls rest)) : W p l e R s m args below meth c H locs cells slots Q (F0 m pc ls (.long y :: .long x :: rest)) :=
  W.lcmp hx hb hd1 (lv_if_ne hx hb hd2 ht (fun h => kt (fun q => h ((lg_cmp_eq x y).mpr q))) (fun h => kf ((lg_cmp_eq x y).mp h)))
theorem w_lclt (hx : p.tables.exec = Jvm.exec) (hb : c.code = cc) {x y : Int64} {off : Int} {tgt : Nat} (hd1 : decode cc pc = .ok (.lcmp, 1)) (hd2 : decode cc (pc + 1) = .ok (.ifCond .lt off, 3)) (ht : ((pc + 1 : Nat) : Int) + off = (tgt : Int))
    (kt : x < y → W p l e R s m args below meth c H locs cells slots Q (F0 m tgt ls rest)) (kf : ¬ x < y → W p l e R s m args below meth c H locs cells slots Q (F0 m (pc + 4) ls rest)) : W p l e R s m args below meth c H locs cells slots Q (F0 m pc ls (.long y :: .long x :: rest)) :=
  W.lcmp hx hb hd1 (lv_if_lt hx hb hd2 ht (fun h => kt ((lg_cmp_lt x y).mp h)) (fun h => kf (fun q => h ((lg_cmp_lt x y).mpr q))))
theorem w_lcge (hx : p.tables.exec = Jvm.exec) (hb : c.code = cc) {x y : Int64} {off : Int} {tgt : Nat} (hd1 : decode cc pc = .ok (.lcmp, 1)) (hd2 : decode cc (pc + 1) = .ok (.ifCond .ge off, 3)) (ht : ((pc + 1 : Nat) : Int) + off = (tgt : Int))
    (kt : ¬ x < y → W p l e R s m args below meth c H locs cells slots Q (F0 m tgt ls rest)) (kf : x < y → W p l e R s m args below meth c H locs cells slots Q (F0 m (pc + 4) ls rest)) : W p l e R s m args below meth c H locs cells slots Q (F0 m pc ls (.long y :: .long x :: rest)) :=
  W.lcmp hx hb hd1 (lv_if_ge hx hb hd2 ht (fun h => kt (fun q => lg_lt_not q (by
    have h1 := (lg_cmp_ge x y).mp h
    simp only [Int64.lt_iff_toInt_lt, Int64.le_iff_toInt_le] at *
    omega))) (fun h => kf (by
    have h1 : ¬ y ≤ x := fun q => h ((lg_cmp_ge x y).mpr q)
    simp only [Int64.lt_iff_toInt_lt, Int64.le_iff_toInt_le] at *
    omega)))
theorem w_lcgt (hx : p.tables.exec = Jvm.exec) (hb : c.code = cc) {x y : Int64} {off : Int} {tgt : Nat} (hd1 : decode cc pc = .ok (.lcmp, 1)) (hd2 : decode cc (pc + 1) = .ok (.ifCond .gt off, 3)) (ht : ((pc + 1 : Nat) : Int) + off = (tgt : Int))
    (kt : y < x → W p l e R s m args below meth c H locs cells slots Q (F0 m tgt ls rest)) (kf : ¬ y < x → W p l e R s m args below meth c H locs cells slots Q (F0 m (pc + 4) ls rest)) : W p l e R s m args below meth c H locs cells slots Q (F0 m pc ls (.long y :: .long x :: rest)) :=
  W.lcmp hx hb hd1 (lv_if_gt hx hb hd2 ht (fun h => kt ((lg_cmp_gt x y).mp h)) (fun h => kf (fun q => h ((lg_cmp_gt x y).mpr q))))
end WN
section WA
variable {p : Program} {l : Launch} {e : Env} {R : Room} {s : State} {m : MethodId} {args : Array Value} {below : List Frame} {meth : Method} {c : Code} {H : Heap} {locs : List Loc} {cells slots : Nat} {Q : State → Prop}
variable {cc : ByteArray} {pc : Nat} {ls : Array Slot} {rest : List Value} {D : va_G} {A : Nat → Prop} {a : Nat} {tys : List (ClassId × FieldType)} {ws : va_W} {H0 : Heap}
/-- arrays, by a Nat index -/
theorem w_iald (hx : p.tables.exec = Jvm.exec) (hb : c.code = cc) (hK : va_K D classes tys s) (hP : va_P D classes ws H) (q0 t0 : Nat) {cA : ClassId} {n : Nat} {f : Nat → Int32} (ha : ws[q0]? = some (a, .inl (cA, n, .inl f))) (ht : tys[t0]? = some (cA, .int)) {i : Nat} (hi : i < n) (hn : n < 2 ^ 31) (hdg : decode cc pc = .ok (.iaload, 1))
    (kk : W p l e R s m args below meth c H locs cells slots Q (F0 m (pc + 1) ls (.int (f i) :: rest))) : W p l e R s m args below meth c H locs cells slots Q (F0 m pc ls (.int (nI i) :: .ref a :: rest)) :=
  va_iald hx hb hK hP q0 t0 ha ht (vp_in_nI hi hn) hdg (by rw [nI_clamp (by omega)]; exact kk)
theorem w_zald (hx : p.tables.exec = Jvm.exec) (hb : c.code = cc) (hK : va_K D classes tys s) (hP : va_P D classes ws H) (q0 t0 : Nat) {cA : ClassId} {n : Nat} {f : Nat → Int32} (ha : ws[q0]? = some (a, .inl (cA, n, .inl f))) (ht : tys[t0]? = some (cA, .boolean)) {i : Nat} (hi : i < n) (hn : n < 2 ^ 31) (hdg : decode cc pc = .ok (.baload, 1))
    (kk : W p l e R s m args below meth c H locs cells slots Q (F0 m (pc + 1) ls (.int (f i) :: rest))) : W p l e R s m args below meth c H locs cells slots Q (F0 m pc ls (.int (nI i) :: .ref a :: rest)) :=
  va_zald hx hb hK hP q0 t0 ha ht (vp_in_nI hi hn) hdg (by rw [nI_clamp (by omega)]; exact kk)
theorem w_lald (hx : p.tables.exec = Jvm.exec) (hb : c.code = cc) (hK : va_K D classes tys s) (hP : va_P D classes ws H) (q0 t0 : Nat) {cA : ClassId} {n : Nat} {f : Nat → Int64} (ha : ws[q0]? = some (a, .inl (cA, n, .inr (.inl f)))) (ht : tys[t0]? = some (cA, .long)) {i : Nat} (hi : i < n) (hn : n < 2 ^ 31) (hdg : decode cc pc = .ok (.laload, 1))
    (kk : W p l e R s m args below meth c H locs cells slots Q (F0 m (pc + 1) ls (.long (f i) :: rest))) : W p l e R s m args below meth c H locs cells slots Q (F0 m pc ls (.int (nI i) :: .ref a :: rest)) :=
  va_lald hx hb hK hP q0 t0 ha ht (vp_in_nI hi hn) hdg (by rw [nI_clamp (by omega)]; exact kk)
theorem w_aald (hx : p.tables.exec = Jvm.exec) (hb : c.code = cc) (hK : va_K D classes tys s) (hP : va_P D classes ws H) (q0 t0 : Nat) {cA : ClassId} {C : String} {n : Nat} {f : Nat → Nat} (ha : ws[q0]? = some (a, .inl (cA, n, .inr (.inr (.inr (.inr (fun j => some (f j)))))))) (ht : tys[t0]? = some (cA, .object C)) {i : Nat} (hi : i < n) (hn : n < 2 ^ 31) (hdg : decode cc pc = .ok (.aaload, 1))
    (kk : W p l e R s m args below meth c H locs cells slots Q (F0 m (pc + 1) ls (.ref (f i) :: rest))) : W p l e R s m args below meth c H locs cells slots Q (F0 m pc ls (.int (nI i) :: .ref a :: rest)) :=
  va_aldq hx hb hK hP q0 t0 ha ht (vp_in_nI hi hn) hdg (by rw [nI_clamp (by omega)]; exact kk)
theorem w_iast (hx : p.tables.exec = Jvm.exec) (hb : c.code = cc) (hK : va_K D classes tys s) (hP : va_P D classes ws H) (hD : va_D A ws) (hS : va_S A H0 H locs) (q0 t0 : Nat) {cA : ClassId} {n : Nat} {f : Nat → Int32} (ha : ws[q0]? = some (a, .inl (cA, n, .inl f))) (ht : tys[t0]? = some (cA, .int)) {i : Nat} {x : Int32} (hi : i < n) (hn : n < 2 ^ 31) (hdg : decode cc pc = .ok (.iastore, 1))
    (kk : ∀ (H1 : Heap) (locs1 : List Loc), va_P D classes (ws.set q0 (a, .inl (cA, n, .inl (upd f i x)))) H1 → va_D A (ws.set q0 (a, .inl (cA, n, .inl (upd f i x)))) → va_S A H0 H1 locs1 → W p l e R s m args below meth c H1 locs1 cells slots Q (F0 m (pc + 1) ls rest)) : W p l e R s m args below meth c H locs cells slots Q (F0 m pc ls (.int x :: .int (nI i) :: .ref a :: rest)) :=
  va_iast hx hb hK hP hD hS q0 t0 ha ht (vp_in_nI hi hn) hdg (by rw [nI_clamp (by omega)]; exact kk)
theorem w_zast (hx : p.tables.exec = Jvm.exec) (hb : c.code = cc) (hK : va_K D classes tys s) (hP : va_P D classes ws H) (hD : va_D A ws) (hS : va_S A H0 H locs) (q0 t0 : Nat) {cA : ClassId} {n : Nat} {f : Nat → Int32} (ha : ws[q0]? = some (a, .inl (cA, n, .inl f))) (ht : tys[t0]? = some (cA, .boolean)) {i : Nat} {b : Bool} (hi : i < n) (hn : n < 2 ^ 31) (hdg : decode cc pc = .ok (.bastore, 1))
    (kk : ∀ (H1 : Heap) (locs1 : List Loc), va_P D classes (ws.set q0 (a, .inl (cA, n, .inl (upd f i (q_b b))))) H1 → va_D A (ws.set q0 (a, .inl (cA, n, .inl (upd f i (q_b b))))) → va_S A H0 H1 locs1 → W p l e R s m args below meth c H1 locs1 cells slots Q (F0 m (pc + 1) ls rest)) : W p l e R s m args below meth c H locs cells slots Q (F0 m pc ls (.int (q_b b) :: .int (nI i) :: .ref a :: rest)) :=
  va_zast hx hb hK hP hD hS q0 t0 ha ht (vp_in_nI hi hn) hdg (by rw [nI_clamp (by omega), show vp_nar .boolean (q_b b) = q_b b by cases b <;> rfl]; exact kk)
theorem w_last (hx : p.tables.exec = Jvm.exec) (hb : c.code = cc) (hK : va_K D classes tys s) (hP : va_P D classes ws H) (hD : va_D A ws) (hS : va_S A H0 H locs) (q0 t0 : Nat) {cA : ClassId} {n : Nat} {f : Nat → Int64} (ha : ws[q0]? = some (a, .inl (cA, n, .inr (.inl f)))) (ht : tys[t0]? = some (cA, .long)) {i : Nat} {x : Int64} (hi : i < n) (hn : n < 2 ^ 31) (hdg : decode cc pc = .ok (.lastore, 1))
    (kk : ∀ (H1 : Heap) (locs1 : List Loc), va_P D classes (ws.set q0 (a, .inl (cA, n, .inr (.inl (vp_updL f i x))))) H1 → va_D A (ws.set q0 (a, .inl (cA, n, .inr (.inl (vp_updL f i x))))) → va_S A H0 H1 locs1 → W p l e R s m args below meth c H1 locs1 cells slots Q (F0 m (pc + 1) ls rest)) : W p l e R s m args below meth c H locs cells slots Q (F0 m pc ls (.long x :: .int (nI i) :: .ref a :: rest)) :=
  va_last hx hb hK hP hD hS q0 t0 ha ht (vp_in_nI hi hn) hdg (by rw [nI_clamp (by omega)]; exact kk)
end WA
end
section
/-! fields of our four classes, by a link of the tables -/
section WF
variable {p : Program} {l : Launch} {e : Env} {R : Room} {s : State} {m : MethodId} {args : Array Value} {below : List Frame} {meth : Method} {c : Code} {H : Heap} {locs : List Loc} {cells slots : Nat} {Q : State → Prop}
variable {cc : ByteArray} {pc : Nat} {ls : Array Slot} {rest : List Value} {D : va_G} {A : Nat → Prop} {a : Nat} {tys : List (ClassId × FieldType)} {ws : va_W} {H0 : Heap}
theorem w_get {own C : String} {T : u_T} {N ci index : Nat} (hin : ∀ w ∈ u_ws C T N, w ∈ lw_g) (hx : p.tables.exec = Jvm.exec) (hb : c.code = cc) (hT : ∀ w ∈ lw_g, w.before args s = true) (hown : s.vm.findClass own = some m.cls) (hK : va_K D classes tys s) (hP : va_P D classes ws H) (q0 : Nat) {fs : List Value} (he : ws[q0]? = some (a, .inr (ci, fs))) (hc : classes[ci]? = some (C, T, N)) (k : Nat) (hk : k < N) (hlink : Cond.fieldLink own index (T k).1 (T k).2.1 (T k).2.2.1 ∈ lw_g) {v : Value} (hv : fs[k]? = some v) (hdg : decode cc pc = .ok (.getfield index, 3))
    (kk : W p l e R s m args below meth c H locs cells slots Q (F0 m (pc + 3) ls (v :: rest))) : W p l e R s m args below meth c H locs cells slots Q (F0 m pc ls (.ref a :: rest)) :=
  va_get hx hb hT hin hown hK hP q0 he hc k hk (hT _ hlink) (fun _ h => h) hv hdg kk
theorem w_put {own C : String} {T : u_T} {N ci index : Nat} (hin : ∀ w ∈ u_ws C T N, w ∈ lw_g) (ty0 : Nat → FieldType) (hty : ∀ k, k < N → parseFieldDescriptor (T k).2.2.1 = some (ty0 k)) (hnm : ∀ a, a < N → ∀ b, b < N → a ≠ b → (T a).2.1 ≠ (T b).2.1) (hx : p.tables.exec = Jvm.exec) (hb : c.code = cc) (hT : ∀ w ∈ lw_g, w.before args s = true) (hown : s.vm.findClass own = some m.cls) (hK : va_K D classes tys s) (hP : va_P D classes ws H) (hD : va_D A ws) (hS : va_S A H0 H locs) (q0 : Nat) {fs : List Value} (he : ws[q0]? = some (a, .inr (ci, fs))) (hc : classes[ci]? = some (C, T, N)) (k : Nat) (hk : k < N) (hlink : Cond.fieldLink own index (T k).1 (T k).2.1 (T k).2.2.1 ∈ lw_g) (hfin : (T k).2.2.2 = false) {v : Value} (hn : narrow (ty0 k) v = v) (hfit : fits (ty0 k) v = true) (hl : k < fs.length)
    (hdg : decode cc pc = .ok (.putfield index, 3)) (kk : ∀ (H1 : Heap) (locs1 : List Loc), va_P D classes (ws.set q0 (a, .inr (ci, fs.set k v))) H1 → va_D A (ws.set q0 (a, .inr (ci, fs.set k v))) → va_S A H0 H1 locs1 → W p l e R s m args below meth c H1 locs1 cells slots Q (F0 m (pc + 3) ls rest)) : W p l e R s m args below meth c H locs cells slots Q (F0 m pc ls (v :: .ref a :: rest)) :=
  va_put hx hb hT hin ty0 hty hnm hown hK hP hD hS q0 he hc k hk (hT _ hlink) (fun _ h => h) hfin (hty k hk) hn hfit hl hdg kk
theorem w_putF {own C : String} {T : u_T} {N ci index : Nat} (hin : ∀ w ∈ u_ws C T N, w ∈ lw_g) (ty0 : Nat → FieldType) (hty : ∀ k, k < N → parseFieldDescriptor (T k).2.2.1 = some (ty0 k)) (hnm : ∀ a, a < N → ∀ b, b < N → a ≠ b → (T a).2.1 ≠ (T b).2.1) (hx : p.tables.exec = Jvm.exec) (hb : c.code = cc) (hT : ∀ w ∈ lw_g, w.before args s = true) (hown : s.vm.findClass own = some m.cls) (hK : va_K D classes tys s) (hP : va_P D classes ws H) (hD : va_D A ws) (hS : va_S A H0 H locs) (q0 : Nat) {fs : List Value} (he : ws[q0]? = some (a, .inr (ci, fs))) (hc : classes[ci]? = some (C, T, N)) (k : Nat) (hk : k < N) (hlink : Cond.fieldLink own index (T k).1 (T k).2.1 (T k).2.2.1 ∈ lw_g) (hfin : (T k).2.2.2 = true) (hin2 : meth.name = "<init>") (hdecl : (T k).1 = own) {v : Value} (hn : narrow (ty0 k) v = v) (hfit : fits (ty0 k) v = true) (hl : k < fs.length)
    (hdg : decode cc pc = .ok (.putfield index, 3)) (kk : ∀ (H1 : Heap) (locs1 : List Loc), va_P D classes (ws.set q0 (a, .inr (ci, fs.set k v))) H1 → va_D A (ws.set q0 (a, .inr (ci, fs.set k v))) → va_S A H0 H1 locs1 → W p l e R s m args below meth c H1 locs1 cells slots Q (F0 m (pc + 3) ls rest)) : W p l e R s m args below meth c H locs cells slots Q (F0 m pc ls (v :: .ref a :: rest)) :=
  va_putF hx hb hT hin ty0 hty hnm hown hK hP hD hS q0 he hc k hk (hT _ hlink) (fun _ h => h) hfin hin2 hdecl (hty k hk) hn hfit hl hdg kk
end WF
/-! contracts over a world -/
def q_rm (f n : Nat) : Room := { frames := f, cells := 0, slots := 0, locals := n }
def q_pre (D : va_G) (w0 : va_W) (tys : List (ClassId × FieldType)) (sz : Nat) (U : State) : Prop := U.heap.size = sz ∧ va_P D classes w0 U.heap ∧ va_K D classes tys U ∧ va_D (fun _ => True) w0
def q_end (D : va_G) (tys : List (ClassId × FieldType)) (w1 : va_W) (v : Option Value) (A : Nat → Prop) : Array Value → State → Outcome → State → Prop := fun _ st oc t => (oc = .returned v ∧ va_P D classes w1 t.heap ∧ va_K D classes tys t ∧ va_D A w1) ∧ va_F A st t
/-- the method answers v, and turns the world w0 to w1 -/
def Ct (l : Launch) (y : MethodName) (b : ByteArray) (n : Nat) (r : Option FieldType) (f lo : Nat) (D : va_G) (tys : List (ClassId × FieldType)) (av : List Value) (w0 w1 : va_W) (v : Option Value) : Prop :=
  ∀ sz, Met l y (wd_ y b n r) (q_rm f lo) (va_Pc av (q_pre D w0 tys sz)) (q_end D tys w1 v (va_A w0 sz)) 0 0 (va_A w0 sz)
/-- a static method without a world: its answer -/
def Cs (l : Launch) (y : MethodName) (b : ByteArray) (n : Nat) (r : Option FieldType) (f lo : Nat) (av : List Value) (v : Value) : Prop :=
  Met l y (wd_ y b n r) (q_rm f lo) (fun a _ => a = av.toArray) (k2_QcV v) 0 0 (fun _ => False)
/-- what a method's body may lean on -/
def q_Ev (p : Program) (m : MethodId) (meth : Method) (c : Code) (s : State) (args : Array Value) (b : ByteArray) (n : Nat) (r : Option FieldType) (own : String) : Prop :=
  p.tables.exec = Jvm.exec ∧ c.code = b ∧ c.maxLocals = n ∧ meth.sig.returnType = r ∧ meth.locks = false ∧ s.vm.findClass own = some m.cls ∧ (∀ w ∈ lw_g, w.before args s = true)
theorem q_blind {D : va_G} {w0 : va_W} {tys : List (ClassId × FieldType)} {sz : Nat} {av : List Value} : FrameBlind (va_Pc av (q_pre D w0 tys sz)) := fun a U g mk q => by
  obtain ⟨q0, q1, qP, qK, qD⟩ := q
  exact ⟨q0, q1, qP, va_K.moved (u := U) (U := U.calling g mk a) (Vm.Alike.refl U.vm) qK, qD⟩
/-- what holds where the method returns: the world w1, and then the end Q -/
def q_Rt (p : Program) (l : Launch) (e : Env) (R : Room) (s : State) (m : MethodId) (args : Array Value) (below : List Frame) (meth : Method) (c : Code) (Q : State → Prop) (A : Nat → Prop) (D : va_G) (b : ByteArray) (ins : Instr) (w1 : va_W) (st : List Value) : Prop :=
  ∀ (pc : Nat) (ls : Array Slot) (H : Heap) (locs : List Loc), decode b pc = .ok (ins, 1) → va_P D classes w1 H → va_D A w1 → va_S A s.heap H locs → W p l e R s m args below meth c H locs 0 0 Q (F0 m pc ls st)
theorem q_enter {l : Launch} {y : MethodName} {b : ByteArray} {n : Nat} {r : Option FieldType} {f lo : Nat} {D : va_G} {tys : List (ClassId × FieldType)} {av : List Value} {w0 w1 : va_W} {v : Option Value} (lv : List (Nat × Value)) (own : String) (ins : Instr) (st : List Value) (hy : plainName y.cls = true) (hyo : y.cls = own) (hav : (lg_sl av).length ≤ n) (hlv : lv_args 0 av = lv)
    (hins : (r = some .int ∧ ins = .ireturn ∧ ∃ x, v = some (.int x) ∧ st = [.int x]) ∨ (r = some .boolean ∧ ins = .ireturn ∧ ∃ x, v = some (.int (q_b x)) ∧ st = [.int (q_b x)]) ∨ (r = some .long ∧ ins = .lreturn ∧ ∃ x, v = some (.long x) ∧ st = [.long x]) ∨ (r = none ∧ ins = .return_ ∧ v = none ∧ st = []))
    (body : ∀ (p : Program) (e : Env) (s : State) (m : MethodId) (args : Array Value) (below : List Frame) (meth : Method) (c : Code) (A : Nat → Prop) (ls : Array Slot) (Q : State → Prop), q_Ev p m meth c s args b n r own → va_K D classes tys s → va_P D classes w0 s.heap → va_D A w0 → va_S A s.heap s.heap [] → (∀ q, s.heap.size ≤ q → A q) → lv_has ls n lv →
      q_Rt p l e (q_rm f lo) s m args below meth c Q A D b ins w1 st → W p l e (q_rm f lo) s m args below meth c s.heap [] 0 0 Q (F0 m 0 ls [])) : Ct l y b n r f lo D tys av w0 w1 v := by
  intro sz
  refine Met.ofW (cc := b) (maxL := n) (ret := r) hy rfl ?_
  intro p e s m args below meth c s₁ B hml hv
  obtain ⟨rfl, hsz, hP, hK, hD0⟩ := hv
  subst hsz
  have hl := lv_entry av (n := n) hav
  rw [lg_entry_eq]
  rw [hlv] at hl
  have hts := atoms_spec (ws := wd_ y b n r) B.pre
  have hlk := B.notSynchronized
  have hr := B.returns
  refine body p e s m av.toArray below meth c (va_A w0 s.heap.size) _ _ ⟨B.exec, B.bytes, hml, B.returns, hlk, by rw [← hyo]; exact findClass_of_methodNamed B.named, fun w hw => hts w (List.mem_cons_of_mem _ hw)⟩ hK hP hD0.self va_S.rf (fun q h => Or.inr h) hl ?_
  intro pc ls H locs hdg hP1 hD1 hS1
  have hq : ∀ t : State, t.heap = H → s.WarmedH t.vm → q_end D tys w1 v (va_A w0 s.heap.size) av.toArray s (.returned v) t := fun t ht hW => ⟨⟨rfl, by rw [ht]; exact hP1, va_K.moved hW.alike hK, hD1⟩, hS1.F ht⟩
  rcases hins with ⟨h1, h2, x, h3, h4⟩ | ⟨h1, h2, x, h3, h4⟩ | ⟨h1, h2, x, h3, h4⟩ | ⟨h1, h2, h3, h4⟩
  · subst h1 h2 h3 h4
    exact W.iret B.exec B.bytes hr hq hS1.2.2 hdg hlk
  · subst h1 h2 h3 h4
    exact W.zret B.exec B.bytes hr (by cases x <;> rfl) hq hS1.2.2 hdg hlk
  · subst h1 h2 h3 h4
    exact W.lret B.exec B.bytes hr hq hS1.2.2 hdg hlk
  · subst h1 h2 h3 h4
    exact W.vret B.exec B.bytes hr hq hS1.2.2 hdg hlk
/-- the same for a static method without a world -/
def q_Rs (p : Program) (l : Launch) (e : Env) (R : Room) (s : State) (m : MethodId) (args : Array Value) (below : List Frame) (meth : Method) (c : Code) (Q : State → Prop) (b : ByteArray) (ins : Instr) (st : List Value) : Prop :=
  ∀ (pc : Nat) (ls : Array Slot), decode b pc = .ok (ins, 1) → W p l e R s m args below meth c s.heap [] 0 0 Q (F0 m pc ls st)
theorem q_enterS {l : Launch} {y : MethodName} {b : ByteArray} {n : Nat} {r : Option FieldType} {f lo : Nat} {av : List Value} {v : Value} (lv : List (Nat × Value)) (own : String) (ins : Instr) (hy : plainName y.cls = true) (hyo : y.cls = own) (hav : (lg_sl av).length ≤ n) (hlv : lv_args 0 av = lv)
    (hins : (r = some .int ∧ ins = .ireturn ∧ ∃ x, v = .int x) ∨ (r = some .boolean ∧ ins = .ireturn ∧ ∃ x, v = .int (q_b x)) ∨ (r = some .long ∧ ins = .lreturn ∧ ∃ x, v = .long x))
    (body : ∀ (p : Program) (e : Env) (s : State) (m : MethodId) (args : Array Value) (below : List Frame) (meth : Method) (c : Code) (ls : Array Slot) (Q : State → Prop), q_Ev p m meth c s args b n r own → lv_has ls n lv →
      q_Rs p l e (q_rm f lo) s m args below meth c Q b ins [v] → W p l e (q_rm f lo) s m args below meth c s.heap [] 0 0 Q (F0 m 0 ls [])) : Cs l y b n r f lo av v := by
  refine Met.ofW (cc := b) (maxL := n) (ret := r) hy rfl ?_
  intro p e s m args below meth c s₁ B hml hv
  subst hv
  have hl := lv_entry av (n := n) hav
  rw [lg_entry_eq]
  rw [hlv] at hl
  have hts := atoms_spec (ws := wd_ y b n r) B.pre
  have hlk := B.notSynchronized
  have hr := B.returns
  refine body p e s m av.toArray below meth c _ _ ⟨B.exec, B.bytes, hml, B.returns, hlk, by rw [← hyo]; exact findClass_of_methodNamed B.named, fun w hw => hts w (List.mem_cons_of_mem _ hw)⟩ hl ?_
  intro pc ls hdg
  have hq : ∀ t : State, t.heap = s.heap → s.WarmedH t.vm → k2_QcV v av.toArray s (.returned (some v)) t := fun t ht _ => ⟨rfl, ht⟩
  have hf : ∀ q ∈ ([] : List Loc), (fun _ : Addr => False) q.base := fun q h => by cases h
  rcases hins with ⟨h1, h2, x, h3⟩ | ⟨h1, h2, x, h3⟩ | ⟨h1, h2, x, h3⟩
  · subst h1 h2 h3
    exact W.iret B.exec B.bytes hr hq hf hdg hlk
  · subst h1 h2 h3
    exact W.zret B.exec B.bytes hr (by cases x <;> rfl) hq hf hdg hlk
  · subst h1 h2 h3
    exact W.lret B.exec B.bytes hr hq hf hdg hlk
section WC
variable {p : Program} {l : Launch} {e : Env} {R : Room} {s : State} {m : MethodId} {args : Array Value} {below : List Frame} {meth : Method} {c : Code} {H : Heap} {locs : List Loc} {cells slots : Nat} {Q : State → Prop}
variable {cc : ByteArray} {pc : Nat} {ls : Array Slot} {rest st0 As : List Value} {D : va_G} {A : Nat → Prop} {a : Nat} {tys : List (ClassId × FieldType)} {ws w0 w1 l1 l2 : va_W} {H0 : Heap}
variable {y : MethodName} {b : ByteArray} {n : Nat} {r : Option FieldType} {f lo na idx nL : Nat} {own : String} {v : Option Value} {o : Nat}
/-- calls: what they need of the tables -/
theorem w_cwS (hT : ∀ w ∈ lw_g, w.before args s = true) (hm : q_SM y b n r na) (hl : Cond.methodLink own idx y ∈ lw_g) (hR : f + 1 ≤ R.frames ∧ 8 + (n + 11) + lo ≤ R.locals) :
    CallB R s args own idx y b n r (wd_ y b n r) (q_rm f lo) 0 0 na ∧ (Cond.static y).before args s = true :=
  ⟨callB_of na hT (wd_good hm.1) rfl rfl rfl (hT _ hm.2.1) (hT _ hl) hm.2.2.2 hR, hT _ hm.2.2.1⟩
theorem w_cwV (hT : ∀ w ∈ lw_g, w.before args s = true) (hm : q_VM y b n r na) (hl : Cond.methodLink own idx y ∈ lw_g) (hR : f + 1 ≤ R.frames ∧ 8 + (n + 11) + lo ≤ R.locals) :
    CallW R s args own y.cls idx y b n r (wd_ y b n r) (q_rm f lo) 0 0 na :=
  ⟨callB_of na hT (wd_good hm.1) rfl rfl rfl (hT _ hm.2.1) (hT _ hl) hm.2.2.2 hR, hT _ hm.2.2.1.1, hT _ hm.2.2.1.2⟩
theorem w_callS {v : Value} (S : CallFix p m c cc nL s args lw_g own) (hM : Cs l y b n r f lo As v) (cw : CallB R s args own idx y b n r (wd_ y b n r) (q_rm f lo) 0 0 na ∧ (Cond.static y).before args s = true) (hst : st0 = As.reverse ++ rest) (hn : As.length = na) (hsz : ls.size = nL) (hW : (rest.map fun v => v.category).sum ≤ 8) (hdg : decode cc pc = .ok (.invokestatic idx, 3)) (hf : cells ≤ R.cells ∧ slots ≤ R.slots)
    (kk : W p l e R s m args below meth c H locs cells slots Q (F0 m (pc + 3) ls (v :: rest))) : W p l e R s m args below meth c H locs cells slots Q (F0 m pc ls st0) :=
  W.callV (W.runS (g := F0 m pc ls st0) S hM cw preEq rfl hn hsz hst (lv_room hW) hdg hf) kk
/-- the frame rule: the parts beside the callee's world stay -/
theorem w_frame {H1 : Heap} (hP : va_P D classes (l1 ++ w0 ++ l2) H) (hD : va_D A (l1 ++ w0 ++ l2)) (hF : ∀ q, va_A w0 H.size q → A q) (hk : ∀ q : Nat, q < H.size → ¬ va_A w0 H.size q → H1[q]? = H[q]?) (hP1 : va_P D classes w1 H1) (hD1 : va_D (va_A w0 H.size) w1) : va_P D classes (l1 ++ w1 ++ l2) H1 ∧ va_D A (l1 ++ w1 ++ l2) := by
  have e1 : ∀ (i : Nat) (q : Nat × va_E), l1[i]? = some q → (l1 ++ w0 ++ l2)[i]? = some q := fun i q h => by
    have hl := (List.getElem?_eq_some_iff.mp h).1
    rw [List.append_assoc, List.getElem?_append_left hl]; exact h
  have e0 : ∀ (i : Nat) (q : Nat × va_E), w0[i]? = some q → (l1 ++ w0 ++ l2)[l1.length + i]? = some q := fun i q h => by
    have hl := (List.getElem?_eq_some_iff.mp h).1
    rw [List.append_assoc, List.getElem?_append_right (by omega), Nat.add_sub_cancel_left, List.getElem?_append_left hl]; exact h
  have e2 : ∀ (i : Nat) (q : Nat × va_E), l2[i]? = some q → (l1 ++ w0 ++ l2)[l1.length + w0.length + i]? = some q := fun i q h => by
    rw [List.getElem?_append_right (by rw [List.length_append]; omega), List.length_append, Nat.add_sub_cancel_left]; exact h
  have out1 : ∀ (i : Nat) (q : Nat × va_E), l1[i]? = some q → q.1 < H.size ∧ ¬ va_A w0 H.size q.1 := fun i q h => by
    have hl := (hP i q (e1 i q h)).lt
    refine ⟨hl, fun z => ?_⟩
    rcases z with ⟨k, e, z⟩ | z
    · have hi := (List.getElem?_eq_some_iff.mp h).1
      have := hD.1 i (l1.length + k) q (q.1, e) (e1 i q h) (e0 k _ z) rfl
      omega
    · omega
  have out2 : ∀ (i : Nat) (q : Nat × va_E), l2[i]? = some q → q.1 < H.size ∧ ¬ va_A w0 H.size q.1 := fun i q h => by
    have hl := (hP _ q (e2 i q h)).lt
    refine ⟨hl, fun z => ?_⟩
    rcases z with ⟨k, e, z⟩ | z
    · have hi := (List.getElem?_eq_some_iff.mp z).1
      have := hD.1 (l1.length + w0.length + i) (l1.length + k) q (q.1, e) (e2 i q h) (e0 k _ z) rfl
      omega
    · omega
  have P1 : va_P D classes l1 H1 := fun i q h => (hP i q (e1 i q h)).kept (hk q.1 (out1 i q h).1 (out1 i q h).2)
  have P2 : va_P D classes l2 H1 := fun i q h => (hP _ q (e2 i q h)).kept (hk q.1 (out2 i q h).1 (out2 i q h).2)
  have D1 : va_D A l1 := ⟨fun i j x y hi hj hxy => hD.1 i j x y (e1 i x hi) (e1 j y hj) hxy, fun k q hq => hD.2 k q (e1 k q hq)⟩
  have D2 : va_D A l2 := ⟨fun i j x y hi hj hxy => by
    have := hD.1 _ _ x y (e2 i x hi) (e2 j y hj) hxy
    omega, fun k q hq => hD.2 _ q (e2 k q hq)⟩
  have D0 : va_D A w1 := hD1.weaken (fun k q _ h => hF q.1 h)
  refine ⟨(P1.app hP1).app P2, (D1.app D0 (fun i j x y hx hy hxy => (out1 i x hx).2 (by rw [hxy]; exact hD1.2 j y hy))).app D2 (fun i j x y hx hy hxy => ?_)⟩
  rcases List.mem_append.mp (List.mem_of_getElem? hx) with h | h
  · obtain ⟨k, hk2⟩ := List.getElem?_of_mem h
    have h1 := (List.getElem?_eq_some_iff.mp hk2).1
    have := hD.1 k (l1.length + w0.length + j) x y (e1 k x hk2) (e2 j y hy) hxy
    omega
  · obtain ⟨k, hk2⟩ := List.getElem?_of_mem h
    exact (out2 j y hy).2 (by rw [← hxy]; exact hD1.2 k x hk2)
theorem w_free (hD : va_D A (l1 ++ w0 ++ l2)) (hS : va_S A H0 H locs) (hA : ∀ q, H0.size ≤ q → A q) : ∀ q, va_A w0 H.size q → A q := by
  intro q h
  rcases h with ⟨k, e, h⟩ | h
  · have hl := (List.getElem?_eq_some_iff.mp h).1
    have h2 : (l1 ++ w0 ++ l2)[l1.length + k]? = some (q, e) := by
      rw [List.append_assoc, List.getElem?_append_right (by omega), Nat.add_sub_cancel_left, List.getElem?_append_left hl]; exact h
    exact hD.2 _ _ h2
  · exact hA q (Nat.le_trans hS.1 h)
/-- behind a call, whichever its kind -/
theorem w_callG (hr : va_Run p l e R s m args below meth c H locs cells slots 0 0 (F0 m pc ls st0) rest (q_end D tys w1 v (va_A w0 H.size) (As.toArray)) (va_A w0 H.size)) (hP : va_P D classes (l1 ++ w0 ++ l2) H) (hD : va_D A (l1 ++ w0 ++ l2)) (hS : va_S A H0 H locs) (hA : ∀ q, H0.size ≤ q → A q)
    (kk : ∀ (H1 : Heap) (locs1 : List Loc), va_P D classes (l1 ++ w1 ++ l2) H1 → va_D A (l1 ++ w1 ++ l2) → va_S A H0 H1 locs1 → W p l e R s m args below meth c H1 locs1 cells slots Q (F0 m (pc + 3) ls (v.toList ++ rest))) : W p l e R s m args below meth c H locs cells slots Q (F0 m pc ls st0) := by
  intro T hT X
  have hF := w_free hD hS hA
  obtain ⟨v', st₀, t, T', L, h0, X', hL, e1, e2, ⟨⟨hv, hp, -, hd⟩, hz, hk⟩, st⟩ := hr T hT X
  cases hv
  rw [h0] at hz hk
  rw [← e1] at hz hk hp
  obtain ⟨hP', hD'⟩ := w_frame hP hD hF hk hp hd
  obtain ⟨t2, a1, b1⟩ := kk T'.heap (locs ++ L) hP' hD'
    ⟨Nat.le_trans hS.1 hz, fun q h1 h2 => by rw [hk q (Nat.lt_of_lt_of_le h1 hS.1) (fun z => h2 (hF q z))]; exact hS.2.1 q h1 h2, fun q hq => by
      rcases List.mem_append.mp hq with h | h
      · exact hS.2.2 q h
      · exact hF _ (hL q h)⟩ T' rfl X'
  exact ⟨t2, st t2 a1, b1⟩
theorem w_callVF (S : CallFix p m c cc nL s args lw_g own) (hM : Ct l y b n r f lo D tys (.ref o :: As) w0 w1 v) (cw : CallW R s args own y.cls idx y b n r (wd_ y b n r) (q_rm f lo) 0 0 na) (hK : va_K D classes tys s) (hP : va_P D classes (l1 ++ w0 ++ l2) H) (hD : va_D A (l1 ++ w0 ++ l2)) (hS : va_S A H0 H locs) (hA : ∀ q, H0.size ≤ q → A q)
    (q0 ci : Nat) {fs : List Value} {qc : vw_C} (he : w0[q0]? = some (o, .inr (ci, fs))) (hc : classes[ci]? = some qc) (hC : qc.1 = y.cls) (hst : st0 = As.reverse ++ .ref o :: rest) (hn : As.length = na) (hsz : ls.size = nL) (hW : (rest.map fun v => v.category).sum ≤ 8) (hdg : decode cc pc = .ok (.invokevirtual idx, 3)) (hf : cells ≤ R.cells ∧ slots ≤ R.slots)
    (kk : ∀ (H1 : Heap) (locs1 : List Loc), va_P D classes (l1 ++ w1 ++ l2) H1 → va_D A (l1 ++ w1 ++ l2) → va_S A H0 H1 locs1 → W p l e R s m args below meth c H1 locs1 cells slots Q (F0 m (pc + 3) ls (v.toList ++ rest))) : W p l e R s m args below meth c H locs cells slots Q (F0 m pc ls st0) := by
  have hPc : va_P D classes w0 H := fun i q h => by
    have hl := (List.getElem?_eq_some_iff.mp h).1
    exact hP (l1.length + i) q (by rw [List.append_assoc, List.getElem?_append_right (by omega), Nat.add_sub_cancel_left, List.getElem?_append_left hl]; exact h)
  have hDc : va_D (fun _ => True) w0 := by
    refine ⟨fun i j x z hi hj hxz => ?_, fun _ _ _ => trivial⟩
    have e0 : ∀ (i : Nat) (q : Nat × va_E), w0[i]? = some q → (l1 ++ w0 ++ l2)[l1.length + i]? = some q := fun i q h => by
      have hl := (List.getElem?_eq_some_iff.mp h).1
      rw [List.append_assoc, List.getElem?_append_right (by omega), Nat.add_sub_cancel_left, List.getElem?_append_left hl]; exact h
    have := hD.1 _ _ x z (e0 i x hi) (e0 j z hj) hxz
    omega
  have hrecv := va_recv hK hPc hc he
  rw [hC] at hrecv
  refine w_callG (As := .ref o :: As) (va_runV (g := F0 m pc ls st0) S (hM H.size) cw ⟨q_blind, hrecv, fun U hU hW => ⟨rfl, by rw [hU], by rw [hU]; exact hPc, va_K.moved hW.alike hK, hDc⟩⟩ rfl hn hsz hst (lv_room hW) hdg hf) hP hD hS hA kk
/-- a call inside a module: the whole world is the callee's -/
theorem w_callV {x : Value} (S : CallFix p m c cc nL s args lw_g own) (hM : Ct l y b n r f lo D tys (.ref o :: As) w0 w1 (some x)) (cw : CallW R s args own y.cls idx y b n r (wd_ y b n r) (q_rm f lo) 0 0 na) (hK : va_K D classes tys s) (hP : va_P D classes w0 H) (hD : va_D A w0) (hS : va_S A H0 H locs) (hA : ∀ q, H0.size ≤ q → A q)
    (q0 ci : Nat) {fs : List Value} {qc : vw_C} (he : w0[q0]? = some (o, .inr (ci, fs))) (hc : classes[ci]? = some qc) (hC : qc.1 = y.cls) (hst : st0 = As.reverse ++ .ref o :: rest) (hn : As.length = na) (hsz : ls.size = nL) (hW : (rest.map fun v => v.category).sum ≤ 8) (hdg : decode cc pc = .ok (.invokevirtual idx, 3)) (hf : cells ≤ R.cells ∧ slots ≤ R.slots)
    (kk : ∀ (H1 : Heap) (locs1 : List Loc), va_P D classes w1 H1 → va_D A w1 → va_S A H0 H1 locs1 → W p l e R s m args below meth c H1 locs1 cells slots Q (F0 m (pc + 3) ls (x :: rest))) : W p l e R s m args below meth c H locs cells slots Q (F0 m pc ls st0) :=
  w_callVF (l1 := []) (l2 := []) S hM cw hK (by rw [List.nil_append, List.append_nil]; exact hP) (by rw [List.nil_append, List.append_nil]; exact hD) hS hA q0 ci he hc hC hst hn hsz hW hdg hf (by rw [List.nil_append, List.append_nil]; exact kk)
theorem w_callN (S : CallFix p m c cc nL s args lw_g own) (hM : Ct l y b n r f lo D tys (.ref o :: As) w0 w1 none) (cw : CallW R s args own y.cls idx y b n r (wd_ y b n r) (q_rm f lo) 0 0 na) (hK : va_K D classes tys s) (hP : va_P D classes w0 H) (hD : va_D A w0) (hS : va_S A H0 H locs) (hA : ∀ q, H0.size ≤ q → A q)
    (q0 ci : Nat) {fs : List Value} {qc : vw_C} (he : w0[q0]? = some (o, .inr (ci, fs))) (hc : classes[ci]? = some qc) (hC : qc.1 = y.cls) (hst : st0 = As.reverse ++ .ref o :: rest) (hn : As.length = na) (hsz : ls.size = nL) (hW : (rest.map fun v => v.category).sum ≤ 8) (hdg : decode cc pc = .ok (.invokevirtual idx, 3)) (hf : cells ≤ R.cells ∧ slots ≤ R.slots)
    (kk : ∀ (H1 : Heap) (locs1 : List Loc), va_P D classes w1 H1 → va_D A w1 → va_S A H0 H1 locs1 → W p l e R s m args below meth c H1 locs1 cells slots Q (F0 m (pc + 3) ls rest)) : W p l e R s m args below meth c H locs cells slots Q (F0 m pc ls st0) :=
  w_callVF (l1 := []) (l2 := []) S hM cw hK (by rw [List.nil_append, List.append_nil]; exact hP) (by rw [List.nil_append, List.append_nil]; exact hD) hS hA q0 ci he hc hC hst hn hsz hW hdg hf (by rw [List.nil_append, List.append_nil]; exact kk)
end WC
end
section
/-! the worlds: xW (a TimeNet with its paths, arrays and 120 constraints), mW (a TimeNetModel with its arrays) -/
abbrev q_con (ca : Nat → Nat) (fr tt : Nat → Nat) (cc : Nat → Int64) (on : Nat → Bool) (j : Nat) : Nat × va_E := (ca j, .inr (2, [.int (nI (fr j)), .int (nI (tt j)), .long (cc j), .int (q_b (on j))]))
abbrev xW (a : Nat → Nat) (k : Nat → ClassId) (ca : Nat → Nat) (n : Nat) (al : Int32) (fr tt : Nat → Nat) (cc : Nat → Int64) (on : Nat → Bool) (len : Nat → Int64) (stp : Nat → Int32) (dir : Nat → Int64) (row : Nat → Int32) (rm : Nat) (rl : Int64) : va_W :=
  [(a 0, .inr (0, [.ref (a 1), .int (nI n), .int al, .ref (a 2), .ref (a 5), .ref (a 6), .int (nI rm), .long rl])),
   (a 1, .inl (k 1, 120, .inr (.inr (.inr (.inr (fun j => some (ca j))))))),
   (a 2, .inr (1, [.ref (a 3), .ref (a 4)])),
   (a 3, .inl (k 3, 400, .inr (.inl len))),
   (a 4, .inl (k 4, 400, .inl stp)),
   (a 5, .inl (k 5, 400, .inr (.inl dir))),
   (a 6, .inl (k 6, 22, .inl row))] ++ (List.range 120).map (q_con ca fr tt cc on)
abbrev xT (k : Nat → ClassId) : List (ClassId × FieldType) := [(k 1, .object "TimeNet$Constraint"), (k 3, .long), (k 4, .int), (k 5, .long), (k 6, .int)]
abbrev mW (a : Nat → Nat) (k : Nat → ClassId) (th : Int32) (n : Nat) (fr tt : Nat → Nat) (cc : Nat → Int64) (on : Nat → Bool) (rs : Nat) (row : Nat → Int32) (rl : Int64) (lst : Nat → Int64) (bl : Int64) (bs : Int32) : va_W :=
  [(a 0, .inr (3, [.int th, .int (nI n), .ref (a 1), .ref (a 2), .ref (a 3), .ref (a 4), .int (nI rs), .ref (a 5), .long rl, .ref (a 6), .long bl, .int bs])),
   (a 1, .inl (k 1, 120, .inl (fun j => nI (fr j)))),
   (a 2, .inl (k 2, 120, .inl (fun j => nI (tt j)))),
   (a 3, .inl (k 3, 120, .inr (.inl cc))),
   (a 4, .inl (k 4, 120, .inl (fun j => q_b (on j)))),
   (a 5, .inl (k 5, 24, .inl row)),
   (a 6, .inl (k 6, 420, .inr (.inl lst)))]
abbrev mT (k : Nat → ClassId) : List (ClassId × FieldType) := [(k 1, .int), (k 2, .int), (k 3, .long), (k 4, .boolean), (k 5, .int), (k 6, .long)]
theorem q_map_set {α : Type} (g : Nat → α) (N j : Nat) (x : α) : ((List.range N).map g).set j x = (List.range N).map (fun i => if i = j then x else g i) := by
  apply List.ext_getElem?
  intro i
  by_cases hij : i = j
  · subst hij
    by_cases hi : i < N
    · rw [List.getElem?_set_self (by simpa using hi)]
      simp [hi]
    · rw [List.getElem?_eq_none (by simp; omega), List.getElem?_eq_none (by simp; omega)]
  · rw [List.getElem?_set_ne (Ne.symm hij)]
    by_cases hi : i < N
    · simp [hi, hij]
    · rw [List.getElem?_eq_none (by simp; omega), List.getElem?_eq_none (by simp; omega)]
section XC
variable {a : Nat → Nat} {k : Nat → ClassId} {ca : Nat → Nat} {n : Nat} {al : Int32} {fr tt : Nat → Nat} {cc : Nat → Int64} {on : Nat → Bool} {len : Nat → Int64} {stp : Nat → Int32} {dir : Nat → Int64} {row : Nat → Int32} {rm : Nat} {rl : Int64}
theorem xW_con {j : Nat} (hj : j < 120) : (xW a k ca n al fr tt cc on len stp dir row rm rl)[7 + j]? = some (ca j, .inr (2, [.int (nI (fr j)), .int (nI (tt j)), .long (cc j), .int (q_b (on j))])) := by
  rw [xW, List.getElem?_append_right (by simp)]
  simp [hj]
theorem xW_set {j f t : Nat} {x : Int64} {o : Bool} : (xW a k ca n al fr tt cc on len stp dir row rm rl).set (7 + j) (ca j, .inr (2, [.int (nI f), .int (nI t), .long x, .int (q_b o)])) = xW a k ca n al (va_up fr j f) (va_up tt j t) (va_up cc j x) (va_up on j o) len stp dir row rm rl := by
  rw [xW, List.set_append_right _ _ (by simp), xW]
  congr 1
  rw [show 7 + j - List.length [((a 0 : Nat), (Sum.inr (0, [.ref (a 1), .int (nI n), .int al, .ref (a 2), .ref (a 5), .ref (a 6), .int (nI rm), .long rl]) : va_E)), (a 1, .inl (k 1, 120, .inr (.inr (.inr (.inr (fun j => some (ca j))))))), (a 2, .inr (1, [.ref (a 3), .ref (a 4)])), (a 3, .inl (k 3, 400, .inr (.inl len))), (a 4, .inl (k 4, 400, .inl stp)), (a 5, .inl (k 5, 400, .inr (.inl dir))), (a 6, .inl (k 6, 22, .inl row))] = j by simp, q_map_set]
  apply List.map_congr_left
  intro i _
  by_cases h : i = j
  · subst h
    simp [va_up_self]
  · simp [h, va_up_ne]
theorem q_up_id {α : Type} (f : Nat → α) (j : Nat) : va_up f j (f j) = f := by
  funext i
  by_cases h : i = j
  · subst h; rw [va_up_self]
  · rw [va_up_ne _ _ h]
theorem xW_fr {j f : Nat} : (xW a k ca n al fr tt cc on len stp dir row rm rl).set (7 + j) (ca j, .inr (2, [.int (nI f), .int (nI (tt j)), .long (cc j), .int (q_b (on j))])) = xW a k ca n al (va_up fr j f) tt cc on len stp dir row rm rl := by
  rw [xW_set, q_up_id, q_up_id, q_up_id]
theorem xW_tt {j t : Nat} : (xW a k ca n al fr tt cc on len stp dir row rm rl).set (7 + j) (ca j, .inr (2, [.int (nI (fr j)), .int (nI t), .long (cc j), .int (q_b (on j))])) = xW a k ca n al fr (va_up tt j t) cc on len stp dir row rm rl := by
  rw [xW_set, q_up_id, q_up_id, q_up_id]
theorem xW_cc {j : Nat} {x : Int64} : (xW a k ca n al fr tt cc on len stp dir row rm rl).set (7 + j) (ca j, .inr (2, [.int (nI (fr j)), .int (nI (tt j)), .long x, .int (q_b (on j))])) = xW a k ca n al fr tt (va_up cc j x) on len stp dir row rm rl := by
  rw [xW_set, q_up_id, q_up_id, q_up_id]
theorem xW_on {j : Nat} {o : Bool} : (xW a k ca n al fr tt cc on len stp dir row rm rl).set (7 + j) (ca j, .inr (2, [.int (nI (fr j)), .int (nI (tt j)), .long (cc j), .int (q_b o)])) = xW a k ca n al fr tt cc (va_up on j o) len stp dir row rm rl := by
  rw [xW_set, q_up_id, q_up_id, q_up_id]
end XC
theorem q_upd_nI (f : Nat → Nat) (j x : Nat) : upd (fun i => nI (f i)) j (nI x) = fun i => nI (va_up f j x i) := by
  funext i
  by_cases h : i = j
  · subst h; simp [upd, va_up]
  · simp [upd, va_up, h]
theorem q_upd_b (f : Nat → Bool) (j : Nat) (x : Bool) : upd (fun i => q_b (f i)) j (q_b x) = fun i => q_b (va_up f j x i) := by
  funext i
  by_cases h : i = j
  · subst h; simp [upd, va_up]
  · simp [upd, va_up, h]
theorem q_updL_up (f : Nat → Int64) (j : Nat) (x : Int64) : vp_updL f j x = va_up f j x := rfl
section XP
variable {p : Program} {l : Launch} {e : Env} {R : Room} {s : State} {m : MethodId} {args : Array Value} {below : List Frame} {meth : Method} {c : Code} {H : Heap} {locs : List Loc} {cells slots : Nat} {Q : State → Prop}
variable {cb : ByteArray} {pc : Nat} {ls : Array Slot} {rest : List Value} {D : va_G} {A : Nat → Prop} {tys : List (ClassId × FieldType)} {H0 : Heap} {own : String} {index : Nat}
variable {a : Nat → Nat} {k : Nat → ClassId} {ca : Nat → Nat} {n : Nat} {al : Int32} {fr tt : Nat → Nat} {cc : Nat → Int64} {on : Nat → Bool} {len : Nat → Int64} {stp : Nat → Int32} {dir : Nat → Int64} {row : Nat → Int32} {rm : Nat} {rl : Int64}
theorem w_putfr (hx : p.tables.exec = Jvm.exec) (hb : c.code = cb) (hT : ∀ w ∈ lw_g, w.before args s = true) (hown : s.vm.findClass own = some m.cls) (hK : va_K D classes tys s) (hP : va_P D classes (xW a k ca n al fr tt cc on len stp dir row rm rl) H) (hD : va_D A (xW a k ca n al fr tt cc on len stp dir row rm rl)) (hS : va_S A H0 H locs) {j f : Nat} (hj : j < 120) (hlink : Cond.fieldLink own index "TimeNet$Constraint" "from" "I" ∈ lw_g) (hdg : decode cb pc = .ok (.putfield index, 3))
    (kk : ∀ (H1 : Heap) (locs1 : List Loc), va_P D classes (xW a k ca n al (va_up fr j f) tt cc on len stp dir row rm rl) H1 → va_D A (xW a k ca n al (va_up fr j f) tt cc on len stp dir row rm rl) → va_S A H0 H1 locs1 → W p l e R s m args below meth c H1 locs1 cells slots Q (F0 m (pc + 3) ls rest)) : W p l e R s m args below meth c H locs cells slots Q (F0 m pc ls (.int (nI f) :: .ref (ca j) :: rest)) :=
  w_put i_C t_C t_C_ok n_C hx hb hT hown hK hP hD hS (7 + j) (xW_con hj) rfl 0 (by decide) hlink rfl rfl rfl (Nat.le_of_ble_eq_true rfl) hdg (fun H1 locs1 h1 h2 h3 => kk H1 locs1 (by rw [← xW_fr]; exact h1) (by rw [← xW_fr]; exact h2) h3)
theorem w_puttt (hx : p.tables.exec = Jvm.exec) (hb : c.code = cb) (hT : ∀ w ∈ lw_g, w.before args s = true) (hown : s.vm.findClass own = some m.cls) (hK : va_K D classes tys s) (hP : va_P D classes (xW a k ca n al fr tt cc on len stp dir row rm rl) H) (hD : va_D A (xW a k ca n al fr tt cc on len stp dir row rm rl)) (hS : va_S A H0 H locs) {j f : Nat} (hj : j < 120) (hlink : Cond.fieldLink own index "TimeNet$Constraint" "to" "I" ∈ lw_g) (hdg : decode cb pc = .ok (.putfield index, 3))
    (kk : ∀ (H1 : Heap) (locs1 : List Loc), va_P D classes (xW a k ca n al fr (va_up tt j f) cc on len stp dir row rm rl) H1 → va_D A (xW a k ca n al fr (va_up tt j f) cc on len stp dir row rm rl) → va_S A H0 H1 locs1 → W p l e R s m args below meth c H1 locs1 cells slots Q (F0 m (pc + 3) ls rest)) : W p l e R s m args below meth c H locs cells slots Q (F0 m pc ls (.int (nI f) :: .ref (ca j) :: rest)) :=
  w_put i_C t_C t_C_ok n_C hx hb hT hown hK hP hD hS (7 + j) (xW_con hj) rfl 1 (by decide) hlink rfl rfl rfl (Nat.le_of_ble_eq_true rfl) hdg (fun H1 locs1 h1 h2 h3 => kk H1 locs1 (by rw [← xW_tt]; exact h1) (by rw [← xW_tt]; exact h2) h3)
theorem w_putcc (hx : p.tables.exec = Jvm.exec) (hb : c.code = cb) (hT : ∀ w ∈ lw_g, w.before args s = true) (hown : s.vm.findClass own = some m.cls) (hK : va_K D classes tys s) (hP : va_P D classes (xW a k ca n al fr tt cc on len stp dir row rm rl) H) (hD : va_D A (xW a k ca n al fr tt cc on len stp dir row rm rl)) (hS : va_S A H0 H locs) {j : Nat} {x : Int64} (hj : j < 120) (hlink : Cond.fieldLink own index "TimeNet$Constraint" "c" "J" ∈ lw_g) (hdg : decode cb pc = .ok (.putfield index, 3))
    (kk : ∀ (H1 : Heap) (locs1 : List Loc), va_P D classes (xW a k ca n al fr tt (va_up cc j x) on len stp dir row rm rl) H1 → va_D A (xW a k ca n al fr tt (va_up cc j x) on len stp dir row rm rl) → va_S A H0 H1 locs1 → W p l e R s m args below meth c H1 locs1 cells slots Q (F0 m (pc + 3) ls rest)) : W p l e R s m args below meth c H locs cells slots Q (F0 m pc ls (.long x :: .ref (ca j) :: rest)) :=
  w_put i_C t_C t_C_ok n_C hx hb hT hown hK hP hD hS (7 + j) (xW_con hj) rfl 2 (by decide) hlink rfl rfl rfl (Nat.le_of_ble_eq_true rfl) hdg (fun H1 locs1 h1 h2 h3 => kk H1 locs1 (by rw [← xW_cc]; exact h1) (by rw [← xW_cc]; exact h2) h3)
theorem w_puton (hx : p.tables.exec = Jvm.exec) (hb : c.code = cb) (hT : ∀ w ∈ lw_g, w.before args s = true) (hown : s.vm.findClass own = some m.cls) (hK : va_K D classes tys s) (hP : va_P D classes (xW a k ca n al fr tt cc on len stp dir row rm rl) H) (hD : va_D A (xW a k ca n al fr tt cc on len stp dir row rm rl)) (hS : va_S A H0 H locs) {j : Nat} {x : Bool} (hj : j < 120) (hlink : Cond.fieldLink own index "TimeNet$Constraint" "on" "Z" ∈ lw_g) (hdg : decode cb pc = .ok (.putfield index, 3))
    (kk : ∀ (H1 : Heap) (locs1 : List Loc), va_P D classes (xW a k ca n al fr tt cc (va_up on j x) len stp dir row rm rl) H1 → va_D A (xW a k ca n al fr tt cc (va_up on j x) len stp dir row rm rl) → va_S A H0 H1 locs1 → W p l e R s m args below meth c H1 locs1 cells slots Q (F0 m (pc + 3) ls rest)) : W p l e R s m args below meth c H locs cells slots Q (F0 m pc ls (.int (q_b x) :: .ref (ca j) :: rest)) :=
  w_put i_C t_C t_C_ok n_C hx hb hT hown hK hP hD hS (7 + j) (xW_con hj) rfl 3 (by decide) hlink rfl (by cases x <;> rfl) (by cases x <;> rfl) (Nat.le_of_ble_eq_true rfl) hdg (fun H1 locs1 h1 h2 h3 => kk H1 locs1 (by rw [← xW_on]; exact h1) (by rw [← xW_on]; exact h2) h3)
end XP
end
section
/-! what the methods compute, as plain functions -/
def q_pt (i : Int32) : Bool := !(decide (i < 0)) && !(decide (nI 20 ≤ i))
def q_min (x y : Int64) : Int64 := if y < x then y else x
abbrev q_LS : Type := (Nat → Int64) × (Nat → Int32)
def q_has (len : Nat → Int64) (i j : Nat) : Bool := !(decide (len (20 * i + j) = q_nev))
def q_bet (len : Nat → Int64) (stp : Nat → Int32) (at_ : Nat) (l : Int64) (s : Int32) : Bool := decide (l < len at_) || (decide (l = len at_) && decide (s < stp at_))
/-- Paths.add: the inner loop's step, the outer loop's step, the whole -/
def q_pJ (i t : Nat) (ah : Int64) (my : Int32) (j : Nat) (d : q_LS) : q_LS :=
  if q_has d.1 t j = false then d
  else if q_bet d.1 d.2 (20 * i + j) (ah + d.1 (20 * t + j)) (my + d.2 (20 * t + j)) = false then d
  else (vp_updL d.1 (20 * i + j) (ah + d.1 (20 * t + j)), upd d.2 (20 * i + j) (my + d.2 (20 * t + j)))
def q_pI (f t : Nat) (c : Int64) (i : Nat) (d : q_LS) : q_LS :=
  if q_has d.1 i f = false then d else q_it (q_pJ i t (d.1 (20 * i + f) + c) (d.2 (20 * i + f) + nI 1)) 20 d
def q_pA (f t : Nat) (c : Int64) (d : q_LS) : q_LS :=
  if q_bet d.1 d.2 (20 * f + t) c (nI 1) = false then d else q_it (q_pI f t c) 20 d
/-- Paths.clear -/
def q_cS (j : Nat) (d : q_LS) : q_LS := (vp_updL d.1 j (if j % 21 = 0 then 0 else q_nev), upd d.2 j (nI 0))
def q_clr (d : q_LS) : q_LS := q_it q_cS 400 d
/-- TimeNet.takes, anew: direct beside the paths -/
abbrev q_DL : Type := (Nat → Int64) × q_LS
def q_tk (f t : Nat) (c : Int64) (d : q_DL) : q_DL := (vp_updL d.1 (20 * f + t) (q_min (d.1 (20 * f + t)) c), q_pA f t c d.2)
def q_dn (dir : Nat → Int64) : Nat → Int64 := q_it (fun j g => vp_updL g j q_nev) 400 dir
def q_an (fr tt : Nat → Nat) (cc : Nat → Int64) (on : Nat → Bool) (j : Nat) (d : q_DL) : q_DL := if on j = false then d else q_tk (fr j) (tt j) (cc j) d
def q_new (n : Nat) (fr tt : Nat → Nat) (cc : Nat → Int64) (on : Nat → Bool) (d : q_DL) : q_DL := q_it (q_an fr tt cc on) n (q_dn d.1, q_clr d.2)
/-- TimeNet.goes, and the points that follow tells -/
def q_go (dir len : Nat → Int64) (stp : Nat → Int32) (p q j : Nat) (l : Int64) (s : Int32) : Bool :=
  (!(decide (dir (20 * p + q) = q_nev)) && q_has len q j) && (decide (len (20 * q + j) = l - dir (20 * p + q)) && decide (stp (20 * q + j) = s - nI 1))
def q_fol (dir len : Nat → Int64) (stp : Nat → Int32) (j : Nat) : Nat → Int64 → List Nat → Prop
  | _, _, [] => True
  | p, l, q :: qs => q < 20 ∧ q_go dir len stp p q j l (nI (qs.length + 1)) = true ∧ (∀ q', q' < q → q_go dir len stp p q' j l (nI (qs.length + 1)) = false) ∧ q_fol dir len stp j q (l - dir (20 * p + q)) qs
/-- a row with more points behind rm -/
def q_app (row : Nat → Int32) (rm : Nat) : List Nat → (Nat → Int32)
  | [] => row
  | q :: qs => q_app (upd row rm (nI q)) (rm + 1) qs
/-- TimeNetModel.step, best, walk -/
def q_st (fr tt : Nat → Nat) (cc : Nat → Int64) (on : Nat → Bool) (i j : Nat) (k : Nat) (v : Int64) : Int64 := if on k = true ∧ fr k = i ∧ tt k = j ∧ cc k < v then cc k else v
def q_step (n : Nat) (fr tt : Nat → Nat) (cc : Nat → Int64) (on : Nat → Bool) (i j : Nat) : Int64 := q_it (q_st fr tt cc on i j) n q_nev
def q_b0 (j v : Nat) (g : Nat → Int64) : Nat → Int64 := vp_updL g v (if v = j then 0 else q_nev)
def q_b1 (s v : Nat) (g : Nat → Int64) : Nat → Int64 := vp_updL g (20 * s + v) q_nev
def q_b2 (fr tt : Nat → Nat) (cc : Nat → Int64) (on : Nat → Bool) (s k : Nat) (g : Nat → Int64) : Nat → Int64 :=
  if on k = true ∧ ¬ g (20 * (s - 1) + tt k) = q_nev ∧ cc k + g (20 * (s - 1) + tt k) < g (20 * s + fr k) then vp_updL g (20 * s + fr k) (cc k + g (20 * (s - 1) + tt k)) else g
def q_b3 (n : Nat) (fr tt : Nat → Nat) (cc : Nat → Int64) (on : Nat → Bool) (s0 : Nat) (g : Nat → Int64) : Nat → Int64 := q_it (q_b2 fr tt cc on (s0 + 1)) n (q_it (q_b1 (s0 + 1)) 20 g)
def q_lst (n : Nat) (fr tt : Nat → Nat) (cc : Nat → Int64) (on : Nat → Bool) (j : Nat) (g : Nat → Int64) : Nat → Int64 := q_it (q_b3 n fr tt cc on) 20 (q_it (q_b0 j) 20 g)
def q_b4 (g : Nat → Int64) (i s : Nat) (d : Int64 × Int32) : Int64 × Int32 := if g (20 * s + i) < d.1 then (g (20 * s + i), nI s) else d
def q_bst (g : Nat → Int64) (i : Nat) : Int64 × Int32 := q_it (q_b4 g i) 21 (q_nev, -1)
/-- does the model's walk go from v to u with s steps left (s is above 0) -/
def q_wg (n : Nat) (fr tt : Nat → Nat) (cc : Nat → Int64) (on : Nat → Bool) (lst : Nat → Int64) (v u s : Nat) : Bool :=
  (!(decide (q_step n fr tt cc on v u = q_nev)) && !(decide (lst (20 * (s - 1) + u) = q_nev))) && decide (q_step n fr tt cc on v u + lst (20 * (s - 1) + u) = lst (20 * s + v))
def q_wlk (n : Nat) (fr tt : Nat → Nat) (cc : Nat → Int64) (on : Nat → Bool) (lst : Nat → Int64) : Nat → List Nat → Prop
  | _, [] => True
  | v, u :: us => u < 20 ∧ q_wg n fr tt cc on lst v u (us.length + 1) = true ∧ (∀ u', u' < u → q_wg n fr tt cc on lst v u' (us.length + 1) = false) ∧ q_wlk n fr tt cc on lst u us
def q_cnt (on : Nat → Bool) : Nat → Nat
  | 0 => 0
  | n + 1 => q_cnt on n + (if on n then 1 else 0)
end
section
set_option maxHeartbeats 4000000 in
set_option maxRecDepth 100000 in
/-- Paths.at -/
theorem c_P_at (l : Launch) (i j : Nat) : Cs l y_P_at b_P_at 2 (some .int) 0 0 [.int (nI i), .int (nI j)] (.int (nI (20 * i + j))) := by
  refine q_enterS [(0, .int (nI i)), (1, .int (nI j))] "TimeNet$Paths" .ireturn (by decide) rfl (Nat.le_of_ble_eq_true rfl) rfl (Or.inl ⟨rfl, rfl, _, rfl⟩) ?_
  intro p e s m args below meth c ls Q E hl hE
  obtain ⟨hx, hb, hml, hr, hlk, hown, hT⟩ := E
  refine lv_bipush (v := nI 20) hx hb d_P_at_0 (by decide) ?_
  refine lv_iload_n hx hb d_P_at_2 rfl (lv_at hl 0 rfl) ?_
  refine w_imul hx hb d_P_at_3 ?_
  refine lv_iload_n hx hb d_P_at_4 rfl (lv_at hl 1 rfl) ?_
  refine w_iadd hx hb d_P_at_5 ?_
  exact hE _ _ d_P_at_6

set_option maxHeartbeats 4000000 in
set_option maxRecDepth 100000 in
/-- isPoint -/
theorem c_X_isPoint (l : Launch) (i : Int32) : Cs l y_X_isPoint b_X_isPoint 1 (some .boolean) 0 0 [.int i] (.int (q_b (q_pt i))) := by
  refine q_enterS [(0, .int i)] "TimeNet" .ireturn (by decide) rfl (Nat.le_of_ble_eq_true rfl) rfl (Or.inr (Or.inl ⟨rfl, rfl, _, rfl⟩)) ?_
  intro p e s m args below meth c ls Q E hl hE
  obtain ⟨hx, hb, hml, hr, hlk, hown, hT⟩ := E
  refine lv_iload_n hx hb d_X_isPoint_0 rfl (lv_at hl 0 rfl) ?_
  refine lv_if_lt (tgt := 14) hx hb d_X_isPoint_1 (by decide) (fun h1 => ?_) (fun h1 => ?_)
  · refine lv_iconst (v := nI 0) hx hb d_X_isPoint_14 (by decide) ?_
    refine w_top (y := .int (q_b (q_pt i))) (by rw [show q_pt i = false by simp [q_pt, h1]]; rfl) ?_
    exact hE _ _ d_X_isPoint_15
  · refine lv_iload_n hx hb d_X_isPoint_4 rfl (lv_at hl 0 rfl) ?_
    refine lv_bipush (v := nI 20) hx hb d_X_isPoint_5 (by decide) ?_
    refine lv_icmp_ge (tgt := 14) hx hb d_X_isPoint_7 (by decide) (fun h2 => ?_) (fun h2 => ?_)
    · refine lv_iconst (v := nI 0) hx hb d_X_isPoint_14 (by decide) ?_
      refine w_top (y := .int (q_b (q_pt i))) (by rw [show q_pt i = false by simp [q_pt, h2]]; rfl) ?_
      exact hE _ _ d_X_isPoint_15
    · refine lv_iconst (v := nI 1) hx hb d_X_isPoint_10 (by decide) ?_
      refine lv_goto (tgt := 15) hx hb d_X_isPoint_11 (by decide) ?_
      refine w_top (y := .int (q_b (q_pt i))) (by rw [show q_pt i = true by simp [q_pt, h1, h2]]; rfl) ?_
      exact hE _ _ d_X_isPoint_15

set_option maxHeartbeats 4000000 in
set_option maxRecDepth 100000 in
/-- isPoint -/
theorem c_M_isPoint (l : Launch) (i : Int32) : Cs l y_M_isPoint b_M_isPoint 1 (some .boolean) 0 0 [.int i] (.int (q_b (q_pt i))) := by
  refine q_enterS [(0, .int i)] "TimeNetModel" .ireturn (by decide) rfl (Nat.le_of_ble_eq_true rfl) rfl (Or.inr (Or.inl ⟨rfl, rfl, _, rfl⟩)) ?_
  intro p e s m args below meth c ls Q E hl hE
  obtain ⟨hx, hb, hml, hr, hlk, hown, hT⟩ := E
  refine lv_iload_n hx hb d_M_isPoint_0 rfl (lv_at hl 0 rfl) ?_
  refine lv_if_lt (tgt := 14) hx hb d_M_isPoint_1 (by decide) (fun h1 => ?_) (fun h1 => ?_)
  · refine lv_iconst (v := nI 0) hx hb d_M_isPoint_14 (by decide) ?_
    refine w_top (y := .int (q_b (q_pt i))) (by rw [show q_pt i = false by simp [q_pt, h1]]; rfl) ?_
    exact hE _ _ d_M_isPoint_15
  · refine lv_iload_n hx hb d_M_isPoint_4 rfl (lv_at hl 0 rfl) ?_
    refine lv_bipush (v := nI 20) hx hb d_M_isPoint_5 (by decide) ?_
    refine lv_icmp_ge (tgt := 14) hx hb d_M_isPoint_7 (by decide) (fun h2 => ?_) (fun h2 => ?_)
    · refine lv_iconst (v := nI 0) hx hb d_M_isPoint_14 (by decide) ?_
      refine w_top (y := .int (q_b (q_pt i))) (by rw [show q_pt i = false by simp [q_pt, h2]]; rfl) ?_
      exact hE _ _ d_M_isPoint_15
    · refine lv_iconst (v := nI 1) hx hb d_M_isPoint_10 (by decide) ?_
      refine lv_goto (tgt := 15) hx hb d_M_isPoint_11 (by decide) ?_
      refine w_top (y := .int (q_b (q_pt i))) (by rw [show q_pt i = true by simp [q_pt, h1, h2]]; rfl) ?_
      exact hE _ _ d_M_isPoint_15

set_option maxHeartbeats 4000000 in
set_option maxRecDepth 100000 in
/-- Paths.has -/
theorem c_P_has (l : Launch) (D : va_G) (a : Nat → Nat) (k : Nat → ClassId) (ca : Nat → Nat) (n : Nat) (al : Int32) (fr tt : Nat → Nat) (cc : Nat → Int64) (on : Nat → Bool) (len : Nat → Int64) (stp : Nat → Int32) (dir : Nat → Int64) (row : Nat → Int32) (rm : Nat) (rl : Int64) (i j : Nat) (hi : i < 20) (hj : j < 20) : Ct l y_P_has b_P_has 3 (some .boolean) 1 21 D (xT k) [.ref (a 2), .int (nI i), .int (nI j)] (xW a k ca n al fr tt cc on len stp dir row rm rl) (xW a k ca n al fr tt cc on len stp dir row rm rl) (some (.int (q_b (q_has len i j)))) := by
  refine q_enter [(0, .ref (a 2)), (1, .int (nI i)), (2, .int (nI j))] "TimeNet$Paths" .ireturn [.int (q_b (q_has len i j))] (by decide) rfl (Nat.le_of_ble_eq_true rfl) rfl (Or.inr (Or.inl ⟨rfl, rfl, _, rfl, rfl⟩)) ?_
  intro p e s m args below meth c A ls Q E hK hP hD hS hA hl hE
  obtain ⟨hx, hb, hml, hr, hlk, hown, hT⟩ := E
  refine lv_aload_n hx hb d_P_has_0 rfl (lv_at hl 0 rfl) ?_
  refine w_get i_P hx hb hT hown hK hP 2 rfl rfl 0 (by decide) tb_26 rfl d_P_has_1 ?_
  refine lv_iload_n hx hb d_P_has_4 rfl (lv_at hl 1 rfl) ?_
  refine lv_iload_n hx hb d_P_has_5 rfl (lv_at hl 2 rfl) ?_
  refine w_callS (v := .int (nI (20 * i + j))) (As := [.int (nI i), .int (nI j)]) (rest := [.ref (a 3)]) ⟨hx, hb, hml, hown, hT⟩ (c_P_at l i j) (w_cwS hT ms_P_at tb_79 ⟨by decide, by decide⟩) rfl rfl hl.1 (Nat.le_of_ble_eq_true rfl) d_P_has_6 ⟨Nat.zero_le _, Nat.zero_le _⟩ ?_
  refine w_lald hx hb hK hP 3 1 rfl rfl (by omega) (by decide) d_P_has_9 ?_
  refine lv_ldc2 (v := q_nev) hx hb hown (hT _ tb_63) d_P_has_10 ?_
  refine w_lceq (tgt := 21) hx hb d_P_has_13 d_P_has_14 (by decide) (fun h1 => ?_) (fun h1 => ?_)
  · refine lv_iconst (v := nI 0) hx hb d_P_has_21 (by decide) ?_
    refine w_top (y := .int (q_b (q_has len i j))) (by rw [show q_has len i j = false by simp [q_has, h1]]; rfl) ?_
    exact hE _ _ _ _ d_P_has_22 hP hD hS
  · refine lv_iconst (v := nI 1) hx hb d_P_has_17 (by decide) ?_
    refine lv_goto (tgt := 22) hx hb d_P_has_18 (by decide) ?_
    refine w_top (y := .int (q_b (q_has len i j))) (by rw [show q_has len i j = true by simp [q_has, h1]]; rfl) ?_
    exact hE _ _ _ _ d_P_has_22 hP hD hS

set_option maxHeartbeats 4000000 in
set_option maxRecDepth 100000 in
/-- Paths.isBetter -/
theorem c_P_isBetter (l : Launch) (D : va_G) (a : Nat → Nat) (k : Nat → ClassId) (ca : Nat → Nat) (n : Nat) (al : Int32) (fr tt : Nat → Nat) (cc : Nat → Int64) (on : Nat → Bool) (len : Nat → Int64) (stp : Nat → Int32) (dir : Nat → Int64) (row : Nat → Int32) (rm : Nat) (rl : Int64) (i : Nat) (x : Int64) (y : Int32) (hi : i < 400) : Ct l y_P_isBetter b_P_isBetter 5 (some .boolean) 0 0 D (xT k) [.ref (a 2), .int (nI i), .long x, .int y] (xW a k ca n al fr tt cc on len stp dir row rm rl) (xW a k ca n al fr tt cc on len stp dir row rm rl) (some (.int (q_b (q_bet len stp i x y)))) := by
  refine q_enter [(0, .ref (a 2)), (1, .int (nI i)), (2, .long x), (4, .int y)] "TimeNet$Paths" .ireturn [.int (q_b (q_bet len stp i x y))] (by decide) rfl (Nat.le_of_ble_eq_true rfl) rfl (Or.inr (Or.inl ⟨rfl, rfl, _, rfl, rfl⟩)) ?_
  intro p e s m args below meth c A ls Q E hK hP hD hS hA hl hE
  obtain ⟨hx, hb, hml, hr, hlk, hown, hT⟩ := E
  refine lv_lload_n hx hb d_P_isBetter_0 rfl (lv_at hl 2 rfl) ?_
  refine lv_aload_n hx hb d_P_isBetter_1 rfl (lv_at hl 0 rfl) ?_
  refine w_get i_P hx hb hT hown hK hP 2 rfl rfl 0 (by decide) tb_26 rfl d_P_isBetter_2 ?_
  refine lv_iload_n hx hb d_P_isBetter_5 rfl (lv_at hl 1 rfl) ?_
  refine w_lald hx hb hK hP 3 1 rfl rfl (by omega) (by decide) d_P_isBetter_6 ?_
  refine w_lclt (tgt := 33) hx hb d_P_isBetter_7 d_P_isBetter_8 (by decide) (fun h1 => ?_) (fun h1 => ?_)
  · refine lv_iconst (v := nI 1) hx hb d_P_isBetter_33 (by decide) ?_
    refine lv_goto (tgt := 38) hx hb d_P_isBetter_34 (by decide) ?_
    refine w_top (y := .int (q_b (q_bet len stp i x y))) (by rw [show q_bet len stp i x y = true by simp [q_bet, h1]]; rfl) ?_
    exact hE _ _ _ _ d_P_isBetter_38 hP hD hS
  · refine lv_lload_n hx hb d_P_isBetter_11 rfl (lv_at hl 2 rfl) ?_
    refine lv_aload_n hx hb d_P_isBetter_12 rfl (lv_at hl 0 rfl) ?_
    refine w_get i_P hx hb hT hown hK hP 2 rfl rfl 0 (by decide) tb_26 rfl d_P_isBetter_13 ?_
    refine lv_iload_n hx hb d_P_isBetter_16 rfl (lv_at hl 1 rfl) ?_
    refine w_lald hx hb hK hP 3 1 rfl rfl (by omega) (by decide) d_P_isBetter_17 ?_
    refine w_lcne (tgt := 37) hx hb d_P_isBetter_18 d_P_isBetter_19 (by decide) (fun h2 => ?_) (fun h2 => ?_)
    · refine lv_iconst (v := nI 0) hx hb d_P_isBetter_37 (by decide) ?_
      refine w_top (y := .int (q_b (q_bet len stp i x y))) (by rw [show q_bet len stp i x y = false by simp [q_bet, h1, h2]]; rfl) ?_
      exact hE _ _ _ _ d_P_isBetter_38 hP hD hS
    · refine lv_iload hx hb d_P_isBetter_22 (lv_at hl 3 rfl) ?_
      refine lv_aload_n hx hb d_P_isBetter_24 rfl (lv_at hl 0 rfl) ?_
      refine w_get i_P hx hb hT hown hK hP 2 rfl rfl 1 (by decide) tb_28 rfl d_P_isBetter_25 ?_
      refine lv_iload_n hx hb d_P_isBetter_28 rfl (lv_at hl 1 rfl) ?_
      refine w_iald hx hb hK hP 4 2 rfl rfl (by omega) (by decide) d_P_isBetter_29 ?_
      refine lv_icmp_ge (tgt := 37) hx hb d_P_isBetter_30 (by decide) (fun h3 => ?_) (fun h3 => ?_)
      · refine lv_iconst (v := nI 0) hx hb d_P_isBetter_37 (by decide) ?_
        refine w_top (y := .int (q_b (q_bet len stp i x y))) (by rw [show q_bet len stp i x y = false by simp [q_bet, h1, h2, k2_nlt h3]]; rfl) ?_
        exact hE _ _ _ _ d_P_isBetter_38 hP hD hS
      · refine lv_iconst (v := nI 1) hx hb d_P_isBetter_33 (by decide) ?_
        refine lv_goto (tgt := 38) hx hb d_P_isBetter_34 (by decide) ?_
        refine w_top (y := .int (q_b (q_bet len stp i x y))) (by rw [show q_bet len stp i x y = true by simp [q_bet, h1, h2, k2_lt h3]]; rfl) ?_
        exact hE _ _ _ _ d_P_isBetter_38 hP hD hS
end
section
set_option maxHeartbeats 4000000 in
set_option maxRecDepth 100000 in
/-- Paths.clear -/
theorem c_P_clear (l : Launch) (D : va_G) (a : Nat → Nat) (k : Nat → ClassId) (ca : Nat → Nat) (n : Nat) (al : Int32) (fr tt : Nat → Nat) (cc : Nat → Int64) (on : Nat → Bool) (len : Nat → Int64) (stp : Nat → Int32) (dir : Nat → Int64) (row : Nat → Int32) (rm : Nat) (rl : Int64)  : Ct l y_P_clear b_P_clear 2 none 0 0 D (xT k) [.ref (a 2)] (xW a k ca n al fr tt cc on len stp dir row rm rl) (xW a k ca n al fr tt cc on ((q_clr (len, stp)).1) ((q_clr (len, stp)).2) dir row rm rl) none := by
  refine q_enter [(0, .ref (a 2))] "TimeNet$Paths" .return_ [] (by decide) rfl (Nat.le_of_ble_eq_true rfl) rfl (Or.inr (Or.inr (Or.inr ⟨rfl, rfl, rfl, rfl⟩))) ?_
  intro p e s m args below meth c A ls Q E hK hP hD hS hA hl hE
  obtain ⟨hx, hb, hml, hr, hlk, hown, hT⟩ := E
  refine lv_iconst (v := nI 0) hx hb d_P_clear_0 (by decide) ?_
  refine lv_istore_n (lv' := [(1, .int (nI 0)), (0, .ref (a 2))]) hx hb d_P_clear_1 rfl hl (by decide) rfl (fun ls hl => ?_)
  have loop : ∀ (d i : Nat), i ≤ 400 → 400 + 1 ≤ i + d → ∀ (H : Heap) (locs : List Loc) (ls : Array Slot), va_P D classes (xW a k ca n al fr tt cc on ((q_it q_cS i (len, stp)).1) ((q_it q_cS i (len, stp)).2) dir row rm rl) H → va_D A (xW a k ca n al fr tt cc on ((q_it q_cS i (len, stp)).1) ((q_it q_cS i (len, stp)).2) dir row rm rl) → va_S A s.heap H locs → lv_has ls 2 [(1, .int (nI i)), (0, .ref (a 2))] → W p l e (q_rm 0 0) s m args below meth c H locs 0 0 Q (F0 m 2 ls []) := by
    intro d
    induction d with
    | zero => intro i h1 h2; exact absurd h2 (by omega)
    | succ d ih =>
      intro i hi_i hd_i H locs ls hP hD hS hl
      refine lv_iload_n hx hb d_P_clear_2 rfl (lv_at hl 0 rfl) ?_
      refine lv_sipush (v := nI 400) hx hb d_P_clear_3 (by decide) ?_
      refine w_icge (tgt := 42) hx hb (by omega) (by omega) d_P_clear_6 (by decide) (fun h3 => ?_) (fun h3 => ?_)
      · have h4 : i = 400 := by omega
        subst h4
        exact hE _ _ _ _ d_P_clear_42 hP hD hS
      · refine lv_aload_n hx hb d_P_clear_9 rfl (lv_at hl 1 rfl) ?_
        refine w_get i_P hx hb hT hown hK hP 2 rfl rfl 0 (by decide) tb_26 rfl d_P_clear_10 ?_
        refine lv_iload_n hx hb d_P_clear_13 rfl (lv_at hl 0 rfl) ?_
        refine lv_iload_n hx hb d_P_clear_14 rfl (lv_at hl 0 rfl) ?_
        refine lv_bipush (v := nI 21) hx hb d_P_clear_15 (by decide) ?_
        refine w_irem hx hb (by omega) (by decide) (by decide) d_P_clear_17 ?_
        refine w_ifne0 (tgt := 25) hx hb (by omega) d_P_clear_18 (by decide) (fun h5 => ?_) (fun h5 => ?_)
        · refine lv_ldc2 (v := q_nev) hx hb hown (hT _ tb_63) d_P_clear_25 ?_
          refine w_top (y := .long (if i % 21 = 0 then 0 else q_nev)) (by rw [if_neg h5]) ?_
          refine w_last hx hb hK hP hD hS 3 1 rfl rfl (by omega) (by decide) d_P_clear_28 (fun H locs hP hD hS => ?_)
          have hP : va_P D classes (xW a k ca n al fr tt cc on (vp_updL ((q_it q_cS i (len, stp)).1) i (if i % 21 = 0 then 0 else q_nev)) ((q_it q_cS i (len, stp)).2) dir row rm rl) H := hP
          have hD : va_D A (xW a k ca n al fr tt cc on (vp_updL ((q_it q_cS i (len, stp)).1) i (if i % 21 = 0 then 0 else q_nev)) ((q_it q_cS i (len, stp)).2) dir row rm rl) := hD
          refine lv_aload_n hx hb d_P_clear_29 rfl (lv_at hl 1 rfl) ?_
          refine w_get i_P hx hb hT hown hK hP 2 rfl rfl 1 (by decide) tb_28 rfl d_P_clear_30 ?_
          refine lv_iload_n hx hb d_P_clear_33 rfl (lv_at hl 0 rfl) ?_
          refine lv_iconst (v := nI 0) hx hb d_P_clear_34 (by decide) ?_
          refine w_iast hx hb hK hP hD hS 4 2 rfl rfl (by omega) (by decide) d_P_clear_35 (fun H locs hP hD hS => ?_)
          have hP : va_P D classes (xW a k ca n al fr tt cc on (vp_updL ((q_it q_cS i (len, stp)).1) i (if i % 21 = 0 then 0 else q_nev)) (upd ((q_it q_cS i (len, stp)).2) i (nI 0)) dir row rm rl) H := hP
          have hD : va_D A (xW a k ca n al fr tt cc on (vp_updL ((q_it q_cS i (len, stp)).1) i (if i % 21 = 0 then 0 else q_nev)) (upd ((q_it q_cS i (len, stp)).2) i (nI 0)) dir row rm rl) := hD
          refine lv_iinc (v := nI (i + 1)) (lv' := [(1, .int (nI (i + 1))), (0, .ref (a 2))]) hx hb d_P_clear_36 hl (k := 0) rfl (q_ii _) (by decide) rfl (fun ls hl => ?_)
          refine lv_goto (tgt := 2) hx hb d_P_clear_39 (by decide) ?_
          exact ih (i + 1) (by omega) (by omega) H locs ls hP hD hS (lv_sub hl [0, 1] rfl)
        · refine lv_lconst (v := 0) hx hb d_P_clear_21 (by decide) ?_
          refine lv_goto (tgt := 28) hx hb d_P_clear_22 (by decide) ?_
          refine w_top (y := .long (if i % 21 = 0 then 0 else q_nev)) (by rw [if_pos h5]) ?_
          refine w_last hx hb hK hP hD hS 3 1 rfl rfl (by omega) (by decide) d_P_clear_28 (fun H locs hP hD hS => ?_)
          have hP : va_P D classes (xW a k ca n al fr tt cc on (vp_updL ((q_it q_cS i (len, stp)).1) i (if i % 21 = 0 then 0 else q_nev)) ((q_it q_cS i (len, stp)).2) dir row rm rl) H := hP
          have hD : va_D A (xW a k ca n al fr tt cc on (vp_updL ((q_it q_cS i (len, stp)).1) i (if i % 21 = 0 then 0 else q_nev)) ((q_it q_cS i (len, stp)).2) dir row rm rl) := hD
          refine lv_aload_n hx hb d_P_clear_29 rfl (lv_at hl 1 rfl) ?_
          refine w_get i_P hx hb hT hown hK hP 2 rfl rfl 1 (by decide) tb_28 rfl d_P_clear_30 ?_
          refine lv_iload_n hx hb d_P_clear_33 rfl (lv_at hl 0 rfl) ?_
          refine lv_iconst (v := nI 0) hx hb d_P_clear_34 (by decide) ?_
          refine w_iast hx hb hK hP hD hS 4 2 rfl rfl (by omega) (by decide) d_P_clear_35 (fun H locs hP hD hS => ?_)
          have hP : va_P D classes (xW a k ca n al fr tt cc on (vp_updL ((q_it q_cS i (len, stp)).1) i (if i % 21 = 0 then 0 else q_nev)) (upd ((q_it q_cS i (len, stp)).2) i (nI 0)) dir row rm rl) H := hP
          have hD : va_D A (xW a k ca n al fr tt cc on (vp_updL ((q_it q_cS i (len, stp)).1) i (if i % 21 = 0 then 0 else q_nev)) (upd ((q_it q_cS i (len, stp)).2) i (nI 0)) dir row rm rl) := hD
          refine lv_iinc (v := nI (i + 1)) (lv' := [(1, .int (nI (i + 1))), (0, .ref (a 2))]) hx hb d_P_clear_36 hl (k := 0) rfl (q_ii _) (by decide) rfl (fun ls hl => ?_)
          refine lv_goto (tgt := 2) hx hb d_P_clear_39 (by decide) ?_
          exact ih (i + 1) (by omega) (by omega) H locs ls hP hD hS (lv_sub hl [0, 1] rfl)
  exact loop 401 0 (by omega) (by omega) s.heap [] ls hP hD hS (lv_sub hl [0, 1] rfl)
end
section
set_option maxHeartbeats 4000000 in
set_option maxRecDepth 100000 in
/-- Paths.add -/
theorem c_P_add (l : Launch) (D : va_G) (a : Nat → Nat) (k : Nat → ClassId) (ca : Nat → Nat) (n : Nat) (al : Int32) (fr tt : Nat → Nat) (cc : Nat → Int64) (on : Nat → Bool) (len : Nat → Int64) (stp : Nat → Int32) (dir : Nat → Int64) (row : Nat → Int32) (rm : Nat) (rl : Int64) (f t : Nat) (x : Int64) (hf : f < 20) (ht : t < 20) : Ct l y_P_add b_P_add 13 none 2 43 D (xT k) [.ref (a 2), .int (nI f), .int (nI t), .long x] (xW a k ca n al fr tt cc on len stp dir row rm rl) (xW a k ca n al fr tt cc on ((q_pA f t x (len, stp)).1) ((q_pA f t x (len, stp)).2) dir row rm rl) none := by
  refine q_enter [(0, .ref (a 2)), (1, .int (nI f)), (2, .int (nI t)), (3, .long x)] "TimeNet$Paths" .return_ [] (by decide) rfl (Nat.le_of_ble_eq_true rfl) rfl (Or.inr (Or.inr (Or.inr ⟨rfl, rfl, rfl, rfl⟩))) ?_
  intro p e s m args below meth c A ls Q E hK hP hD hS hA hl hE
  obtain ⟨hx, hb, hml, hr, hlk, hown, hT⟩ := E
  refine lv_aload_n hx hb d_P_add_0 rfl (lv_at hl 0 rfl) ?_
  refine lv_iload_n hx hb d_P_add_1 rfl (lv_at hl 1 rfl) ?_
  refine lv_iload_n hx hb d_P_add_2 rfl (lv_at hl 2 rfl) ?_
  refine w_callS (v := .int (nI (20 * f + t))) (As := [.int (nI f), .int (nI t)]) (rest := [.ref (a 2)]) ⟨hx, hb, hml, hown, hT⟩ (c_P_at l f t) (w_cwS hT ms_P_at tb_79 ⟨by decide, by decide⟩) rfl rfl hl.1 (Nat.le_of_ble_eq_true rfl) d_P_add_3 ⟨Nat.zero_le _, Nat.zero_le _⟩ ?_
  refine lv_lload_n hx hb d_P_add_6 rfl (lv_at hl 3 rfl) ?_
  refine lv_iconst (v := nI 1) hx hb d_P_add_7 (by decide) ?_
  refine w_callV (As := [.int (nI (20 * f + t)), .long x, .int (nI 1)]) (rest := []) ⟨hx, hb, hml, hown, hT⟩ (c_P_isBetter l D a k ca n al fr tt cc on len stp dir row rm rl (20 * f + t) x (nI 1) (by omega)) (w_cwV hT ms_P_isBetter tb_80 ⟨by decide, by decide⟩) hK hP hD hS hA 2 1 rfl rfl rfl rfl rfl hl.1 (Nat.le_of_ble_eq_true rfl) d_P_add_8 ⟨Nat.zero_le _, Nat.zero_le _⟩ (fun H locs hP hD hS => ?_)
  refine w_ifneB (tgt := 15) hx hb d_P_add_11 (by decide) (fun h1 => ?_) (fun h1 => ?_)
  · refine lv_iconst (v := nI 0) hx hb d_P_add_15 (by decide) ?_
    refine lv_istore (lv' := [(5, .int (nI 0)), (0, .ref (a 2)), (1, .int (nI f)), (2, .int (nI t)), (3, .long x)]) hx hb d_P_add_16 hl (by decide) rfl (fun ls hl => ?_)
    have e1 : q_pA f t x (len, stp) = q_it (q_pI f t x) 20 (len, stp) := by rw [q_pA, if_neg (by rw [h1]; decide)]
    rw [e1] at hE
    have outer : ∀ (d i : Nat), i ≤ 20 → 20 + 1 ≤ i + d → ∀ (g : q_LS) (H : Heap) (locs : List Loc) (ls : Array Slot), g = q_it (q_pI f t x) i (len, stp) → va_P D classes (xW a k ca n al fr tt cc on g.1 g.2 dir row rm rl) H → va_D A (xW a k ca n al fr tt cc on g.1 g.2 dir row rm rl) → va_S A s.heap H locs → lv_has ls 13 [(5, .int (nI i)), (0, .ref (a 2)), (1, .int (nI f)), (2, .int (nI t)), (3, .long x)] → W p l e (q_rm 2 43) s m args below meth c H locs 0 0 Q (F0 m 18 ls []) := by
      intro d
      induction d with
      | zero => intro i h1 h2; exact absurd h2 (by omega)
      | succ d ih =>
        intro i hi_i hd_i g H locs ls hg hP hD hS hl
        refine lv_iload hx hb d_P_add_18 (lv_at hl 0 rfl) ?_
        refine lv_bipush (v := nI 20) hx hb d_P_add_20 (by decide) ?_
        refine w_icge (tgt := 184) hx hb (by omega) (by omega) d_P_add_22 (by decide) (fun h3 => ?_) (fun h3 => ?_)
        · have h4 : i = 20 := by omega
          subst h4
          rw [← hg] at hE
          exact hE _ _ _ _ d_P_add_184 hP hD hS
        · refine lv_aload_n hx hb d_P_add_25 rfl (lv_at hl 1 rfl) ?_
          refine lv_iload hx hb d_P_add_26 (lv_at hl 0 rfl) ?_
          refine lv_iload_n hx hb d_P_add_28 rfl (lv_at hl 2 rfl) ?_
          refine w_callV (As := [.int (nI i), .int (nI f)]) (rest := []) ⟨hx, hb, hml, hown, hT⟩ (c_P_has l D a k ca n al fr tt cc on g.1 g.2 dir row rm rl i f h3 hf) (w_cwV hT ms_P_has tb_84 ⟨by decide, by decide⟩) hK hP hD hS hA 2 1 rfl rfl rfl rfl rfl hl.1 (Nat.le_of_ble_eq_true rfl) d_P_add_29 ⟨Nat.zero_le _, Nat.zero_le _⟩ (fun H locs hP hD hS => ?_)
          refine w_ifneB (tgt := 38) hx hb d_P_add_32 (by decide) (fun h5 => ?_) (fun h5 => ?_)
          · refine lv_aload_n hx hb d_P_add_38 rfl (lv_at hl 1 rfl) ?_
            refine w_get i_P hx hb hT hown hK hP 2 rfl rfl 0 (by decide) tb_26 rfl d_P_add_39 ?_
            refine lv_iload hx hb d_P_add_42 (lv_at hl 0 rfl) ?_
            refine lv_iload_n hx hb d_P_add_44 rfl (lv_at hl 2 rfl) ?_
            refine w_callS (v := .int (nI (20 * i + f))) (As := [.int (nI i), .int (nI f)]) (rest := [.ref (a 3)]) ⟨hx, hb, hml, hown, hT⟩ (c_P_at l i f) (w_cwS hT ms_P_at tb_79 ⟨by decide, by decide⟩) rfl rfl hl.1 (Nat.le_of_ble_eq_true rfl) d_P_add_45 ⟨Nat.zero_le _, Nat.zero_le _⟩ ?_
            refine w_lald hx hb hK hP 3 1 rfl rfl (by omega) (by decide) d_P_add_48 ?_
            refine lv_lload_n hx hb d_P_add_49 rfl (lv_at hl 4 rfl) ?_
            refine lv_ladd hx hb d_P_add_50 ?_
            refine lv_lstore (lv' := [(6, .long ((g.1 (20 * i + f)) + x)), (5, .int (nI i)), (0, .ref (a 2)), (1, .int (nI f)), (2, .int (nI t)), (3, .long x)]) hx hb d_P_add_51 hl (by decide) rfl (fun ls hl => ?_)
            refine lv_aload_n hx hb d_P_add_53 rfl (lv_at hl 2 rfl) ?_
            refine w_get i_P hx hb hT hown hK hP 2 rfl rfl 1 (by decide) tb_28 rfl d_P_add_54 ?_
            refine lv_iload hx hb d_P_add_57 (lv_at hl 1 rfl) ?_
            refine lv_iload_n hx hb d_P_add_59 rfl (lv_at hl 3 rfl) ?_
            refine w_callS (v := .int (nI (20 * i + f))) (As := [.int (nI i), .int (nI f)]) (rest := [.ref (a 4)]) ⟨hx, hb, hml, hown, hT⟩ (c_P_at l i f) (w_cwS hT ms_P_at tb_79 ⟨by decide, by decide⟩) rfl rfl hl.1 (Nat.le_of_ble_eq_true rfl) d_P_add_60 ⟨Nat.zero_le _, Nat.zero_le _⟩ ?_
            refine w_iald hx hb hK hP 4 2 rfl rfl (by omega) (by decide) d_P_add_63 ?_
            refine lv_iconst (v := nI 1) hx hb d_P_add_64 (by decide) ?_
            refine lv_iadd hx hb d_P_add_65 ?_
            refine lv_istore (lv' := [(8, .int ((g.2 (20 * i + f)) + (nI 1))), (6, .long ((g.1 (20 * i + f)) + x)), (5, .int (nI i)), (0, .ref (a 2)), (1, .int (nI f)), (2, .int (nI t)), (3, .long x)]) hx hb d_P_add_66 hl (by decide) rfl (fun ls hl => ?_)
            refine lv_iconst (v := nI 0) hx hb d_P_add_68 (by decide) ?_
            refine lv_istore (lv' := [(9, .int (nI 0)), (8, .int ((g.2 (20 * i + f)) + (nI 1))), (6, .long ((g.1 (20 * i + f)) + x)), (5, .int (nI i)), (0, .ref (a 2)), (1, .int (nI f)), (2, .int (nI t)), (3, .long x)]) hx hb d_P_add_69 hl (by decide) rfl (fun ls hl => ?_)
            have inner : ∀ (d2 j : Nat), j ≤ 20 → 20 + 1 ≤ j + d2 → ∀ (g2 : q_LS) (H : Heap) (locs : List Loc) (ls : Array Slot), g2 = q_it (q_pJ i t (g.1 (20 * i + f) + x) (g.2 (20 * i + f) + nI 1)) j g → va_P D classes (xW a k ca n al fr tt cc on g2.1 g2.2 dir row rm rl) H → va_D A (xW a k ca n al fr tt cc on g2.1 g2.2 dir row rm rl) → va_S A s.heap H locs → lv_has ls 13 [(9, .int (nI j)), (8, .int ((g.2 (20 * i + f)) + (nI 1))), (6, .long ((g.1 (20 * i + f)) + x)), (5, .int (nI i)), (0, .ref (a 2)), (1, .int (nI f)), (2, .int (nI t)), (3, .long x)] → W p l e (q_rm 2 43) s m args below meth c H locs 0 0 Q (F0 m 71 ls []) := by
              intro d2
              induction d2 with
              | zero => intro j h1 h2; exact absurd h2 (by omega)
              | succ d2 ih2 =>
                intro j hi_j hd_j g2 H locs ls hg2 hP hD hS hl
                refine lv_iload hx hb d_P_add_71 (lv_at hl 0 rfl) ?_
                refine lv_bipush (v := nI 20) hx hb d_P_add_73 (by decide) ?_
                refine w_icge (tgt := 178) hx hb (by omega) (by omega) d_P_add_75 (by decide) (fun h6 => ?_) (fun h6 => ?_)
                · have h7 : j = 20 := by omega
                  rw [h7] at hg2
                  refine lv_iinc (v := nI (i + 1)) (lv' := [(5, .int (nI (i + 1))), (9, .int (nI j)), (8, .int ((g.2 (20 * i + f)) + (nI 1))), (6, .long ((g.1 (20 * i + f)) + x)), (0, .ref (a 2)), (1, .int (nI f)), (2, .int (nI t)), (3, .long x)]) hx hb d_P_add_178 hl (k := 3) rfl (q_ii _) (by decide) rfl (fun ls hl => ?_)
                  refine lv_goto (tgt := 18) hx hb d_P_add_181 (by decide) ?_
                  exact ih (i + 1) (by omega) (by omega) g2 H locs ls (by rw [q_it, ← hg, q_pI, if_neg (by rw [h5]; decide)]; exact hg2) hP hD hS (lv_sub hl [0, 4, 5, 6, 7] rfl)
                · refine lv_aload_n hx hb d_P_add_78 rfl (lv_at hl 4 rfl) ?_
                  refine lv_iload_n hx hb d_P_add_79 rfl (lv_at hl 6 rfl) ?_
                  refine lv_iload hx hb d_P_add_80 (lv_at hl 0 rfl) ?_
                  refine w_callV (As := [.int (nI t), .int (nI j)]) (rest := []) ⟨hx, hb, hml, hown, hT⟩ (c_P_has l D a k ca n al fr tt cc on g2.1 g2.2 dir row rm rl t j ht h6) (w_cwV hT ms_P_has tb_84 ⟨by decide, by decide⟩) hK hP hD hS hA 2 1 rfl rfl rfl rfl rfl hl.1 (Nat.le_of_ble_eq_true rfl) d_P_add_82 ⟨Nat.zero_le _, Nat.zero_le _⟩ (fun H locs hP hD hS => ?_)
                  refine w_ifneB (tgt := 91) hx hb d_P_add_85 (by decide) (fun h8 => ?_) (fun h8 => ?_)
                  · refine lv_lload hx hb d_P_add_91 (lv_at hl 2 rfl) ?_
                    refine lv_aload_n hx hb d_P_add_93 rfl (lv_at hl 4 rfl) ?_
                    refine w_get i_P hx hb hT hown hK hP 2 rfl rfl 0 (by decide) tb_26 rfl d_P_add_94 ?_
                    refine lv_iload_n hx hb d_P_add_97 rfl (lv_at hl 6 rfl) ?_
                    refine lv_iload hx hb d_P_add_98 (lv_at hl 0 rfl) ?_
                    refine w_callS (v := .int (nI (20 * t + j))) (As := [.int (nI t), .int (nI j)]) (rest := [.ref (a 3), .long ((g.1 (20 * i + f)) + x)]) ⟨hx, hb, hml, hown, hT⟩ (c_P_at l t j) (w_cwS hT ms_P_at tb_79 ⟨by decide, by decide⟩) rfl rfl hl.1 (Nat.le_of_ble_eq_true rfl) d_P_add_100 ⟨Nat.zero_le _, Nat.zero_le _⟩ ?_
                    refine w_lald hx hb hK hP 3 1 rfl rfl (by omega) (by decide) d_P_add_103 ?_
                    refine lv_ladd hx hb d_P_add_104 ?_
                    refine lv_lstore (lv' := [(10, .long (((g.1 (20 * i + f)) + x) + (g2.1 (20 * t + j)))), (9, .int (nI j)), (8, .int ((g.2 (20 * i + f)) + (nI 1))), (6, .long ((g.1 (20 * i + f)) + x)), (5, .int (nI i)), (0, .ref (a 2)), (1, .int (nI f)), (2, .int (nI t)), (3, .long x)]) hx hb d_P_add_105 hl (by decide) rfl (fun ls hl => ?_)
                    refine lv_iload hx hb d_P_add_107 (lv_at hl 2 rfl) ?_
                    refine lv_aload_n hx hb d_P_add_109 rfl (lv_at hl 5 rfl) ?_
                    refine w_get i_P hx hb hT hown hK hP 2 rfl rfl 1 (by decide) tb_28 rfl d_P_add_110 ?_
                    refine lv_iload_n hx hb d_P_add_113 rfl (lv_at hl 7 rfl) ?_
                    refine lv_iload hx hb d_P_add_114 (lv_at hl 1 rfl) ?_
                    refine w_callS (v := .int (nI (20 * t + j))) (As := [.int (nI t), .int (nI j)]) (rest := [.ref (a 4), .int ((g.2 (20 * i + f)) + (nI 1))]) ⟨hx, hb, hml, hown, hT⟩ (c_P_at l t j) (w_cwS hT ms_P_at tb_79 ⟨by decide, by decide⟩) rfl rfl hl.1 (Nat.le_of_ble_eq_true rfl) d_P_add_116 ⟨Nat.zero_le _, Nat.zero_le _⟩ ?_
                    refine w_iald hx hb hK hP 4 2 rfl rfl (by omega) (by decide) d_P_add_119 ?_
                    refine lv_iadd hx hb d_P_add_120 ?_
                    refine lv_istore (lv' := [(12, .int (((g.2 (20 * i + f)) + (nI 1)) + (g2.2 (20 * t + j)))), (10, .long (((g.1 (20 * i + f)) + x) + (g2.1 (20 * t + j)))), (9, .int (nI j)), (8, .int ((g.2 (20 * i + f)) + (nI 1))), (6, .long ((g.1 (20 * i + f)) + x)), (5, .int (nI i)), (0, .ref (a 2)), (1, .int (nI f)), (2, .int (nI t)), (3, .long x)]) hx hb d_P_add_121 hl (by decide) rfl (fun ls hl => ?_)
                    refine lv_aload_n hx hb d_P_add_123 rfl (lv_at hl 6 rfl) ?_
                    refine lv_iload hx hb d_P_add_124 (lv_at hl 5 rfl) ?_
                    refine lv_iload hx hb d_P_add_126 (lv_at hl 2 rfl) ?_
                    refine w_callS (v := .int (nI (20 * i + j))) (As := [.int (nI i), .int (nI j)]) (rest := [.ref (a 2)]) ⟨hx, hb, hml, hown, hT⟩ (c_P_at l i j) (w_cwS hT ms_P_at tb_79 ⟨by decide, by decide⟩) rfl rfl hl.1 (Nat.le_of_ble_eq_true rfl) d_P_add_128 ⟨Nat.zero_le _, Nat.zero_le _⟩ ?_
                    refine lv_lload hx hb d_P_add_131 (lv_at hl 1 rfl) ?_
                    refine lv_iload hx hb d_P_add_133 (lv_at hl 0 rfl) ?_
                    refine w_callV (As := [.int (nI (20 * i + j)), .long (((g.1 (20 * i + f)) + x) + (g2.1 (20 * t + j))), .int (((g.2 (20 * i + f)) + (nI 1)) + (g2.2 (20 * t + j)))]) (rest := []) ⟨hx, hb, hml, hown, hT⟩ (c_P_isBetter l D a k ca n al fr tt cc on g2.1 g2.2 dir row rm rl (20 * i + j) (((g.1 (20 * i + f)) + x) + (g2.1 (20 * t + j))) (((g.2 (20 * i + f)) + (nI 1)) + (g2.2 (20 * t + j))) (by omega)) (w_cwV hT ms_P_isBetter tb_80 ⟨by decide, by decide⟩) hK hP hD hS hA 2 1 rfl rfl rfl rfl rfl hl.1 (Nat.le_of_ble_eq_true rfl) d_P_add_135 ⟨Nat.zero_le _, Nat.zero_le _⟩ (fun H locs hP hD hS => ?_)
                    refine w_ifneB (tgt := 144) hx hb d_P_add_138 (by decide) (fun h9 => ?_) (fun h9 => ?_)
                    · refine lv_aload_n hx hb d_P_add_144 rfl (lv_at hl 6 rfl) ?_
                      refine w_get i_P hx hb hT hown hK hP 2 rfl rfl 0 (by decide) tb_26 rfl d_P_add_145 ?_
                      refine lv_iload hx hb d_P_add_148 (lv_at hl 5 rfl) ?_
                      refine lv_iload hx hb d_P_add_150 (lv_at hl 2 rfl) ?_
                      refine w_callS (v := .int (nI (20 * i + j))) (As := [.int (nI i), .int (nI j)]) (rest := [.ref (a 3)]) ⟨hx, hb, hml, hown, hT⟩ (c_P_at l i j) (w_cwS hT ms_P_at tb_79 ⟨by decide, by decide⟩) rfl rfl hl.1 (Nat.le_of_ble_eq_true rfl) d_P_add_152 ⟨Nat.zero_le _, Nat.zero_le _⟩ ?_
                      refine lv_lload hx hb d_P_add_155 (lv_at hl 1 rfl) ?_
                      refine w_last hx hb hK hP hD hS 3 1 rfl rfl (by omega) (by decide) d_P_add_157 (fun H locs hP hD hS => ?_)
                      have hP : va_P D classes (xW a k ca n al fr tt cc on (vp_updL g2.1 (20 * i + j) (((g.1 (20 * i + f)) + x) + (g2.1 (20 * t + j)))) g2.2 dir row rm rl) H := hP
                      have hD : va_D A (xW a k ca n al fr tt cc on (vp_updL g2.1 (20 * i + j) (((g.1 (20 * i + f)) + x) + (g2.1 (20 * t + j)))) g2.2 dir row rm rl) := hD
                      refine lv_aload_n hx hb d_P_add_158 rfl (lv_at hl 6 rfl) ?_
                      refine w_get i_P hx hb hT hown hK hP 2 rfl rfl 1 (by decide) tb_28 rfl d_P_add_159 ?_
                      refine lv_iload hx hb d_P_add_162 (lv_at hl 5 rfl) ?_
                      refine lv_iload hx hb d_P_add_164 (lv_at hl 2 rfl) ?_
                      refine w_callS (v := .int (nI (20 * i + j))) (As := [.int (nI i), .int (nI j)]) (rest := [.ref (a 4)]) ⟨hx, hb, hml, hown, hT⟩ (c_P_at l i j) (w_cwS hT ms_P_at tb_79 ⟨by decide, by decide⟩) rfl rfl hl.1 (Nat.le_of_ble_eq_true rfl) d_P_add_166 ⟨Nat.zero_le _, Nat.zero_le _⟩ ?_
                      refine lv_iload hx hb d_P_add_169 (lv_at hl 0 rfl) ?_
                      refine w_iast hx hb hK hP hD hS 4 2 rfl rfl (by omega) (by decide) d_P_add_171 (fun H locs hP hD hS => ?_)
                      have hP : va_P D classes (xW a k ca n al fr tt cc on (vp_updL g2.1 (20 * i + j) (((g.1 (20 * i + f)) + x) + (g2.1 (20 * t + j)))) (upd g2.2 (20 * i + j) (((g.2 (20 * i + f)) + (nI 1)) + (g2.2 (20 * t + j)))) dir row rm rl) H := hP
                      have hD : va_D A (xW a k ca n al fr tt cc on (vp_updL g2.1 (20 * i + j) (((g.1 (20 * i + f)) + x) + (g2.1 (20 * t + j)))) (upd g2.2 (20 * i + j) (((g.2 (20 * i + f)) + (nI 1)) + (g2.2 (20 * t + j)))) dir row rm rl) := hD
                      refine lv_iinc (v := nI (j + 1)) (lv' := [(9, .int (nI (j + 1))), (12, .int (((g.2 (20 * i + f)) + (nI 1)) + (g2.2 (20 * t + j)))), (10, .long (((g.1 (20 * i + f)) + x) + (g2.1 (20 * t + j)))), (8, .int ((g.2 (20 * i + f)) + (nI 1))), (6, .long ((g.1 (20 * i + f)) + x)), (5, .int (nI i)), (0, .ref (a 2)), (1, .int (nI f)), (2, .int (nI t)), (3, .long x)]) hx hb d_P_add_172 hl (k := 2) rfl (q_ii _) (by decide) rfl (fun ls hl => ?_)
                      refine lv_goto (tgt := 71) hx hb d_P_add_175 (by decide) ?_
                      exact ih2 (j + 1) (by omega) (by omega) (vp_updL g2.1 (20 * i + j) (((g.1 (20 * i + f)) + x) + (g2.1 (20 * t + j))), upd g2.2 (20 * i + j) (((g.2 (20 * i + f)) + (nI 1)) + (g2.2 (20 * t + j)))) H locs ls (by rw [q_it, ← hg2, q_pJ, if_neg (by rw [h8]; decide), if_neg (by rw [h9]; decide)]) hP hD hS (lv_sub hl [0, 3, 4, 5, 6, 7, 8, 9] rfl)
                    · refine lv_goto (tgt := 172) hx hb d_P_add_141 (by decide) ?_
                      refine lv_iinc (v := nI (j + 1)) (lv' := [(9, .int (nI (j + 1))), (12, .int (((g.2 (20 * i + f)) + (nI 1)) + (g2.2 (20 * t + j)))), (10, .long (((g.1 (20 * i + f)) + x) + (g2.1 (20 * t + j)))), (8, .int ((g.2 (20 * i + f)) + (nI 1))), (6, .long ((g.1 (20 * i + f)) + x)), (5, .int (nI i)), (0, .ref (a 2)), (1, .int (nI f)), (2, .int (nI t)), (3, .long x)]) hx hb d_P_add_172 hl (k := 2) rfl (q_ii _) (by decide) rfl (fun ls hl => ?_)
                      refine lv_goto (tgt := 71) hx hb d_P_add_175 (by decide) ?_
                      exact ih2 (j + 1) (by omega) (by omega) g2 H locs ls (by rw [q_it, ← hg2, q_pJ, if_neg (by rw [h8]; decide), if_pos h9]) hP hD hS (lv_sub hl [0, 3, 4, 5, 6, 7, 8, 9] rfl)
                  · refine lv_goto (tgt := 172) hx hb d_P_add_88 (by decide) ?_
                    refine lv_iinc (v := nI (j + 1)) (lv' := [(9, .int (nI (j + 1))), (8, .int ((g.2 (20 * i + f)) + (nI 1))), (6, .long ((g.1 (20 * i + f)) + x)), (5, .int (nI i)), (0, .ref (a 2)), (1, .int (nI f)), (2, .int (nI t)), (3, .long x)]) hx hb d_P_add_172 hl (k := 0) rfl (q_ii _) (by decide) rfl (fun ls hl => ?_)
                    refine lv_goto (tgt := 71) hx hb d_P_add_175 (by decide) ?_
                    exact ih2 (j + 1) (by omega) (by omega) g2 H locs ls (by rw [q_it, ← hg2, q_pJ, if_pos h8]) hP hD hS (lv_sub hl [0, 1, 2, 3, 4, 5, 6, 7] rfl)
            exact inner 21 0 (by omega) (by omega) g H locs ls rfl hP hD hS (lv_sub hl [0, 1, 2, 3, 4, 5, 6, 7] rfl)
          · refine lv_goto (tgt := 178) hx hb d_P_add_35 (by decide) ?_
            refine lv_iinc (v := nI (i + 1)) (lv' := [(5, .int (nI (i + 1))), (0, .ref (a 2)), (1, .int (nI f)), (2, .int (nI t)), (3, .long x)]) hx hb d_P_add_178 hl (k := 0) rfl (q_ii _) (by decide) rfl (fun ls hl => ?_)
            refine lv_goto (tgt := 18) hx hb d_P_add_181 (by decide) ?_
            exact ih (i + 1) (by omega) (by omega) g H locs ls (by rw [q_it, ← hg, q_pI, if_pos h5]) hP hD hS (lv_sub hl [0, 1, 2, 3, 4] rfl)
    exact outer 21 0 (by omega) (by omega) (len, stp) H locs ls rfl hP hD hS (lv_sub hl [0, 1, 2, 3, 4] rfl)
  · have e1 : q_pA f t x (len, stp) = (len, stp) := by rw [q_pA, if_pos h1]
    rw [e1] at hE
    exact hE _ _ _ _ d_P_add_14 hP hD hS
end
section
set_option maxHeartbeats 4000000 in
set_option maxRecDepth 100000 in
/-- takes -/
theorem c_X_takes (l : Launch) (D : va_G) (a : Nat → Nat) (k : Nat → ClassId) (ca : Nat → Nat) (n : Nat) (al : Int32) (fr tt : Nat → Nat) (cc : Nat → Int64) (on : Nat → Bool) (len : Nat → Int64) (stp : Nat → Int32) (dir : Nat → Int64) (row : Nat → Int32) (rm : Nat) (rl : Int64) (j : Nat) (hjj : j < 120) (hf : fr j < 20) (ht : tt j < 20) : Ct l y_X_takes b_X_takes 3 none 3 75 D (xT k) [.ref (a 0), .ref (ca j)] (xW a k ca n al fr tt cc on len stp dir row rm rl) (xW a k ca n al fr tt cc on ((q_tk (fr j) (tt j) (cc j) (dir, (len, stp))).2.1) ((q_tk (fr j) (tt j) (cc j) (dir, (len, stp))).2.2) ((q_tk (fr j) (tt j) (cc j) (dir, (len, stp))).1) row rm rl) none := by
  refine q_enter [(0, .ref (a 0)), (1, .ref (ca j))] "TimeNet" .return_ [] (by decide) rfl (Nat.le_of_ble_eq_true rfl) rfl (Or.inr (Or.inr (Or.inr ⟨rfl, rfl, rfl, rfl⟩))) ?_
  intro p e s m args below meth c A ls Q E hK hP hD hS hA hl hE
  obtain ⟨hx, hb, hml, hr, hlk, hown, hT⟩ := E
  refine lv_aload_n hx hb d_X_takes_0 rfl (lv_at hl 1 rfl) ?_
  refine w_get i_C hx hb hT hown hK hP (7 + j) (xW_con hjj) rfl 0 (by decide) tb_42 rfl d_X_takes_1 ?_
  refine lv_aload_n hx hb d_X_takes_4 rfl (lv_at hl 1 rfl) ?_
  refine w_get i_C hx hb hT hown hK hP (7 + j) (xW_con hjj) rfl 1 (by decide) tb_43 rfl d_X_takes_5 ?_
  refine w_callS (v := .int (nI (20 * fr j + tt j))) (As := [.int (nI (fr j)), .int (nI (tt j))]) (rest := []) ⟨hx, hb, hml, hown, hT⟩ (c_P_at l (fr j) (tt j)) (w_cwS hT ms_P_at tb_69 ⟨by decide, by decide⟩) rfl rfl hl.1 (Nat.le_of_ble_eq_true rfl) d_X_takes_8 ⟨Nat.zero_le _, Nat.zero_le _⟩ ?_
  refine lv_istore_n (lv' := [(2, .int (nI (20 * fr j + tt j))), (0, .ref (a 0)), (1, .ref (ca j))]) hx hb d_X_takes_11 rfl hl (by decide) rfl (fun ls hl => ?_)
  refine lv_aload_n hx hb d_X_takes_12 rfl (lv_at hl 1 rfl) ?_
  refine w_get i_X hx hb hT hown hK hP 0 rfl rfl 4 (by decide) tb_92 rfl d_X_takes_13 ?_
  refine lv_iload_n hx hb d_X_takes_16 rfl (lv_at hl 0 rfl) ?_
  refine lv_aload_n hx hb d_X_takes_17 rfl (lv_at hl 1 rfl) ?_
  refine w_get i_X hx hb hT hown hK hP 0 rfl rfl 4 (by decide) tb_92 rfl d_X_takes_18 ?_
  refine lv_iload_n hx hb d_X_takes_21 rfl (lv_at hl 0 rfl) ?_
  refine w_lald hx hb hK hP 5 3 rfl rfl (by omega) (by decide) d_X_takes_22 ?_
  refine lv_aload_n hx hb d_X_takes_23 rfl (lv_at hl 2 rfl) ?_
  refine w_get i_C hx hb hT hown hK hP (7 + j) (xW_con hjj) rfl 2 (by decide) tb_44 rfl d_X_takes_24 ?_
  refine va_mmin_long hx hb (by rw [hml]; exact hl.1.symm) hown (hT _ tb_72) (hT _ tb_73) (hT _ tb_4) (hT _ tb_74) (by decide) (Nat.le_of_ble_eq_true rfl) (Nat.zero_le _) (Nat.zero_le _) d_X_takes_27 ?_
  refine w_last hx hb hK hP hD hS 5 3 rfl rfl (by omega) (by decide) d_X_takes_30 (fun H locs hP hD hS => ?_)
  have hP : va_P D classes (xW a k ca n al fr tt cc on len stp (vp_updL dir (20 * fr j + tt j) (q_min (dir (20 * fr j + tt j)) (cc j))) row rm rl) H := hP
  have hD : va_D A (xW a k ca n al fr tt cc on len stp (vp_updL dir (20 * fr j + tt j) (q_min (dir (20 * fr j + tt j)) (cc j))) row rm rl) := hD
  refine lv_aload_n hx hb d_X_takes_31 rfl (lv_at hl 1 rfl) ?_
  refine w_get i_X hx hb hT hown hK hP 0 rfl rfl 3 (by decide) tb_91 rfl d_X_takes_32 ?_
  refine lv_aload_n hx hb d_X_takes_35 rfl (lv_at hl 2 rfl) ?_
  refine w_get i_C hx hb hT hown hK hP (7 + j) (xW_con hjj) rfl 0 (by decide) tb_42 rfl d_X_takes_36 ?_
  refine lv_aload_n hx hb d_X_takes_39 rfl (lv_at hl 2 rfl) ?_
  refine w_get i_C hx hb hT hown hK hP (7 + j) (xW_con hjj) rfl 1 (by decide) tb_43 rfl d_X_takes_40 ?_
  refine lv_aload_n hx hb d_X_takes_43 rfl (lv_at hl 2 rfl) ?_
  refine w_get i_C hx hb hT hown hK hP (7 + j) (xW_con hjj) rfl 2 (by decide) tb_44 rfl d_X_takes_44 ?_
  refine w_callN (As := [.int (nI (fr j)), .int (nI (tt j)), .long (cc j)]) (rest := []) ⟨hx, hb, hml, hown, hT⟩ (c_P_add l D a k ca n al fr tt cc on len stp (vp_updL dir (20 * fr j + tt j) (q_min (dir (20 * fr j + tt j)) (cc j))) row rm rl (fr j) (tt j) (cc j) hf ht) (w_cwV hT ms_P_add tb_75 ⟨by decide, by decide⟩) hK hP hD hS hA 2 1 rfl rfl rfl rfl rfl hl.1 (Nat.le_of_ble_eq_true rfl) d_X_takes_47 ⟨Nat.zero_le _, Nat.zero_le _⟩ (fun H locs hP hD hS => ?_)
  have hP : va_P D classes (xW a k ca n al fr tt cc on ((q_pA (fr j) (tt j) (cc j) (len, stp)).1) ((q_pA (fr j) (tt j) (cc j) (len, stp)).2) (vp_updL dir (20 * fr j + tt j) (q_min (dir (20 * fr j + tt j)) (cc j))) row rm rl) H := hP
  have hD : va_D A (xW a k ca n al fr tt cc on ((q_pA (fr j) (tt j) (cc j) (len, stp)).1) ((q_pA (fr j) (tt j) (cc j) (len, stp)).2) (vp_updL dir (20 * fr j + tt j) (q_min (dir (20 * fr j + tt j)) (cc j))) row rm rl) := hD
  exact hE _ _ _ _ d_X_takes_50 hP hD hS

set_option maxHeartbeats 4000000 in
set_option maxRecDepth 100000 in
/-- anew -/
theorem c_X_anew (l : Launch) (D : va_G) (a : Nat → Nat) (k : Nat → ClassId) (ca : Nat → Nat) (n : Nat) (al : Int32) (fr tt : Nat → Nat) (cc : Nat → Int64) (on : Nat → Bool) (len : Nat → Int64) (stp : Nat → Int32) (dir : Nat → Int64) (row : Nat → Int32) (rm : Nat) (rl : Int64) (hn : n ≤ 120) (hft : ∀ j, j < n → fr j < 20 ∧ tt j < 20) : Ct l y_X_anew b_X_anew 2 none 4 97 D (xT k) [.ref (a 0)] (xW a k ca n al fr tt cc on len stp dir row rm rl) (xW a k ca n al fr tt cc on ((q_new n fr tt cc on (dir, (len, stp))).2.1) ((q_new n fr tt cc on (dir, (len, stp))).2.2) ((q_new n fr tt cc on (dir, (len, stp))).1) row rm rl) none := by
  refine q_enter [(0, .ref (a 0))] "TimeNet" .return_ [] (by decide) rfl (Nat.le_of_ble_eq_true rfl) rfl (Or.inr (Or.inr (Or.inr ⟨rfl, rfl, rfl, rfl⟩))) ?_
  intro p e s m args below meth c A ls Q E hK hP hD hS hA hl hE
  obtain ⟨hx, hb, hml, hr, hlk, hown, hT⟩ := E
  refine lv_aload_n hx hb d_X_anew_0 rfl (lv_at hl 0 rfl) ?_
  refine w_get i_X hx hb hT hown hK hP 0 rfl rfl 3 (by decide) tb_91 rfl d_X_anew_1 ?_
  refine w_callN (As := []) (rest := []) ⟨hx, hb, hml, hown, hT⟩ (c_P_clear l D a k ca n al fr tt cc on len stp dir row rm rl ) (w_cwV hT ms_P_clear tb_59 ⟨by decide, by decide⟩) hK hP hD hS hA 2 1 rfl rfl rfl rfl rfl hl.1 (Nat.le_of_ble_eq_true rfl) d_X_anew_4 ⟨Nat.zero_le _, Nat.zero_le _⟩ (fun H locs hP hD hS => ?_)
  have hP : va_P D classes (xW a k ca n al fr tt cc on ((q_clr (len, stp)).1) ((q_clr (len, stp)).2) dir row rm rl) H := hP
  have hD : va_D A (xW a k ca n al fr tt cc on ((q_clr (len, stp)).1) ((q_clr (len, stp)).2) dir row rm rl) := hD
  refine lv_iconst (v := nI 0) hx hb d_X_anew_7 (by decide) ?_
  refine lv_istore_n (lv' := [(1, .int (nI 0)), (0, .ref (a 0))]) hx hb d_X_anew_8 rfl hl (by decide) rfl (fun ls hl => ?_)
  have loop2 : ∀ (d i : Nat), i ≤ n → n + 1 ≤ i + d → ∀ (g : q_DL) (H : Heap) (locs : List Loc) (ls : Array Slot), g = q_it (q_an fr tt cc on) i (q_dn dir, q_clr (len, stp)) → va_P D classes (xW a k ca n al fr tt cc on g.2.1 g.2.2 g.1 row rm rl) H → va_D A (xW a k ca n al fr tt cc on g.2.1 g.2.2 g.1 row rm rl) → va_S A s.heap H locs → lv_has ls 2 [(1, .int (nI i)), (0, .ref (a 0))] → W p l e (q_rm 4 97) s m args below meth c H locs 0 0 Q (F0 m 35 ls []) := by
    intro d
    induction d with
    | zero => intro i h1 h2; exact absurd h2 (by omega)
    | succ d ih =>
      intro i hi_i hd_i g H locs ls hg hP hD hS hl
      refine lv_iload_n hx hb d_X_anew_35 rfl (lv_at hl 0 rfl) ?_
      refine lv_aload_n hx hb d_X_anew_36 rfl (lv_at hl 1 rfl) ?_
      refine w_get i_X hx hb hT hown hK hP 0 rfl rfl 1 (by decide) tb_89 rfl d_X_anew_37 ?_
      refine w_icge (tgt := 71) hx hb (by omega) (by omega) d_X_anew_40 (by decide) (fun h3 => ?_) (fun h3 => ?_)
      · have h4 : i = n := by omega
        rw [h4] at hg
        rw [q_new, ← hg] at hE
        exact hE _ _ _ _ d_X_anew_71 hP hD hS
      · have hji : i < 120 := by omega
        refine lv_aload_n hx hb d_X_anew_43 rfl (lv_at hl 1 rfl) ?_
        refine w_get i_X hx hb hT hown hK hP 0 rfl rfl 0 (by decide) tb_88 rfl d_X_anew_44 ?_
        refine lv_iload_n hx hb d_X_anew_47 rfl (lv_at hl 0 rfl) ?_
        refine w_aald hx hb hK hP 1 0 rfl rfl (by omega) (by decide) d_X_anew_48 ?_
        refine w_get i_C hx hb hT hown hK hP (7 + i) (xW_con hji) rfl 3 (by decide) tb_45 rfl d_X_anew_49 ?_
        refine w_ifeqB (tgt := 65) hx hb d_X_anew_52 (by decide) (fun h5 => ?_) (fun h5 => ?_)
        · refine lv_iinc (v := nI (i + 1)) (lv' := [(1, .int (nI (i + 1))), (0, .ref (a 0))]) hx hb d_X_anew_65 hl (k := 0) rfl (q_ii _) (by decide) rfl (fun ls hl => ?_)
          refine lv_goto (tgt := 35) hx hb d_X_anew_68 (by decide) ?_
          exact ih (i + 1) (by omega) (by omega) g H locs ls (by rw [q_it, ← hg, q_an, if_pos h5]) hP hD hS (lv_sub hl [0, 1] rfl)
        · refine lv_aload_n hx hb d_X_anew_55 rfl (lv_at hl 1 rfl) ?_
          refine lv_aload_n hx hb d_X_anew_56 rfl (lv_at hl 1 rfl) ?_
          refine w_get i_X hx hb hT hown hK hP 0 rfl rfl 0 (by decide) tb_88 rfl d_X_anew_57 ?_
          refine lv_iload_n hx hb d_X_anew_60 rfl (lv_at hl 0 rfl) ?_
          refine w_aald hx hb hK hP 1 0 rfl rfl (by omega) (by decide) d_X_anew_61 ?_
          refine w_callN (As := [.ref (ca i)]) (rest := []) ⟨hx, hb, hml, hown, hT⟩ (c_X_takes l D a k ca n al fr tt cc on g.2.1 g.2.2 g.1 row rm rl i hji (hft i h3).1 (hft i h3).2) (w_cwV hT ms_X_takes tb_65 ⟨by decide, by decide⟩) hK hP hD hS hA 0 0 rfl rfl rfl rfl rfl hl.1 (Nat.le_of_ble_eq_true rfl) d_X_anew_62 ⟨Nat.zero_le _, Nat.zero_le _⟩ (fun H locs hP hD hS => ?_)
          have hP : va_P D classes (xW a k ca n al fr tt cc on ((q_tk (fr i) (tt i) (cc i) (g.1, (g.2.1, g.2.2))).2.1) ((q_tk (fr i) (tt i) (cc i) (g.1, (g.2.1, g.2.2))).2.2) ((q_tk (fr i) (tt i) (cc i) (g.1, (g.2.1, g.2.2))).1) row rm rl) H := hP
          have hD : va_D A (xW a k ca n al fr tt cc on ((q_tk (fr i) (tt i) (cc i) (g.1, (g.2.1, g.2.2))).2.1) ((q_tk (fr i) (tt i) (cc i) (g.1, (g.2.1, g.2.2))).2.2) ((q_tk (fr i) (tt i) (cc i) (g.1, (g.2.1, g.2.2))).1) row rm rl) := hD
          refine lv_iinc (v := nI (i + 1)) (lv' := [(1, .int (nI (i + 1))), (0, .ref (a 0))]) hx hb d_X_anew_65 hl (k := 0) rfl (q_ii _) (by decide) rfl (fun ls hl => ?_)
          refine lv_goto (tgt := 35) hx hb d_X_anew_68 (by decide) ?_
          exact ih (i + 1) (by omega) (by omega) (q_tk (fr i) (tt i) (cc i) g) H locs ls (by rw [q_it, ← hg, q_an, if_neg (by rw [h5]; decide)]) hP hD hS (lv_sub hl [0, 1] rfl)
  have loop1 : ∀ (d i : Nat), i ≤ 400 → 400 + 1 ≤ i + d → ∀ (g : Nat → Int64) (H : Heap) (locs : List Loc) (ls : Array Slot), g = q_it (fun j g => vp_updL g j q_nev) i dir → va_P D classes (xW a k ca n al fr tt cc on ((q_clr (len, stp)).1) ((q_clr (len, stp)).2) g row rm rl) H → va_D A (xW a k ca n al fr tt cc on ((q_clr (len, stp)).1) ((q_clr (len, stp)).2) g row rm rl) → va_S A s.heap H locs → lv_has ls 2 [(1, .int (nI i)), (0, .ref (a 0))] → W p l e (q_rm 4 97) s m args below meth c H locs 0 0 Q (F0 m 9 ls []) := by
    intro d
    induction d with
    | zero => intro i h1 h2; exact absurd h2 (by omega)
    | succ d ih =>
      intro i hi_i hd_i g H locs ls hg hP hD hS hl
      refine lv_iload_n hx hb d_X_anew_9 rfl (lv_at hl 0 rfl) ?_
      refine lv_aload_n hx hb d_X_anew_10 rfl (lv_at hl 1 rfl) ?_
      refine w_get i_X hx hb hT hown hK hP 0 rfl rfl 4 (by decide) tb_92 rfl d_X_anew_11 ?_
      refine va_alen (v := nI 400) hx hb hK hP 5 3 rfl rfl rfl d_X_anew_14 ?_
      refine w_icge (tgt := 33) hx hb (by omega) (by omega) d_X_anew_15 (by decide) (fun h3 => ?_) (fun h3 => ?_)
      · have h4 : i = 400 := by omega
        rw [h4] at hg
        refine lv_iconst (v := nI 0) hx hb d_X_anew_33 (by decide) ?_
        refine lv_istore_n (lv' := [(1, .int (nI 0)), (0, .ref (a 0))]) hx hb d_X_anew_34 rfl hl (by decide) rfl (fun ls hl => ?_)
        exact loop2 (n + 1) 0 (by omega) (by omega) (g, q_clr (len, stp)) H locs ls (by rw [hg]; rfl) hP hD hS (lv_sub hl [0, 1] rfl)
      · refine lv_aload_n hx hb d_X_anew_18 rfl (lv_at hl 1 rfl) ?_
        refine w_get i_X hx hb hT hown hK hP 0 rfl rfl 4 (by decide) tb_92 rfl d_X_anew_19 ?_
        refine lv_iload_n hx hb d_X_anew_22 rfl (lv_at hl 0 rfl) ?_
        refine lv_ldc2 (v := q_nev) hx hb hown (hT _ tb_64) d_X_anew_23 ?_
        refine w_last hx hb hK hP hD hS 5 3 rfl rfl (by omega) (by decide) d_X_anew_26 (fun H locs hP hD hS => ?_)
        have hP : va_P D classes (xW a k ca n al fr tt cc on ((q_clr (len, stp)).1) ((q_clr (len, stp)).2) (vp_updL g i q_nev) row rm rl) H := hP
        have hD : va_D A (xW a k ca n al fr tt cc on ((q_clr (len, stp)).1) ((q_clr (len, stp)).2) (vp_updL g i q_nev) row rm rl) := hD
        refine lv_iinc (v := nI (i + 1)) (lv' := [(1, .int (nI (i + 1))), (0, .ref (a 0))]) hx hb d_X_anew_27 hl (k := 0) rfl (q_ii _) (by decide) rfl (fun ls hl => ?_)
        refine lv_goto (tgt := 9) hx hb d_X_anew_30 (by decide) ?_
        exact ih (i + 1) (by omega) (by omega) (vp_updL g i q_nev) H locs ls (by rw [q_it, ← hg]) hP hD hS (lv_sub hl [0, 1] rfl)
  exact loop1 401 0 (by omega) (by omega) dir H locs ls rfl hP hD hS (lv_sub hl [0, 1] rfl)
end
section
set_option maxHeartbeats 4000000 in
set_option maxRecDepth 100000 in
/-- clearRow -/
theorem c_X_clearRow (l : Launch) (D : va_G) (a : Nat → Nat) (k : Nat → ClassId) (ca : Nat → Nat) (n : Nat) (al : Int32) (fr tt : Nat → Nat) (cc : Nat → Int64) (on : Nat → Bool) (len : Nat → Int64) (stp : Nat → Int32) (dir : Nat → Int64) (row : Nat → Int32) (rm : Nat) (rl : Int64)  : Ct l y_X_clearRow b_X_clearRow 1 none 0 0 D (xT k) [.ref (a 0)] (xW a k ca n al fr tt cc on len stp dir row rm rl) (xW a k ca n al fr tt cc on len stp dir row 0 0) none := by
  refine q_enter [(0, .ref (a 0))] "TimeNet" .return_ [] (by decide) rfl (Nat.le_of_ble_eq_true rfl) rfl (Or.inr (Or.inr (Or.inr ⟨rfl, rfl, rfl, rfl⟩))) ?_
  intro p e s m args below meth c A ls Q E hK hP hD hS hA hl hE
  obtain ⟨hx, hb, hml, hr, hlk, hown, hT⟩ := E
  refine lv_aload_n hx hb d_X_clearRow_0 rfl (lv_at hl 0 rfl) ?_
  refine lv_iconst (v := nI 0) hx hb d_X_clearRow_1 (by decide) ?_
  refine w_put i_X t_X t_X_ok n_X hx hb hT hown hK hP hD hS 0 rfl rfl 6 (by decide) tb_94 rfl rfl rfl (Nat.le_of_ble_eq_true rfl) d_X_clearRow_2 (fun H locs hP hD hS => ?_)
  have hP : va_P D classes (xW a k ca n al fr tt cc on len stp dir row 0 rl) H := hP
  have hD : va_D A (xW a k ca n al fr tt cc on len stp dir row 0 rl) := hD
  refine lv_aload_n hx hb d_X_clearRow_5 rfl (lv_at hl 0 rfl) ?_
  refine lv_lconst (v := 0) hx hb d_X_clearRow_6 (by decide) ?_
  refine w_put i_X t_X t_X_ok n_X hx hb hT hown hK hP hD hS 0 rfl rfl 7 (by decide) tb_95 rfl rfl rfl (Nat.le_of_ble_eq_true rfl) d_X_clearRow_7 (fun H locs hP hD hS => ?_)
  have hP : va_P D classes (xW a k ca n al fr tt cc on len stp dir row 0 0) H := hP
  have hD : va_D A (xW a k ca n al fr tt cc on len stp dir row 0 0) := hD
  exact hE _ _ _ _ d_X_clearRow_10 hP hD hS

set_option maxHeartbeats 4000000 in
set_option maxRecDepth 100000 in
/-- tell -/
theorem c_X_tell (l : Launch) (D : va_G) (a : Nat → Nat) (k : Nat → ClassId) (ca : Nat → Nat) (n : Nat) (al : Int32) (fr tt : Nat → Nat) (cc : Nat → Int64) (on : Nat → Bool) (len : Nat → Int64) (stp : Nat → Int32) (dir : Nat → Int64) (row : Nat → Int32) (rm : Nat) (rl : Int64) (x : Int32) (hrm : rm < 22) : Ct l y_X_tell b_X_tell 2 none 0 0 D (xT k) [.ref (a 0), .int x] (xW a k ca n al fr tt cc on len stp dir row rm rl) (xW a k ca n al fr tt cc on len stp dir (upd row rm x) (rm + 1) rl) none := by
  refine q_enter [(0, .ref (a 0)), (1, .int x)] "TimeNet" .return_ [] (by decide) rfl (Nat.le_of_ble_eq_true rfl) rfl (Or.inr (Or.inr (Or.inr ⟨rfl, rfl, rfl, rfl⟩))) ?_
  intro p e s m args below meth c A ls Q E hK hP hD hS hA hl hE
  obtain ⟨hx, hb, hml, hr, hlk, hown, hT⟩ := E
  refine lv_aload_n hx hb d_X_tell_0 rfl (lv_at hl 0 rfl) ?_
  refine w_get i_X hx hb hT hown hK hP 0 rfl rfl 5 (by decide) tb_93 rfl d_X_tell_1 ?_
  refine lv_aload_n hx hb d_X_tell_4 rfl (lv_at hl 0 rfl) ?_
  refine w_get i_X hx hb hT hown hK hP 0 rfl rfl 6 (by decide) tb_94 rfl d_X_tell_5 ?_
  refine lv_iload_n hx hb d_X_tell_8 rfl (lv_at hl 1 rfl) ?_
  refine w_iast hx hb hK hP hD hS 6 4 rfl rfl (by omega) (by decide) d_X_tell_9 (fun H locs hP hD hS => ?_)
  have hP : va_P D classes (xW a k ca n al fr tt cc on len stp dir (upd row rm x) rm rl) H := hP
  have hD : va_D A (xW a k ca n al fr tt cc on len stp dir (upd row rm x) rm rl) := hD
  refine lv_aload_n hx hb d_X_tell_10 rfl (lv_at hl 0 rfl) ?_
  refine lv_dup hx hb d_X_tell_11 rfl ?_
  refine w_get i_X hx hb hT hown hK hP 0 rfl rfl 6 (by decide) tb_94 rfl d_X_tell_12 ?_
  refine lv_iconst (v := nI 1) hx hb d_X_tell_15 (by decide) ?_
  refine w_iadd hx hb d_X_tell_16 ?_
  refine w_put i_X t_X t_X_ok n_X hx hb hT hown hK hP hD hS 0 rfl rfl 6 (by decide) tb_94 rfl rfl rfl (Nat.le_of_ble_eq_true rfl) d_X_tell_17 (fun H locs hP hD hS => ?_)
  have hP : va_P D classes (xW a k ca n al fr tt cc on len stp dir (upd row rm x) (rm + 1) rl) H := hP
  have hD : va_D A (xW a k ca n al fr tt cc on len stp dir (upd row rm x) (rm + 1) rl) := hD
  exact hE _ _ _ _ d_X_tell_20 hP hD hS

set_option maxHeartbeats 4000000 in
set_option maxRecDepth 100000 in
/-- goes -/
theorem c_X_goes (l : Launch) (D : va_G) (a : Nat → Nat) (k : Nat → ClassId) (ca : Nat → Nat) (n : Nat) (al : Int32) (fr tt : Nat → Nat) (cc : Nat → Int64) (on : Nat → Bool) (len : Nat → Int64) (stp : Nat → Int32) (dir : Nat → Int64) (row : Nat → Int32) (rm : Nat) (rl : Int64) (u v z : Nat) (x : Int64) (y : Int32) (hu : u < 20) (hv : v < 20) (hz : z < 20) : Ct l y_X_goes b_X_goes 9 (some .boolean) 2 43 D (xT k) [.ref (a 0), .int (nI u), .int (nI v), .int (nI z), .long x, .int y] (xW a k ca n al fr tt cc on len stp dir row rm rl) (xW a k ca n al fr tt cc on len stp dir row rm rl) (some (.int (q_b (q_go dir len stp u v z x y)))) := by
  refine q_enter [(0, .ref (a 0)), (1, .int (nI u)), (2, .int (nI v)), (3, .int (nI z)), (4, .long x), (6, .int y)] "TimeNet" .ireturn [.int (q_b (q_go dir len stp u v z x y))] (by decide) rfl (Nat.le_of_ble_eq_true rfl) rfl (Or.inr (Or.inl ⟨rfl, rfl, _, rfl, rfl⟩)) ?_
  intro p e s m args below meth c A ls Q E hK hP hD hS hA hl hE
  obtain ⟨hx, hb, hml, hr, hlk, hown, hT⟩ := E
  refine lv_aload_n hx hb d_X_goes_0 rfl (lv_at hl 0 rfl) ?_
  refine w_get i_X hx hb hT hown hK hP 0 rfl rfl 4 (by decide) tb_92 rfl d_X_goes_1 ?_
  refine lv_iload_n hx hb d_X_goes_4 rfl (lv_at hl 1 rfl) ?_
  refine lv_iload_n hx hb d_X_goes_5 rfl (lv_at hl 2 rfl) ?_
  refine w_callS (v := .int (nI (20 * u + v))) (As := [.int (nI u), .int (nI v)]) (rest := [.ref (a 5)]) ⟨hx, hb, hml, hown, hT⟩ (c_P_at l u v) (w_cwS hT ms_P_at tb_69 ⟨by decide, by decide⟩) rfl rfl hl.1 (Nat.le_of_ble_eq_true rfl) d_X_goes_6 ⟨Nat.zero_le _, Nat.zero_le _⟩ ?_
  refine w_lald hx hb hK hP 5 3 rfl rfl (by omega) (by decide) d_X_goes_9 ?_
  refine lv_lstore (lv' := [(7, .long (dir (20 * u + v))), (0, .ref (a 0)), (1, .int (nI u)), (2, .int (nI v)), (3, .int (nI z)), (4, .long x), (6, .int y)]) hx hb d_X_goes_10 hl (by decide) rfl (fun ls hl => ?_)
  refine lv_lload hx hb d_X_goes_12 (lv_at hl 0 rfl) ?_
  refine lv_ldc2 (v := q_nev) hx hb hown (hT _ tb_64) d_X_goes_14 ?_
  refine w_lceq (tgt := 79) hx hb d_X_goes_17 d_X_goes_18 (by decide) (fun h1 => ?_) (fun h1 => ?_)
  · refine lv_iconst (v := nI 0) hx hb d_X_goes_79 (by decide) ?_
    refine w_top (y := .int (q_b (q_go dir len stp u v z x y))) (by rw [show q_go dir len stp u v z x y = false by simp [q_go, h1]]; rfl) ?_
    exact hE _ _ _ _ d_X_goes_80 hP hD hS
  · refine lv_aload_n hx hb d_X_goes_21 rfl (lv_at hl 1 rfl) ?_
    refine w_get i_X hx hb hT hown hK hP 0 rfl rfl 3 (by decide) tb_91 rfl d_X_goes_22 ?_
    refine lv_iload_n hx hb d_X_goes_25 rfl (lv_at hl 3 rfl) ?_
    refine lv_iload_n hx hb d_X_goes_26 rfl (lv_at hl 4 rfl) ?_
    refine w_callV (As := [.int (nI v), .int (nI z)]) (rest := []) ⟨hx, hb, hml, hown, hT⟩ (c_P_has l D a k ca n al fr tt cc on len stp dir row rm rl v z hv hz) (w_cwV hT ms_P_has tb_126 ⟨by decide, by decide⟩) hK hP hD hS hA 2 1 rfl rfl rfl rfl rfl hl.1 (Nat.le_of_ble_eq_true rfl) d_X_goes_27 ⟨Nat.zero_le _, Nat.zero_le _⟩ (fun H locs hP hD hS => ?_)
    refine w_ifeqB (tgt := 79) hx hb d_X_goes_30 (by decide) (fun h2 => ?_) (fun h2 => ?_)
    · refine lv_iconst (v := nI 0) hx hb d_X_goes_79 (by decide) ?_
      refine w_top (y := .int (q_b (q_go dir len stp u v z x y))) (by rw [show q_go dir len stp u v z x y = false by simp [q_go, h2]]; rfl) ?_
      exact hE _ _ _ _ d_X_goes_80 hP hD hS
    · refine lv_aload_n hx hb d_X_goes_33 rfl (lv_at hl 1 rfl) ?_
      refine w_get i_X hx hb hT hown hK hP 0 rfl rfl 3 (by decide) tb_91 rfl d_X_goes_34 ?_
      refine w_get i_P hx hb hT hown hK hP 2 rfl rfl 0 (by decide) tb_27 rfl d_X_goes_37 ?_
      refine lv_iload_n hx hb d_X_goes_40 rfl (lv_at hl 3 rfl) ?_
      refine lv_iload_n hx hb d_X_goes_41 rfl (lv_at hl 4 rfl) ?_
      refine w_callS (v := .int (nI (20 * v + z))) (As := [.int (nI v), .int (nI z)]) (rest := [.ref (a 3)]) ⟨hx, hb, hml, hown, hT⟩ (c_P_at l v z) (w_cwS hT ms_P_at tb_69 ⟨by decide, by decide⟩) rfl rfl hl.1 (Nat.le_of_ble_eq_true rfl) d_X_goes_42 ⟨Nat.zero_le _, Nat.zero_le _⟩ ?_
      refine w_lald hx hb hK hP 3 1 rfl rfl (by omega) (by decide) d_X_goes_45 ?_
      refine lv_lload hx hb d_X_goes_46 (lv_at hl 5 rfl) ?_
      refine lv_lload hx hb d_X_goes_48 (lv_at hl 0 rfl) ?_
      refine lv_lsub hx hb d_X_goes_50 ?_
      refine w_lcne (tgt := 79) hx hb d_X_goes_51 d_X_goes_52 (by decide) (fun h3 => ?_) (fun h3 => ?_)
      · refine lv_iconst (v := nI 0) hx hb d_X_goes_79 (by decide) ?_
        refine w_top (y := .int (q_b (q_go dir len stp u v z x y))) (by rw [show q_go dir len stp u v z x y = false by simp [q_go, h3]]; rfl) ?_
        exact hE _ _ _ _ d_X_goes_80 hP hD hS
      · refine lv_aload_n hx hb d_X_goes_55 rfl (lv_at hl 1 rfl) ?_
        refine w_get i_X hx hb hT hown hK hP 0 rfl rfl 3 (by decide) tb_91 rfl d_X_goes_56 ?_
        refine w_get i_P hx hb hT hown hK hP 2 rfl rfl 1 (by decide) tb_29 rfl d_X_goes_59 ?_
        refine lv_iload_n hx hb d_X_goes_62 rfl (lv_at hl 3 rfl) ?_
        refine lv_iload_n hx hb d_X_goes_63 rfl (lv_at hl 4 rfl) ?_
        refine w_callS (v := .int (nI (20 * v + z))) (As := [.int (nI v), .int (nI z)]) (rest := [.ref (a 4)]) ⟨hx, hb, hml, hown, hT⟩ (c_P_at l v z) (w_cwS hT ms_P_at tb_69 ⟨by decide, by decide⟩) rfl rfl hl.1 (Nat.le_of_ble_eq_true rfl) d_X_goes_64 ⟨Nat.zero_le _, Nat.zero_le _⟩ ?_
        refine w_iald hx hb hK hP 4 2 rfl rfl (by omega) (by decide) d_X_goes_67 ?_
        refine lv_iload hx hb d_X_goes_68 (lv_at hl 6 rfl) ?_
        refine lv_iconst (v := nI 1) hx hb d_X_goes_70 (by decide) ?_
        refine lv_isub hx hb d_X_goes_71 ?_
        refine lv_icmp_ne (tgt := 79) hx hb d_X_goes_72 (by decide) (fun h4 => ?_) (fun h4 => ?_)
        · refine lv_iconst (v := nI 0) hx hb d_X_goes_79 (by decide) ?_
          refine w_top (y := .int (q_b (q_go dir len stp u v z x y))) (by rw [show q_go dir len stp u v z x y = false by simp [q_go, h4]]; rfl) ?_
          exact hE _ _ _ _ d_X_goes_80 hP hD hS
        · refine lv_iconst (v := nI 1) hx hb d_X_goes_75 (by decide) ?_
          refine lv_goto (tgt := 80) hx hb d_X_goes_76 (by decide) ?_
          refine w_top (y := .int (q_b (q_go dir len stp u v z x y))) (by rw [show q_go dir len stp u v z x y = true by simp [q_go, h1, h2, h3, h4]]; rfl) ?_
          exact hE _ _ _ _ d_X_goes_80 hP hD hS

set_option maxHeartbeats 4000000 in
set_option maxRecDepth 100000 in
/-- follow -/
theorem c_X_follow (l : Launch) (D : va_G) (a : Nat → Nat) (k : Nat → ClassId) (ca : Nat → Nat) (n : Nat) (al : Int32) (fr tt : Nat → Nat) (cc : Nat → Int64) (on : Nat → Bool) (len : Nat → Int64) (stp : Nat → Int32) (dir : Nat → Int64) (row : Nat → Int32) (rm : Nat) (rl : Int64) (i j : Nat) (hi : i < 20) (hj : j < 20) (qs : List Nat) (hs : stp (20 * i + j) = nI qs.length) (hq : q_fol dir len stp j i (len (20 * i + j)) qs) (hlen : rm + qs.length ≤ 22) : Ct l y_X_follow b_X_follow 8 none 3 71 D (xT k) [.ref (a 0), .int (nI i), .int (nI j)] (xW a k ca n al fr tt cc on len stp dir row rm rl) (xW a k ca n al fr tt cc on len stp dir (q_app row rm qs) (rm + qs.length) rl) none := by
  refine q_enter [(0, .ref (a 0)), (1, .int (nI i)), (2, .int (nI j))] "TimeNet" .return_ [] (by decide) rfl (Nat.le_of_ble_eq_true rfl) rfl (Or.inr (Or.inr (Or.inr ⟨rfl, rfl, rfl, rfl⟩))) ?_
  intro p e s m args below meth c A ls Q E hK hP hD hS hA hl hE
  obtain ⟨hx, hb, hml, hr, hlk, hown, hT⟩ := E
  refine lv_iload_n hx hb d_X_follow_0 rfl (lv_at hl 1 rfl) ?_
  refine lv_istore_n (lv' := [(3, .int (nI i)), (0, .ref (a 0)), (1, .int (nI i)), (2, .int (nI j))]) hx hb d_X_follow_1 rfl hl (by decide) rfl (fun ls hl => ?_)
  refine lv_aload_n hx hb d_X_follow_2 rfl (lv_at hl 1 rfl) ?_
  refine w_get i_X hx hb hT hown hK hP 0 rfl rfl 3 (by decide) tb_91 rfl d_X_follow_3 ?_
  refine w_get i_P hx hb hT hown hK hP 2 rfl rfl 0 (by decide) tb_27 rfl d_X_follow_6 ?_
  refine lv_iload_n hx hb d_X_follow_9 rfl (lv_at hl 2 rfl) ?_
  refine lv_iload_n hx hb d_X_follow_10 rfl (lv_at hl 3 rfl) ?_
  refine w_callS (v := .int (nI (20 * i + j))) (As := [.int (nI i), .int (nI j)]) (rest := [.ref (a 3)]) ⟨hx, hb, hml, hown, hT⟩ (c_P_at l i j) (w_cwS hT ms_P_at tb_69 ⟨by decide, by decide⟩) rfl rfl hl.1 (Nat.le_of_ble_eq_true rfl) d_X_follow_11 ⟨Nat.zero_le _, Nat.zero_le _⟩ ?_
  refine w_lald hx hb hK hP 3 1 rfl rfl (by omega) (by decide) d_X_follow_14 ?_
  refine lv_lstore (lv' := [(4, .long (len (20 * i + j))), (3, .int (nI i)), (0, .ref (a 0)), (1, .int (nI i)), (2, .int (nI j))]) hx hb d_X_follow_15 hl (by decide) rfl (fun ls hl => ?_)
  refine lv_aload_n hx hb d_X_follow_17 rfl (lv_at hl 2 rfl) ?_
  refine w_get i_X hx hb hT hown hK hP 0 rfl rfl 3 (by decide) tb_91 rfl d_X_follow_18 ?_
  refine w_get i_P hx hb hT hown hK hP 2 rfl rfl 1 (by decide) tb_29 rfl d_X_follow_21 ?_
  refine lv_iload_n hx hb d_X_follow_24 rfl (lv_at hl 3 rfl) ?_
  refine lv_iload_n hx hb d_X_follow_25 rfl (lv_at hl 4 rfl) ?_
  refine w_callS (v := .int (nI (20 * i + j))) (As := [.int (nI i), .int (nI j)]) (rest := [.ref (a 4)]) ⟨hx, hb, hml, hown, hT⟩ (c_P_at l i j) (w_cwS hT ms_P_at tb_69 ⟨by decide, by decide⟩) rfl rfl hl.1 (Nat.le_of_ble_eq_true rfl) d_X_follow_26 ⟨Nat.zero_le _, Nat.zero_le _⟩ ?_
  refine w_iald hx hb hK hP 4 2 rfl rfl (by omega) (by decide) d_X_follow_29 ?_
  refine w_top (y := .int (nI qs.length)) (by rw [hs]) ?_
  refine lv_istore (lv' := [(6, .int (nI qs.length)), (4, .long (len (20 * i + j))), (3, .int (nI i)), (0, .ref (a 0)), (1, .int (nI i)), (2, .int (nI j))]) hx hb d_X_follow_30 hl (by decide) rfl (fun ls hl => ?_)
  have loop : ∀ (ps : List Nat) (u : Nat) (y : Int64) (row' : Nat → Int32) (rm' : Nat) (H : Heap) (locs : List Loc) (ls : Array Slot), u < 20 → q_fol dir len stp j u y ps → rm' + ps.length ≤ 22 → q_app row' rm' ps = q_app row rm qs → rm' + ps.length = rm + qs.length → va_P D classes (xW a k ca n al fr tt cc on len stp dir row' rm' rl) H → va_D A (xW a k ca n al fr tt cc on len stp dir row' rm' rl) → va_S A s.heap H locs → lv_has ls 8 [(6, .int (nI ps.length)), (4, .long y), (3, .int (nI u)), (0, .ref (a 0)), (1, .int (nI i)), (2, .int (nI j))] → W p l e (q_rm 3 71) s m args below meth c H locs 0 0 Q (F0 m 32 ls []) := by
    intro ps
    induction ps with
    | nil =>
      intro u y row' rm' H locs ls hu hf hlen happ hrm hP hD hS hl
      refine lv_iload hx hb d_X_follow_32 (lv_at hl 0 rfl) ?_
      refine w_ifle (tgt := 92) hx hb (by omega) d_X_follow_34 (by decide) (fun h1 => ?_) (fun h1 => ?_)
      · have e1 : row' = q_app row rm qs := happ
        have e2 : rm' = rm + qs.length := hrm
        rw [e1, e2] at hP hD
        exact hE _ _ _ _ d_X_follow_92 hP hD hS
      · exact absurd h1 (by simp)
    | cons q ps ih =>
      intro u y row' rm' H locs ls hu hf hlen happ hrm hP hD hS hl
      obtain ⟨hq, hgo, hmin, hrest⟩ := hf
      have hps : (q :: ps).length = ps.length + 1 := rfl
      have hl : lv_has ls 8 [(6, .int (nI (ps.length + 1))), (4, .long y), (3, .int (nI u)), (0, .ref (a 0)), (1, .int (nI i)), (2, .int (nI j))] := hl
      refine lv_iload hx hb d_X_follow_32 (lv_at hl 0 rfl) ?_
      refine w_ifle (tgt := 92) hx hb (by omega) d_X_follow_34 (by decide) (fun h1 => ?_) (fun h1 => ?_)
      · exact absurd h1 (by omega)
      · refine lv_iconst (v := nI 0) hx hb d_X_follow_37 (by decide) ?_
        refine lv_istore (lv' := [(7, .int (nI 0)), (6, .int (nI (ps.length + 1))), (4, .long y), (3, .int (nI u)), (0, .ref (a 0)), (1, .int (nI i)), (2, .int (nI j))]) hx hb d_X_follow_38 hl (by decide) rfl (fun ls hl => ?_)
        have inner : ∀ (d2 v : Nat), v ≤ q → q + 1 ≤ v + d2 → ∀ (H : Heap) (locs : List Loc) (ls : Array Slot), va_P D classes (xW a k ca n al fr tt cc on len stp dir row' rm' rl) H → va_D A (xW a k ca n al fr tt cc on len stp dir row' rm' rl) → va_S A s.heap H locs → lv_has ls 8 [(7, .int (nI v)), (6, .int (nI (ps.length + 1))), (4, .long y), (3, .int (nI u)), (0, .ref (a 0)), (1, .int (nI i)), (2, .int (nI j))] → W p l e (q_rm 3 71) s m args below meth c H locs 0 0 Q (F0 m 40 ls []) := by
          intro d2
          induction d2 with
          | zero => intro v h1 h2; exact absurd h2 (by omega)
          | succ d2 ih2 =>
            intro v hi_v hd_v H locs ls hP hD hS hl
            refine lv_aload_n hx hb d_X_follow_40 rfl (lv_at hl 4 rfl) ?_
            refine lv_iload_n hx hb d_X_follow_41 rfl (lv_at hl 3 rfl) ?_
            refine lv_iload hx hb d_X_follow_42 (lv_at hl 0 rfl) ?_
            refine lv_iload_n hx hb d_X_follow_44 rfl (lv_at hl 6 rfl) ?_
            refine lv_lload hx hb d_X_follow_45 (lv_at hl 2 rfl) ?_
            refine lv_iload hx hb d_X_follow_47 (lv_at hl 1 rfl) ?_
            refine w_callV (As := [.int (nI u), .int (nI v), .int (nI j), .long y, .int (nI (ps.length + 1))]) (rest := []) ⟨hx, hb, hml, hown, hT⟩ (c_X_goes l D a k ca n al fr tt cc on len stp dir row' rm' rl u v j y (nI (ps.length + 1)) hu (by omega) hj) (w_cwV hT ms_X_goes tb_139 ⟨by decide, by decide⟩) hK hP hD hS hA 0 0 rfl rfl rfl rfl rfl hl.1 (Nat.le_of_ble_eq_true rfl) d_X_follow_49 ⟨Nat.zero_le _, Nat.zero_le _⟩ (fun H locs hP hD hS => ?_)
            refine w_ifneB (tgt := 61) hx hb d_X_follow_52 (by decide) (fun h2 => ?_) (fun h2 => ?_)
            · obtain rfl : q = v := by
                rcases Nat.lt_or_ge v q with h9 | h9
                · exact absurd h2 (by rw [hmin v h9]; decide)
                · omega
              refine lv_lload hx hb d_X_follow_61 (lv_at hl 2 rfl) ?_
              refine lv_aload_n hx hb d_X_follow_63 rfl (lv_at hl 4 rfl) ?_
              refine w_get i_X hx hb hT hown hK hP 0 rfl rfl 4 (by decide) tb_92 rfl d_X_follow_64 ?_
              refine lv_iload_n hx hb d_X_follow_67 rfl (lv_at hl 3 rfl) ?_
              refine lv_iload hx hb d_X_follow_68 (lv_at hl 0 rfl) ?_
              refine w_callS (v := .int (nI (20 * u + q))) (As := [.int (nI u), .int (nI q)]) (rest := [.ref (a 5), .long y]) ⟨hx, hb, hml, hown, hT⟩ (c_P_at l u q) (w_cwS hT ms_P_at tb_69 ⟨by decide, by decide⟩) rfl rfl hl.1 (Nat.le_of_ble_eq_true rfl) d_X_follow_70 ⟨Nat.zero_le _, Nat.zero_le _⟩ ?_
              refine w_lald hx hb hK hP 5 3 rfl rfl (by omega) (by decide) d_X_follow_73 ?_
              refine lv_lsub hx hb d_X_follow_74 ?_
              refine lv_lstore (lv' := [(4, .long (y - (dir (20 * u + q)))), (7, .int (nI q)), (6, .int (nI (ps.length + 1))), (3, .int (nI u)), (0, .ref (a 0)), (1, .int (nI i)), (2, .int (nI j))]) hx hb d_X_follow_75 hl (by decide) rfl (fun ls hl => ?_)
              refine lv_iinc (v := nI ps.length) (lv' := [(6, .int (nI ps.length)), (4, .long (y - (dir (20 * u + q)))), (7, .int (nI q)), (3, .int (nI u)), (0, .ref (a 0)), (1, .int (nI i)), (2, .int (nI j))]) hx hb d_X_follow_77 hl (k := 2) rfl (q_im _) (by decide) rfl (fun ls hl => ?_)
              refine lv_aload_n hx hb d_X_follow_80 rfl (lv_at hl 4 rfl) ?_
              refine lv_iload hx hb d_X_follow_81 (lv_at hl 2 rfl) ?_
              refine w_callN (As := [.int (nI q)]) (rest := []) ⟨hx, hb, hml, hown, hT⟩ (c_X_tell l D a k ca n al fr tt cc on len stp dir row' rm' rl (nI q) (by omega)) (w_cwV hT ms_X_tell tb_131 ⟨by decide, by decide⟩) hK hP hD hS hA 0 0 rfl rfl rfl rfl rfl hl.1 (Nat.le_of_ble_eq_true rfl) d_X_follow_83 ⟨Nat.zero_le _, Nat.zero_le _⟩ (fun H locs hP hD hS => ?_)
              have hP : va_P D classes (xW a k ca n al fr tt cc on len stp dir (upd row' rm' (nI q)) (rm' + 1) rl) H := hP
              have hD : va_D A (xW a k ca n al fr tt cc on len stp dir (upd row' rm' (nI q)) (rm' + 1) rl) := hD
              refine lv_iload hx hb d_X_follow_86 (lv_at hl 2 rfl) ?_
              refine lv_istore_n (lv' := [(3, .int (nI q)), (6, .int (nI ps.length)), (4, .long (y - (dir (20 * u + q)))), (7, .int (nI q)), (0, .ref (a 0)), (1, .int (nI i)), (2, .int (nI j))]) hx hb d_X_follow_88 rfl hl (by decide) rfl (fun ls hl => ?_)
              refine lv_goto (tgt := 32) hx hb d_X_follow_89 (by decide) ?_
              exact ih q (y - dir (20 * u + q)) (upd row' rm' (nI q)) (rm' + 1) H locs ls hq hrest (by omega) happ (by omega) hP hD hS (lv_sub hl [1, 2, 0, 4, 5, 6] rfl)
            · have h8 : v < q := by
                rcases Nat.lt_or_ge v q with h9 | h9
                · exact h9
                · have h7 : v = q := by omega
                  rw [h7, hgo] at h2
                  exact absurd h2 (by decide)
              refine lv_iinc (v := nI (v + 1)) (lv' := [(7, .int (nI (v + 1))), (6, .int (nI (ps.length + 1))), (4, .long y), (3, .int (nI u)), (0, .ref (a 0)), (1, .int (nI i)), (2, .int (nI j))]) hx hb d_X_follow_55 hl (k := 0) rfl (q_ii _) (by decide) rfl (fun ls hl => ?_)
              refine lv_goto (tgt := 40) hx hb d_X_follow_58 (by decide) ?_
              exact ih2 (v + 1) (by omega) (by omega) H locs ls hP hD hS (lv_sub hl [0, 1, 2, 3, 4, 5, 6] rfl)
        exact inner (q + 1) 0 (by omega) (by omega) H locs ls hP hD hS (lv_sub hl [0, 1, 2, 3, 4, 5, 6] rfl)
  exact loop qs i (len (20 * i + j)) row rm _ _ ls hi hq hlen rfl rfl hP hD hS (lv_sub hl [0, 1, 2, 3, 4, 5] rfl)
end
section
def q_ref (len : Nat → Int64) (i j : Nat) (x : Int64) : Bool := q_has len j i && decide (len (20 * j + i) + x < 0)
theorem q_pt_nI {i : Nat} (h : i < 20) : q_pt (nI i) = true := by
  have h1 : ¬ nI i < 0 := nI_pos (by omega)
  have h2 : ¬ nI 20 ≤ nI i := fun q => by have := (nI_leI (by decide) (by omega)).mp q; omega
  simp [q_pt, h1, h2]
theorem q_pt_of {i : Int32} (h : q_pt i = true) : ∃ j : Nat, j < 20 ∧ i = nI j := by
  simp [q_pt] at h
  obtain ⟨j, hj, rfl⟩ := nI_of (x := i) (by
    intro q
    have h1 := h.1
    rw [Int32.le_iff_toInt_le] at h1
    rw [Int32.lt_iff_toInt_lt] at q
    omega)
  refine ⟨j, ?_, rfl⟩
  have h2 : nI j < nI 20 := h.2
  exact (nI_ltI hj (by decide)).mp h2
/-- what add doesn't take at all -/
def q_bad (i j : Int32) (x : Int64) (n : Nat) : Bool := (!(q_pt i) || !(q_pt j)) || (decide (i = j) || (decide (x < -1000000000000) || (decide (1000000000000 < x) || decide (n = 120))))
end
section
set_option maxHeartbeats 4000000 in
set_option maxRecDepth 100000 in
/-- isRefused: no -/
theorem c_X_isRefused_n (l : Launch) (D : va_G) (a : Nat → Nat) (k : Nat → ClassId) (ca : Nat → Nat) (n : Nat) (al : Int32) (fr tt : Nat → Nat) (cc : Nat → Int64) (on : Nat → Bool) (len : Nat → Int64) (stp : Nat → Int32) (dir : Nat → Int64) (row : Nat → Int32) (rm : Nat) (rl : Int64) (i j : Nat) (x : Int64) (hi : i < 20) (hj : j < 20) (h : q_ref len i j x = false) : Ct l y_X_isRefused b_X_isRefused 5 (some .boolean) 4 98 D (xT k) [.ref (a 0), .int (nI i), .int (nI j), .long x] (xW a k ca n al fr tt cc on len stp dir row rm rl) (xW a k ca n al fr tt cc on len stp dir row rm rl) (some (.int (q_b false))) := by
  refine q_enter [(0, .ref (a 0)), (1, .int (nI i)), (2, .int (nI j)), (3, .long x)] "TimeNet" .ireturn [.int (q_b false)] (by decide) rfl (Nat.le_of_ble_eq_true rfl) rfl (Or.inr (Or.inl ⟨rfl, rfl, _, rfl, rfl⟩)) ?_
  intro p e s m args below meth c A ls Q E hK hP hD hS hA hl hE
  obtain ⟨hx, hb, hml, hr, hlk, hown, hT⟩ := E
  refine lv_aload_n hx hb d_X_isRefused_0 rfl (lv_at hl 0 rfl) ?_
  refine w_get i_X hx hb hT hown hK hP 0 rfl rfl 3 (by decide) tb_91 rfl d_X_isRefused_1 ?_
  refine lv_iload_n hx hb d_X_isRefused_4 rfl (lv_at hl 2 rfl) ?_
  refine lv_iload_n hx hb d_X_isRefused_5 rfl (lv_at hl 1 rfl) ?_
  refine w_callV (As := [.int (nI j), .int (nI i)]) (rest := []) ⟨hx, hb, hml, hown, hT⟩ (c_P_has l D a k ca n al fr tt cc on len stp dir row rm rl j i hj hi) (w_cwV hT ms_P_has tb_126 ⟨by decide, by decide⟩) hK hP hD hS hA 2 1 rfl rfl rfl rfl rfl hl.1 (Nat.le_of_ble_eq_true rfl) d_X_isRefused_6 ⟨Nat.zero_le _, Nat.zero_le _⟩ (fun H locs hP hD hS => ?_)
  refine w_ifeqB (tgt := 32) hx hb d_X_isRefused_9 (by decide) (fun h1 => ?_) (fun h1 => ?_)
  · refine lv_iconst (v := nI 0) hx hb d_X_isRefused_32 (by decide) ?_
    refine w_top (y := .int (q_b false)) rfl ?_
    exact hE _ _ _ _ d_X_isRefused_33 hP hD hS
  · refine lv_aload_n hx hb d_X_isRefused_12 rfl (lv_at hl 0 rfl) ?_
    refine w_get i_X hx hb hT hown hK hP 0 rfl rfl 3 (by decide) tb_91 rfl d_X_isRefused_13 ?_
    refine w_get i_P hx hb hT hown hK hP 2 rfl rfl 0 (by decide) tb_27 rfl d_X_isRefused_16 ?_
    refine lv_iload_n hx hb d_X_isRefused_19 rfl (lv_at hl 2 rfl) ?_
    refine lv_iload_n hx hb d_X_isRefused_20 rfl (lv_at hl 1 rfl) ?_
    refine w_callS (v := .int (nI (20 * j + i))) (As := [.int (nI j), .int (nI i)]) (rest := [.ref (a 3)]) ⟨hx, hb, hml, hown, hT⟩ (c_P_at l j i) (w_cwS hT ms_P_at tb_69 ⟨by decide, by decide⟩) rfl rfl hl.1 (Nat.le_of_ble_eq_true rfl) d_X_isRefused_21 ⟨Nat.zero_le _, Nat.zero_le _⟩ ?_
    refine w_lald hx hb hK hP 3 1 rfl rfl (by omega) (by decide) d_X_isRefused_24 ?_
    refine lv_lload_n hx hb d_X_isRefused_25 rfl (lv_at hl 3 rfl) ?_
    refine lv_ladd hx hb d_X_isRefused_26 ?_
    refine lv_lconst (v := 0) hx hb d_X_isRefused_27 (by decide) ?_
    refine w_lclt (tgt := 34) hx hb d_X_isRefused_28 d_X_isRefused_29 (by decide) (fun h2 => ?_) (fun h2 => ?_)
    · exact absurd h (by simp [q_ref, h1, h2])
    · refine lv_iconst (v := nI 0) hx hb d_X_isRefused_32 (by decide) ?_
      refine w_top (y := .int (q_b false)) rfl ?_
      exact hE _ _ _ _ d_X_isRefused_33 hP hD hS

set_option maxHeartbeats 4000000 in
set_option maxRecDepth 100000 in
/-- isRefused: yes, and the row tells why -/
theorem c_X_isRefused_y (l : Launch) (D : va_G) (a : Nat → Nat) (k : Nat → ClassId) (ca : Nat → Nat) (n : Nat) (al : Int32) (fr tt : Nat → Nat) (cc : Nat → Int64) (on : Nat → Bool) (len : Nat → Int64) (stp : Nat → Int32) (dir : Nat → Int64) (row : Nat → Int32) (rm : Nat) (rl : Int64) (i j : Nat) (x : Int64) (hi : i < 20) (hj : j < 20) (h : q_ref len i j x = true) (qs : List Nat) (hs : stp (20 * j + i) = nI qs.length) (hq : q_fol dir len stp i j (len (20 * j + i)) qs) (hlen : qs.length ≤ 20) : Ct l y_X_isRefused b_X_isRefused 5 (some .boolean) 4 98 D (xT k) [.ref (a 0), .int (nI i), .int (nI j), .long x] (xW a k ca n al fr tt cc on len stp dir row rm rl) (xW a k ca n al fr tt cc on len stp dir (q_app (upd (upd row 0 (nI i)) 1 (nI j)) 2 qs) (2 + qs.length) (len (20 * j + i) + x)) (some (.int (q_b true))) := by
  refine q_enter [(0, .ref (a 0)), (1, .int (nI i)), (2, .int (nI j)), (3, .long x)] "TimeNet" .ireturn [.int (q_b true)] (by decide) rfl (Nat.le_of_ble_eq_true rfl) rfl (Or.inr (Or.inl ⟨rfl, rfl, _, rfl, rfl⟩)) ?_
  intro p e s m args below meth c A ls Q E hK hP hD hS hA hl hE
  obtain ⟨hx, hb, hml, hr, hlk, hown, hT⟩ := E
  refine lv_aload_n hx hb d_X_isRefused_0 rfl (lv_at hl 0 rfl) ?_
  refine w_get i_X hx hb hT hown hK hP 0 rfl rfl 3 (by decide) tb_91 rfl d_X_isRefused_1 ?_
  refine lv_iload_n hx hb d_X_isRefused_4 rfl (lv_at hl 2 rfl) ?_
  refine lv_iload_n hx hb d_X_isRefused_5 rfl (lv_at hl 1 rfl) ?_
  refine w_callV (As := [.int (nI j), .int (nI i)]) (rest := []) ⟨hx, hb, hml, hown, hT⟩ (c_P_has l D a k ca n al fr tt cc on len stp dir row rm rl j i hj hi) (w_cwV hT ms_P_has tb_126 ⟨by decide, by decide⟩) hK hP hD hS hA 2 1 rfl rfl rfl rfl rfl hl.1 (Nat.le_of_ble_eq_true rfl) d_X_isRefused_6 ⟨Nat.zero_le _, Nat.zero_le _⟩ (fun H locs hP hD hS => ?_)
  refine w_ifeqB (tgt := 32) hx hb d_X_isRefused_9 (by decide) (fun h1 => ?_) (fun h1 => ?_)
  · exact absurd h (by simp [q_ref, h1])
  · refine lv_aload_n hx hb d_X_isRefused_12 rfl (lv_at hl 0 rfl) ?_
    refine w_get i_X hx hb hT hown hK hP 0 rfl rfl 3 (by decide) tb_91 rfl d_X_isRefused_13 ?_
    refine w_get i_P hx hb hT hown hK hP 2 rfl rfl 0 (by decide) tb_27 rfl d_X_isRefused_16 ?_
    refine lv_iload_n hx hb d_X_isRefused_19 rfl (lv_at hl 2 rfl) ?_
    refine lv_iload_n hx hb d_X_isRefused_20 rfl (lv_at hl 1 rfl) ?_
    refine w_callS (v := .int (nI (20 * j + i))) (As := [.int (nI j), .int (nI i)]) (rest := [.ref (a 3)]) ⟨hx, hb, hml, hown, hT⟩ (c_P_at l j i) (w_cwS hT ms_P_at tb_69 ⟨by decide, by decide⟩) rfl rfl hl.1 (Nat.le_of_ble_eq_true rfl) d_X_isRefused_21 ⟨Nat.zero_le _, Nat.zero_le _⟩ ?_
    refine w_lald hx hb hK hP 3 1 rfl rfl (by omega) (by decide) d_X_isRefused_24 ?_
    refine lv_lload_n hx hb d_X_isRefused_25 rfl (lv_at hl 3 rfl) ?_
    refine lv_ladd hx hb d_X_isRefused_26 ?_
    refine lv_lconst (v := 0) hx hb d_X_isRefused_27 (by decide) ?_
    refine w_lclt (tgt := 34) hx hb d_X_isRefused_28 d_X_isRefused_29 (by decide) (fun h2 => ?_) (fun h2 => ?_)
    · refine lv_aload_n hx hb d_X_isRefused_34 rfl (lv_at hl 0 rfl) ?_
      refine w_callN (As := []) (rest := []) ⟨hx, hb, hml, hown, hT⟩ (c_X_clearRow l D a k ca n al fr tt cc on len stp dir row rm rl ) (w_cwV hT ms_X_clearRow tb_127 ⟨by decide, by decide⟩) hK hP hD hS hA 0 0 rfl rfl rfl rfl rfl hl.1 (Nat.le_of_ble_eq_true rfl) d_X_isRefused_35 ⟨Nat.zero_le _, Nat.zero_le _⟩ (fun H locs hP hD hS => ?_)
      have hP : va_P D classes (xW a k ca n al fr tt cc on len stp dir row 0 0) H := hP
      have hD : va_D A (xW a k ca n al fr tt cc on len stp dir row 0 0) := hD
      refine lv_aload_n hx hb d_X_isRefused_38 rfl (lv_at hl 0 rfl) ?_
      refine lv_iload_n hx hb d_X_isRefused_39 rfl (lv_at hl 1 rfl) ?_
      refine w_callN (As := [.int (nI i)]) (rest := []) ⟨hx, hb, hml, hown, hT⟩ (c_X_tell l D a k ca n al fr tt cc on len stp dir row 0 0 (nI i) (by omega)) (w_cwV hT ms_X_tell tb_131 ⟨by decide, by decide⟩) hK hP hD hS hA 0 0 rfl rfl rfl rfl rfl hl.1 (Nat.le_of_ble_eq_true rfl) d_X_isRefused_40 ⟨Nat.zero_le _, Nat.zero_le _⟩ (fun H locs hP hD hS => ?_)
      have hP : va_P D classes (xW a k ca n al fr tt cc on len stp dir (upd row 0 (nI i)) (0 + 1) 0) H := hP
      have hD : va_D A (xW a k ca n al fr tt cc on len stp dir (upd row 0 (nI i)) (0 + 1) 0) := hD
      refine lv_aload_n hx hb d_X_isRefused_43 rfl (lv_at hl 0 rfl) ?_
      refine lv_iload_n hx hb d_X_isRefused_44 rfl (lv_at hl 2 rfl) ?_
      refine w_callN (As := [.int (nI j)]) (rest := []) ⟨hx, hb, hml, hown, hT⟩ (c_X_tell l D a k ca n al fr tt cc on len stp dir (upd row 0 (nI i)) (0 + 1) 0 (nI j) (by omega)) (w_cwV hT ms_X_tell tb_131 ⟨by decide, by decide⟩) hK hP hD hS hA 0 0 rfl rfl rfl rfl rfl hl.1 (Nat.le_of_ble_eq_true rfl) d_X_isRefused_45 ⟨Nat.zero_le _, Nat.zero_le _⟩ (fun H locs hP hD hS => ?_)
      have hP : va_P D classes (xW a k ca n al fr tt cc on len stp dir (upd (upd row 0 (nI i)) (0 + 1) (nI j)) (0 + 1 + 1) 0) H := hP
      have hD : va_D A (xW a k ca n al fr tt cc on len stp dir (upd (upd row 0 (nI i)) (0 + 1) (nI j)) (0 + 1 + 1) 0) := hD
      refine lv_aload_n hx hb d_X_isRefused_48 rfl (lv_at hl 0 rfl) ?_
      refine lv_iload_n hx hb d_X_isRefused_49 rfl (lv_at hl 2 rfl) ?_
      refine lv_iload_n hx hb d_X_isRefused_50 rfl (lv_at hl 1 rfl) ?_
      refine w_callN (As := [.int (nI j), .int (nI i)]) (rest := []) ⟨hx, hb, hml, hown, hT⟩ (c_X_follow l D a k ca n al fr tt cc on len stp dir (upd (upd row 0 (nI i)) (0 + 1) (nI j)) (0 + 1 + 1) 0 j i hj hi qs hs hq (by omega)) (w_cwV hT ms_X_follow tb_135 ⟨by decide, by decide⟩) hK hP hD hS hA 0 0 rfl rfl rfl rfl rfl hl.1 (Nat.le_of_ble_eq_true rfl) d_X_isRefused_51 ⟨Nat.zero_le _, Nat.zero_le _⟩ (fun H locs hP hD hS => ?_)
      have hP : va_P D classes (xW a k ca n al fr tt cc on len stp dir (q_app (upd (upd row 0 (nI i)) (0 + 1) (nI j)) (0 + 1 + 1) qs) (0 + 1 + 1 + qs.length) 0) H := hP
      have hD : va_D A (xW a k ca n al fr tt cc on len stp dir (q_app (upd (upd row 0 (nI i)) (0 + 1) (nI j)) (0 + 1 + 1) qs) (0 + 1 + 1 + qs.length) 0) := hD
      refine lv_aload_n hx hb d_X_isRefused_54 rfl (lv_at hl 0 rfl) ?_
      refine lv_aload_n hx hb d_X_isRefused_55 rfl (lv_at hl 0 rfl) ?_
      refine w_get i_X hx hb hT hown hK hP 0 rfl rfl 3 (by decide) tb_91 rfl d_X_isRefused_56 ?_
      refine w_get i_P hx hb hT hown hK hP 2 rfl rfl 0 (by decide) tb_27 rfl d_X_isRefused_59 ?_
      refine lv_iload_n hx hb d_X_isRefused_62 rfl (lv_at hl 2 rfl) ?_
      refine lv_iload_n hx hb d_X_isRefused_63 rfl (lv_at hl 1 rfl) ?_
      refine w_callS (v := .int (nI (20 * j + i))) (As := [.int (nI j), .int (nI i)]) (rest := [.ref (a 3), .ref (a 0)]) ⟨hx, hb, hml, hown, hT⟩ (c_P_at l j i) (w_cwS hT ms_P_at tb_69 ⟨by decide, by decide⟩) rfl rfl hl.1 (Nat.le_of_ble_eq_true rfl) d_X_isRefused_64 ⟨Nat.zero_le _, Nat.zero_le _⟩ ?_
      refine w_lald hx hb hK hP 3 1 rfl rfl (by omega) (by decide) d_X_isRefused_67 ?_
      refine lv_lload_n hx hb d_X_isRefused_68 rfl (lv_at hl 3 rfl) ?_
      refine lv_ladd hx hb d_X_isRefused_69 ?_
      refine w_put i_X t_X t_X_ok n_X hx hb hT hown hK hP hD hS 0 rfl rfl 7 (by decide) tb_95 rfl rfl rfl (Nat.le_of_ble_eq_true rfl) d_X_isRefused_70 (fun H locs hP hD hS => ?_)
      have hP : va_P D classes (xW a k ca n al fr tt cc on len stp dir (q_app (upd (upd row 0 (nI i)) (0 + 1) (nI j)) (0 + 1 + 1) qs) (0 + 1 + 1 + qs.length) ((len (20 * j + i)) + x)) H := hP
      have hD : va_D A (xW a k ca n al fr tt cc on len stp dir (q_app (upd (upd row 0 (nI i)) (0 + 1) (nI j)) (0 + 1 + 1) qs) (0 + 1 + 1 + qs.length) ((len (20 * j + i)) + x)) := hD
      refine lv_iconst (v := nI 1) hx hb d_X_isRefused_73 (by decide) ?_
      refine w_top (y := .int (q_b true)) rfl ?_
      exact hE _ _ _ _ d_X_isRefused_74 hP hD hS
    · exact absurd h (by simp [q_ref, h2])

set_option maxHeartbeats 4000000 in
set_option maxRecDepth 100000 in
/-- add: not taken -/
theorem c_X_add_n (l : Launch) (D : va_G) (a : Nat → Nat) (k : Nat → ClassId) (ca : Nat → Nat) (n : Nat) (al : Int32) (fr tt : Nat → Nat) (cc : Nat → Int64) (on : Nat → Bool) (len : Nat → Int64) (stp : Nat → Int32) (dir : Nat → Int64) (row : Nat → Int32) (rm : Nat) (rl : Int64) (i j : Int32) (x : Int64) (hn : n ≤ 120) (h : q_bad i j x n = true) : Ct l y_X_add b_X_add 6 (some .int) 5 122 D (xT k) [.ref (a 0), .int i, .int j, .long x] (xW a k ca n al fr tt cc on len stp dir row rm rl) (xW a k ca n al fr tt cc on len stp dir row rm rl) (some (.int (-1))) := by
  refine q_enter [(0, .ref (a 0)), (1, .int i), (2, .int j), (3, .long x)] "TimeNet" .ireturn [.int (-1)] (by decide) rfl (Nat.le_of_ble_eq_true rfl) rfl (Or.inl ⟨rfl, rfl, _, rfl, rfl⟩) ?_
  intro p e s m args below meth c A ls Q E hK hP hD hS hA hl hE
  obtain ⟨hx, hb, hml, hr, hlk, hown, hT⟩ := E
  refine lv_iload_n hx hb d_X_add_0 rfl (lv_at hl 1 rfl) ?_
  refine w_callS (v := .int (q_b (q_pt i))) (As := [.int i]) (rest := []) ⟨hx, hb, hml, hown, hT⟩ (c_X_isPoint l i) (w_cwS hT ms_X_isPoint tb_117 ⟨by decide, by decide⟩) rfl rfl hl.1 (Nat.le_of_ble_eq_true rfl) d_X_add_1 ⟨Nat.zero_le _, Nat.zero_le _⟩ ?_
  refine w_ifeqB (tgt := 44) hx hb d_X_add_4 (by decide) (fun h1 => ?_) (fun h1 => ?_)
  · refine lv_iconst (v := (-1)) hx hb d_X_add_44 (by decide) ?_
    exact hE _ _ _ _ d_X_add_45 hP hD hS
  · refine lv_iload_n hx hb d_X_add_7 rfl (lv_at hl 2 rfl) ?_
    refine w_callS (v := .int (q_b (q_pt j))) (As := [.int j]) (rest := []) ⟨hx, hb, hml, hown, hT⟩ (c_X_isPoint l j) (w_cwS hT ms_X_isPoint tb_117 ⟨by decide, by decide⟩) rfl rfl hl.1 (Nat.le_of_ble_eq_true rfl) d_X_add_8 ⟨Nat.zero_le _, Nat.zero_le _⟩ ?_
    refine w_ifeqB (tgt := 44) hx hb d_X_add_11 (by decide) (fun h2 => ?_) (fun h2 => ?_)
    · refine lv_iconst (v := (-1)) hx hb d_X_add_44 (by decide) ?_
      exact hE _ _ _ _ d_X_add_45 hP hD hS
    · refine lv_iload_n hx hb d_X_add_14 rfl (lv_at hl 1 rfl) ?_
      refine lv_iload_n hx hb d_X_add_15 rfl (lv_at hl 2 rfl) ?_
      refine lv_icmp_eq (tgt := 44) hx hb d_X_add_16 (by decide) (fun h3 => ?_) (fun h3 => ?_)
      · refine lv_iconst (v := (-1)) hx hb d_X_add_44 (by decide) ?_
        exact hE _ _ _ _ d_X_add_45 hP hD hS
      · refine lv_lload_n hx hb d_X_add_19 rfl (lv_at hl 3 rfl) ?_
        refine lv_ldc2 (v := (-1000000000000)) hx hb hown (hT _ tb_120) d_X_add_20 ?_
        refine w_lclt (tgt := 44) hx hb d_X_add_23 d_X_add_24 (by decide) (fun h4 => ?_) (fun h4 => ?_)
        · refine lv_iconst (v := (-1)) hx hb d_X_add_44 (by decide) ?_
          exact hE _ _ _ _ d_X_add_45 hP hD hS
        · refine lv_lload_n hx hb d_X_add_27 rfl (lv_at hl 3 rfl) ?_
          refine lv_ldc2 (v := 1000000000000) hx hb hown (hT _ tb_121) d_X_add_28 ?_
          refine w_lcgt (tgt := 44) hx hb d_X_add_31 d_X_add_32 (by decide) (fun h5 => ?_) (fun h5 => ?_)
          · refine lv_iconst (v := (-1)) hx hb d_X_add_44 (by decide) ?_
            exact hE _ _ _ _ d_X_add_45 hP hD hS
          · refine lv_aload_n hx hb d_X_add_35 rfl (lv_at hl 0 rfl) ?_
            refine w_get i_X hx hb hT hown hK hP 0 rfl rfl 1 (by decide) tb_89 rfl d_X_add_36 ?_
            refine lv_bipush (v := nI 120) hx hb d_X_add_39 (by decide) ?_
            refine w_icne (tgt := 46) hx hb (by omega) (by omega) d_X_add_41 (by decide) (fun h6 => ?_) (fun h6 => ?_)
            · exact absurd h (by simp [q_bad, h1, h2, h3, h4, h5, h6])
            · refine lv_iconst (v := (-1)) hx hb d_X_add_44 (by decide) ?_
              exact hE _ _ _ _ d_X_add_45 hP hD hS

set_option maxHeartbeats 4000000 in
set_option maxRecDepth 100000 in
/-- add: refused -/
theorem c_X_add_r (l : Launch) (D : va_G) (a : Nat → Nat) (k : Nat → ClassId) (ca : Nat → Nat) (n : Nat) (al : Int32) (fr tt : Nat → Nat) (cc : Nat → Int64) (on : Nat → Bool) (len : Nat → Int64) (stp : Nat → Int32) (dir : Nat → Int64) (row : Nat → Int32) (rm : Nat) (rl : Int64) (i j : Nat) (x : Int64) (hi : i < 20) (hj : j < 20) (hij : i ≠ j) (hx1 : ¬ x < (-1000000000000)) (hx2 : ¬ 1000000000000 < x) (hn : n < 120) (h : q_ref len i j x = true) (qs : List Nat) (hs : stp (20 * j + i) = nI qs.length) (hq : q_fol dir len stp i j (len (20 * j + i)) qs) (hlen : qs.length ≤ 20) : Ct l y_X_add b_X_add 6 (some .int) 5 122 D (xT k) [.ref (a 0), .int (nI i), .int (nI j), .long x] (xW a k ca n al fr tt cc on len stp dir row rm rl) (xW a k ca n al fr tt cc on len stp dir (q_app (upd (upd row 0 (nI i)) 1 (nI j)) 2 qs) (2 + qs.length) (len (20 * j + i) + x)) (some (.int (-2))) := by
  refine q_enter [(0, .ref (a 0)), (1, .int (nI i)), (2, .int (nI j)), (3, .long x)] "TimeNet" .ireturn [.int (-2)] (by decide) rfl (Nat.le_of_ble_eq_true rfl) rfl (Or.inl ⟨rfl, rfl, _, rfl, rfl⟩) ?_
  intro p e s m args below meth c A ls Q E hK hP hD hS hA hl hE
  obtain ⟨hx, hb, hml, hr, hlk, hown, hT⟩ := E
  refine lv_iload_n hx hb d_X_add_0 rfl (lv_at hl 1 rfl) ?_
  refine w_callS (v := .int (q_b (q_pt (nI i)))) (As := [.int (nI i)]) (rest := []) ⟨hx, hb, hml, hown, hT⟩ (c_X_isPoint l (nI i)) (w_cwS hT ms_X_isPoint tb_117 ⟨by decide, by decide⟩) rfl rfl hl.1 (Nat.le_of_ble_eq_true rfl) d_X_add_1 ⟨Nat.zero_le _, Nat.zero_le _⟩ ?_
  refine w_ifeqB (tgt := 44) hx hb d_X_add_4 (by decide) (fun h1 => ?_) (fun h1 => ?_)
  · exact absurd h1 (by rw [q_pt_nI hi]; decide)
  · refine lv_iload_n hx hb d_X_add_7 rfl (lv_at hl 2 rfl) ?_
    refine w_callS (v := .int (q_b (q_pt (nI j)))) (As := [.int (nI j)]) (rest := []) ⟨hx, hb, hml, hown, hT⟩ (c_X_isPoint l (nI j)) (w_cwS hT ms_X_isPoint tb_117 ⟨by decide, by decide⟩) rfl rfl hl.1 (Nat.le_of_ble_eq_true rfl) d_X_add_8 ⟨Nat.zero_le _, Nat.zero_le _⟩ ?_
    refine w_ifeqB (tgt := 44) hx hb d_X_add_11 (by decide) (fun h2 => ?_) (fun h2 => ?_)
    · exact absurd h2 (by rw [q_pt_nI hj]; decide)
    · refine lv_iload_n hx hb d_X_add_14 rfl (lv_at hl 1 rfl) ?_
      refine lv_iload_n hx hb d_X_add_15 rfl (lv_at hl 2 rfl) ?_
      refine w_iceq (tgt := 44) hx hb (by omega) (by omega) d_X_add_16 (by decide) (fun h3 => ?_) (fun h3 => ?_)
      · exact absurd h3 hij
      · refine lv_lload_n hx hb d_X_add_19 rfl (lv_at hl 3 rfl) ?_
        refine lv_ldc2 (v := (-1000000000000)) hx hb hown (hT _ tb_120) d_X_add_20 ?_
        refine w_lclt (tgt := 44) hx hb d_X_add_23 d_X_add_24 (by decide) (fun h4 => ?_) (fun h4 => ?_)
        · exact absurd h4 hx1
        · refine lv_lload_n hx hb d_X_add_27 rfl (lv_at hl 3 rfl) ?_
          refine lv_ldc2 (v := 1000000000000) hx hb hown (hT _ tb_121) d_X_add_28 ?_
          refine w_lcgt (tgt := 44) hx hb d_X_add_31 d_X_add_32 (by decide) (fun h5 => ?_) (fun h5 => ?_)
          · exact absurd h5 hx2
          · refine lv_aload_n hx hb d_X_add_35 rfl (lv_at hl 0 rfl) ?_
            refine w_get i_X hx hb hT hown hK hP 0 rfl rfl 1 (by decide) tb_89 rfl d_X_add_36 ?_
            refine lv_bipush (v := nI 120) hx hb d_X_add_39 (by decide) ?_
            refine w_icne (tgt := 46) hx hb (by omega) (by omega) d_X_add_41 (by decide) (fun h6 => ?_) (fun h6 => ?_)
            · refine lv_aload_n hx hb d_X_add_46 rfl (lv_at hl 0 rfl) ?_
              refine lv_iload_n hx hb d_X_add_47 rfl (lv_at hl 1 rfl) ?_
              refine lv_iload_n hx hb d_X_add_48 rfl (lv_at hl 2 rfl) ?_
              refine lv_lload_n hx hb d_X_add_49 rfl (lv_at hl 3 rfl) ?_
              refine w_callV (As := [.int (nI i), .int (nI j), .long x]) (rest := []) ⟨hx, hb, hml, hown, hT⟩ (c_X_isRefused_y l D a k ca n al fr tt cc on len stp dir row rm rl i j x hi hj h qs hs hq hlen) (w_cwV hT ms_X_isRefused tb_122 ⟨by decide, by decide⟩) hK hP hD hS hA 0 0 rfl rfl rfl rfl rfl hl.1 (Nat.le_of_ble_eq_true rfl) d_X_add_50 ⟨Nat.zero_le _, Nat.zero_le _⟩ (fun H locs hP hD hS => ?_)
              have hP : va_P D classes (xW a k ca n al fr tt cc on len stp dir (q_app (upd (upd row 0 (nI i)) 1 (nI j)) 2 qs) (2 + qs.length) (len (20 * j + i) + x)) H := hP
              have hD : va_D A (xW a k ca n al fr tt cc on len stp dir (q_app (upd (upd row 0 (nI i)) 1 (nI j)) 2 qs) (2 + qs.length) (len (20 * j + i) + x)) := hD
              refine w_ifeqB (tgt := 59) hx hb d_X_add_53 (by decide) (fun h7 => ?_) (fun h7 => ?_)
              · exact absurd h7 (by decide)
              · refine lv_bipush (v := (-2)) hx hb d_X_add_56 (by decide) ?_
                exact hE _ _ _ _ d_X_add_58 hP hD hS
            · exact absurd h6 (by omega)

set_option maxHeartbeats 4000000 in
set_option maxRecDepth 100000 in
/-- add: taken -/
theorem c_X_add_y (l : Launch) (D : va_G) (a : Nat → Nat) (k : Nat → ClassId) (ca : Nat → Nat) (n : Nat) (al : Int32) (fr tt : Nat → Nat) (cc : Nat → Int64) (on : Nat → Bool) (len : Nat → Int64) (stp : Nat → Int32) (dir : Nat → Int64) (row : Nat → Int32) (rm : Nat) (rl : Int64) (i j : Nat) (x : Int64) (hi : i < 20) (hj : j < 20) (hij : i ≠ j) (hx1 : ¬ x < (-1000000000000)) (hx2 : ¬ 1000000000000 < x) (hn : n < 120) (h : q_ref len i j x = false) : Ct l y_X_add b_X_add 6 (some .int) 5 122 D (xT k) [.ref (a 0), .int (nI i), .int (nI j), .long x] (xW a k ca n al fr tt cc on len stp dir row rm rl) (xW a k ca (n + 1) (al + nI 1) (va_up fr n i) (va_up tt n j) (va_up cc n x) (va_up on n true) ((q_tk i j x (dir, (len, stp))).2.1) ((q_tk i j x (dir, (len, stp))).2.2) ((q_tk i j x (dir, (len, stp))).1) row rm rl) (some (.int (nI n))) := by
  refine q_enter [(0, .ref (a 0)), (1, .int (nI i)), (2, .int (nI j)), (3, .long x)] "TimeNet" .ireturn [.int (nI n)] (by decide) rfl (Nat.le_of_ble_eq_true rfl) rfl (Or.inl ⟨rfl, rfl, _, rfl, rfl⟩) ?_
  intro p e s m args below meth c A ls Q E hK hP hD hS hA hl hE
  obtain ⟨hx, hb, hml, hr, hlk, hown, hT⟩ := E
  refine lv_iload_n hx hb d_X_add_0 rfl (lv_at hl 1 rfl) ?_
  refine w_callS (v := .int (q_b (q_pt (nI i)))) (As := [.int (nI i)]) (rest := []) ⟨hx, hb, hml, hown, hT⟩ (c_X_isPoint l (nI i)) (w_cwS hT ms_X_isPoint tb_117 ⟨by decide, by decide⟩) rfl rfl hl.1 (Nat.le_of_ble_eq_true rfl) d_X_add_1 ⟨Nat.zero_le _, Nat.zero_le _⟩ ?_
  refine w_ifeqB (tgt := 44) hx hb d_X_add_4 (by decide) (fun h1 => ?_) (fun h1 => ?_)
  · exact absurd h1 (by rw [q_pt_nI hi]; decide)
  · refine lv_iload_n hx hb d_X_add_7 rfl (lv_at hl 2 rfl) ?_
    refine w_callS (v := .int (q_b (q_pt (nI j)))) (As := [.int (nI j)]) (rest := []) ⟨hx, hb, hml, hown, hT⟩ (c_X_isPoint l (nI j)) (w_cwS hT ms_X_isPoint tb_117 ⟨by decide, by decide⟩) rfl rfl hl.1 (Nat.le_of_ble_eq_true rfl) d_X_add_8 ⟨Nat.zero_le _, Nat.zero_le _⟩ ?_
    refine w_ifeqB (tgt := 44) hx hb d_X_add_11 (by decide) (fun h2 => ?_) (fun h2 => ?_)
    · exact absurd h2 (by rw [q_pt_nI hj]; decide)
    · refine lv_iload_n hx hb d_X_add_14 rfl (lv_at hl 1 rfl) ?_
      refine lv_iload_n hx hb d_X_add_15 rfl (lv_at hl 2 rfl) ?_
      refine w_iceq (tgt := 44) hx hb (by omega) (by omega) d_X_add_16 (by decide) (fun h3 => ?_) (fun h3 => ?_)
      · exact absurd h3 hij
      · refine lv_lload_n hx hb d_X_add_19 rfl (lv_at hl 3 rfl) ?_
        refine lv_ldc2 (v := (-1000000000000)) hx hb hown (hT _ tb_120) d_X_add_20 ?_
        refine w_lclt (tgt := 44) hx hb d_X_add_23 d_X_add_24 (by decide) (fun h4 => ?_) (fun h4 => ?_)
        · exact absurd h4 hx1
        · refine lv_lload_n hx hb d_X_add_27 rfl (lv_at hl 3 rfl) ?_
          refine lv_ldc2 (v := 1000000000000) hx hb hown (hT _ tb_121) d_X_add_28 ?_
          refine w_lcgt (tgt := 44) hx hb d_X_add_31 d_X_add_32 (by decide) (fun h5 => ?_) (fun h5 => ?_)
          · exact absurd h5 hx2
          · refine lv_aload_n hx hb d_X_add_35 rfl (lv_at hl 0 rfl) ?_
            refine w_get i_X hx hb hT hown hK hP 0 rfl rfl 1 (by decide) tb_89 rfl d_X_add_36 ?_
            refine lv_bipush (v := nI 120) hx hb d_X_add_39 (by decide) ?_
            refine w_icne (tgt := 46) hx hb (by omega) (by omega) d_X_add_41 (by decide) (fun h6 => ?_) (fun h6 => ?_)
            · refine lv_aload_n hx hb d_X_add_46 rfl (lv_at hl 0 rfl) ?_
              refine lv_iload_n hx hb d_X_add_47 rfl (lv_at hl 1 rfl) ?_
              refine lv_iload_n hx hb d_X_add_48 rfl (lv_at hl 2 rfl) ?_
              refine lv_lload_n hx hb d_X_add_49 rfl (lv_at hl 3 rfl) ?_
              refine w_callV (As := [.int (nI i), .int (nI j), .long x]) (rest := []) ⟨hx, hb, hml, hown, hT⟩ (c_X_isRefused_n l D a k ca n al fr tt cc on len stp dir row rm rl i j x hi hj h) (w_cwV hT ms_X_isRefused tb_122 ⟨by decide, by decide⟩) hK hP hD hS hA 0 0 rfl rfl rfl rfl rfl hl.1 (Nat.le_of_ble_eq_true rfl) d_X_add_50 ⟨Nat.zero_le _, Nat.zero_le _⟩ (fun H locs hP hD hS => ?_)
              refine w_ifeqB (tgt := 59) hx hb d_X_add_53 (by decide) (fun h7 => ?_) (fun h7 => ?_)
              · have hjn : n < 120 := hn
                refine lv_aload_n hx hb d_X_add_59 rfl (lv_at hl 0 rfl) ?_
                refine w_get i_X hx hb hT hown hK hP 0 rfl rfl 0 (by decide) tb_88 rfl d_X_add_60 ?_
                refine lv_aload_n hx hb d_X_add_63 rfl (lv_at hl 0 rfl) ?_
                refine w_get i_X hx hb hT hown hK hP 0 rfl rfl 1 (by decide) tb_89 rfl d_X_add_64 ?_
                refine w_aald hx hb hK hP 1 0 rfl rfl (by omega) (by decide) d_X_add_67 ?_
                refine lv_astore (lv' := [(5, .ref (ca n)), (0, .ref (a 0)), (1, .int (nI i)), (2, .int (nI j)), (3, .long x)]) hx hb d_X_add_68 hl (by decide) rfl (fun ls hl => ?_)
                refine lv_aload hx hb d_X_add_70 (lv_at hl 0 rfl) ?_
                refine lv_iload_n hx hb d_X_add_72 rfl (lv_at hl 2 rfl) ?_
                refine w_putfr hx hb hT hown hK hP hD hS hjn tb_42 d_X_add_73 (fun H locs hP hD hS => ?_)
                refine lv_aload hx hb d_X_add_76 (lv_at hl 0 rfl) ?_
                refine lv_iload_n hx hb d_X_add_78 rfl (lv_at hl 3 rfl) ?_
                refine w_puttt hx hb hT hown hK hP hD hS hjn tb_43 d_X_add_79 (fun H locs hP hD hS => ?_)
                refine lv_aload hx hb d_X_add_82 (lv_at hl 0 rfl) ?_
                refine lv_lload_n hx hb d_X_add_84 rfl (lv_at hl 4 rfl) ?_
                refine w_putcc hx hb hT hown hK hP hD hS hjn tb_44 d_X_add_85 (fun H locs hP hD hS => ?_)
                refine lv_aload hx hb d_X_add_88 (lv_at hl 0 rfl) ?_
                refine lv_iconst (v := nI 1) hx hb d_X_add_90 (by decide) ?_
                refine w_top (y := .int (q_b true)) rfl ?_
                refine w_puton hx hb hT hown hK hP hD hS hjn tb_45 d_X_add_91 (fun H locs hP hD hS => ?_)
                refine lv_aload_n hx hb d_X_add_94 rfl (lv_at hl 1 rfl) ?_
                refine lv_aload hx hb d_X_add_95 (lv_at hl 0 rfl) ?_
                refine w_callN (As := [.ref (ca n)]) (rest := []) ⟨hx, hb, hml, hown, hT⟩ (c_X_takes l D a k ca n al (va_up fr n i) (va_up tt n j) (va_up cc n x) (va_up on n true) len stp dir row rm rl n hjn (by rw [va_up_self]; exact hi) (by rw [va_up_self]; exact hj)) (w_cwV hT ms_X_takes tb_65 ⟨by decide, by decide⟩) hK hP hD hS hA 0 0 rfl rfl rfl rfl rfl hl.1 (Nat.le_of_ble_eq_true rfl) d_X_add_97 ⟨Nat.zero_le _, Nat.zero_le _⟩ (fun H locs hP hD hS => ?_)
                have hP : va_P D classes (xW a k ca n al (va_up fr n i) (va_up tt n j) (va_up cc n x) (va_up on n true) ((q_tk (va_up fr n i n) (va_up tt n j n) (va_up cc n x n) (dir, (len, stp))).2.1) ((q_tk (va_up fr n i n) (va_up tt n j n) (va_up cc n x n) (dir, (len, stp))).2.2) ((q_tk (va_up fr n i n) (va_up tt n j n) (va_up cc n x n) (dir, (len, stp))).1) row rm rl) H := hP
                have hD : va_D A (xW a k ca n al (va_up fr n i) (va_up tt n j) (va_up cc n x) (va_up on n true) ((q_tk (va_up fr n i n) (va_up tt n j n) (va_up cc n x n) (dir, (len, stp))).2.1) ((q_tk (va_up fr n i n) (va_up tt n j n) (va_up cc n x n) (dir, (len, stp))).2.2) ((q_tk (va_up fr n i n) (va_up tt n j n) (va_up cc n x n) (dir, (len, stp))).1) row rm rl) := hD
                rw [va_up_self, va_up_self, va_up_self] at hP hD
                refine lv_aload_n hx hb d_X_add_100 rfl (lv_at hl 1 rfl) ?_
                refine lv_dup hx hb d_X_add_101 rfl ?_
                refine w_get i_X hx hb hT hown hK hP 0 rfl rfl 1 (by decide) tb_89 rfl d_X_add_102 ?_
                refine lv_iconst (v := nI 1) hx hb d_X_add_105 (by decide) ?_
                refine w_iadd hx hb d_X_add_106 ?_
                refine w_put i_X t_X t_X_ok n_X hx hb hT hown hK hP hD hS 0 rfl rfl 1 (by decide) tb_89 rfl rfl rfl (Nat.le_of_ble_eq_true rfl) d_X_add_107 (fun H locs hP hD hS => ?_)
                have hP : va_P D classes (xW a k ca (n + 1) al (va_up fr n i) (va_up tt n j) (va_up cc n x) (va_up on n true) ((q_tk i j x (dir, (len, stp))).2.1) ((q_tk i j x (dir, (len, stp))).2.2) ((q_tk i j x (dir, (len, stp))).1) row rm rl) H := hP
                have hD : va_D A (xW a k ca (n + 1) al (va_up fr n i) (va_up tt n j) (va_up cc n x) (va_up on n true) ((q_tk i j x (dir, (len, stp))).2.1) ((q_tk i j x (dir, (len, stp))).2.2) ((q_tk i j x (dir, (len, stp))).1) row rm rl) := hD
                refine lv_aload_n hx hb d_X_add_110 rfl (lv_at hl 1 rfl) ?_
                refine lv_dup hx hb d_X_add_111 rfl ?_
                refine w_get i_X hx hb hT hown hK hP 0 rfl rfl 2 (by decide) tb_90 rfl d_X_add_112 ?_
                refine lv_iconst (v := nI 1) hx hb d_X_add_115 (by decide) ?_
                refine lv_iadd hx hb d_X_add_116 ?_
                refine w_put i_X t_X t_X_ok n_X hx hb hT hown hK hP hD hS 0 rfl rfl 2 (by decide) tb_90 rfl rfl rfl (Nat.le_of_ble_eq_true rfl) d_X_add_117 (fun H locs hP hD hS => ?_)
                have hP : va_P D classes (xW a k ca (n + 1) (al + (nI 1)) (va_up fr n i) (va_up tt n j) (va_up cc n x) (va_up on n true) ((q_tk i j x (dir, (len, stp))).2.1) ((q_tk i j x (dir, (len, stp))).2.2) ((q_tk i j x (dir, (len, stp))).1) row rm rl) H := hP
                have hD : va_D A (xW a k ca (n + 1) (al + (nI 1)) (va_up fr n i) (va_up tt n j) (va_up cc n x) (va_up on n true) ((q_tk i j x (dir, (len, stp))).2.1) ((q_tk i j x (dir, (len, stp))).2.2) ((q_tk i j x (dir, (len, stp))).1) row rm rl) := hD
                refine lv_aload_n hx hb d_X_add_120 rfl (lv_at hl 1 rfl) ?_
                refine w_get i_X hx hb hT hown hK hP 0 rfl rfl 1 (by decide) tb_89 rfl d_X_add_121 ?_
                refine lv_iconst (v := nI 1) hx hb d_X_add_124 (by decide) ?_
                refine w_isub hx hb (by omega) d_X_add_125 ?_
                refine w_top (y := .int (nI n)) (by rw [Nat.add_sub_cancel]) ?_
                exact hE _ _ _ _ d_X_add_126 hP hD hS
              · exact absurd h7 (by decide)
            · exact absurd h6 (by omega)
end
section
set_option maxHeartbeats 4000000 in
set_option maxRecDepth 100000 in
/-- X_off: no -/
theorem c_X_off_n (l : Launch) (D : va_G) (a : Nat → Nat) (k : Nat → ClassId) (ca : Nat → Nat) (n : Nat) (al : Int32) (fr tt : Nat → Nat) (cc : Nat → Int64) (on : Nat → Bool) (len : Nat → Int64) (stp : Nat → Int32) (dir : Nat → Int64) (row : Nat → Int32) (rm : Nat) (rl : Int64) (x : Int32) (hn : n ≤ 120) (h : ∀ j, j < n → x = nI j → on j = false) : Ct l y_X_off b_X_off 2 (some .boolean) 5 118 D (xT k) [.ref (a 0), .int x] (xW a k ca n al fr tt cc on len stp dir row rm rl) (xW a k ca n al fr tt cc on len stp dir row rm rl) (some (.int (q_b false))) := by
  refine q_enter [(0, .ref (a 0)), (1, .int x)] "TimeNet" .ireturn [.int (q_b false)] (by decide) rfl (Nat.le_of_ble_eq_true rfl) rfl (Or.inr (Or.inl ⟨rfl, rfl, _, rfl, rfl⟩)) ?_
  intro p e s m args below meth c A ls Q E hK hP hD hS hA hl hE
  obtain ⟨hx, hb, hml, hr, hlk, hown, hT⟩ := E
  refine lv_iload_n hx hb d_X_off_0 rfl (lv_at hl 1 rfl) ?_
  refine lv_if_lt (tgt := 24) hx hb d_X_off_1 (by decide) (fun h1 => ?_) (fun h1 => ?_)
  · refine lv_iconst (v := nI 0) hx hb d_X_off_24 (by decide) ?_
    refine w_top (y := .int (q_b false)) rfl ?_
    exact hE _ _ _ _ d_X_off_25 hP hD hS
  · refine lv_iload_n hx hb d_X_off_4 rfl (lv_at hl 1 rfl) ?_
    refine lv_aload_n hx hb d_X_off_5 rfl (lv_at hl 0 rfl) ?_
    refine w_get i_X hx hb hT hown hK hP 0 rfl rfl 1 (by decide) tb_89 rfl d_X_off_6 ?_
    refine lv_icmp_ge (tgt := 24) hx hb d_X_off_9 (by decide) (fun h2 => ?_) (fun h2 => ?_)
    · refine lv_iconst (v := nI 0) hx hb d_X_off_24 (by decide) ?_
      refine w_top (y := .int (q_b false)) rfl ?_
      exact hE _ _ _ _ d_X_off_25 hP hD hS
    · obtain ⟨j, hjn, rfl⟩ : ∃ j : Nat, j < n ∧ x = nI j := by
        rcases pk_ix x (n := n) (by omega) with h9 | h9 | h9
        · exact absurd h9 h1
        · exact absurd h9 h2
        · exact h9
      have hjj : j < 120 := by omega
      refine lv_aload_n hx hb d_X_off_12 rfl (lv_at hl 0 rfl) ?_
      refine w_get i_X hx hb hT hown hK hP 0 rfl rfl 0 (by decide) tb_88 rfl d_X_off_13 ?_
      refine lv_iload_n hx hb d_X_off_16 rfl (lv_at hl 1 rfl) ?_
      refine w_aald hx hb hK hP 1 0 rfl rfl (by omega) (by decide) d_X_off_17 ?_
      refine w_get i_C hx hb hT hown hK hP (7 + j) (xW_con hjj) rfl 3 (by decide) tb_45 rfl d_X_off_18 ?_
      refine w_ifneB (tgt := 26) hx hb d_X_off_21 (by decide) (fun h3 => ?_) (fun h3 => ?_)
      · exact absurd h3 (by rw [h j hjn rfl]; decide)
      · refine lv_iconst (v := nI 0) hx hb d_X_off_24 (by decide) ?_
        refine w_top (y := .int (q_b false)) rfl ?_
        exact hE _ _ _ _ d_X_off_25 hP hD hS

set_option maxHeartbeats 4000000 in
set_option maxRecDepth 100000 in
/-- X_on: no -/
theorem c_X_on_n (l : Launch) (D : va_G) (a : Nat → Nat) (k : Nat → ClassId) (ca : Nat → Nat) (n : Nat) (al : Int32) (fr tt : Nat → Nat) (cc : Nat → Int64) (on : Nat → Bool) (len : Nat → Int64) (stp : Nat → Int32) (dir : Nat → Int64) (row : Nat → Int32) (rm : Nat) (rl : Int64) (x : Int32) (hn : n ≤ 120) (h : ∀ j, j < n → x = nI j → on j = true) : Ct l y_X_on b_X_on 3 (some .int) 5 122 D (xT k) [.ref (a 0), .int x] (xW a k ca n al fr tt cc on len stp dir row rm rl) (xW a k ca n al fr tt cc on len stp dir row rm rl) (some (.int (-1))) := by
  refine q_enter [(0, .ref (a 0)), (1, .int x)] "TimeNet" .ireturn [.int (-1)] (by decide) rfl (Nat.le_of_ble_eq_true rfl) rfl (Or.inl ⟨rfl, rfl, _, rfl, rfl⟩) ?_
  intro p e s m args below meth c A ls Q E hK hP hD hS hA hl hE
  obtain ⟨hx, hb, hml, hr, hlk, hown, hT⟩ := E
  refine lv_iload_n hx hb d_X_on_0 rfl (lv_at hl 1 rfl) ?_
  refine lv_if_lt (tgt := 24) hx hb d_X_on_1 (by decide) (fun h1 => ?_) (fun h1 => ?_)
  · refine lv_iconst (v := (-1)) hx hb d_X_on_24 (by decide) ?_
    exact hE _ _ _ _ d_X_on_25 hP hD hS
  · refine lv_iload_n hx hb d_X_on_4 rfl (lv_at hl 1 rfl) ?_
    refine lv_aload_n hx hb d_X_on_5 rfl (lv_at hl 0 rfl) ?_
    refine w_get i_X hx hb hT hown hK hP 0 rfl rfl 1 (by decide) tb_89 rfl d_X_on_6 ?_
    refine lv_icmp_ge (tgt := 24) hx hb d_X_on_9 (by decide) (fun h2 => ?_) (fun h2 => ?_)
    · refine lv_iconst (v := (-1)) hx hb d_X_on_24 (by decide) ?_
      exact hE _ _ _ _ d_X_on_25 hP hD hS
    · obtain ⟨j, hjn, rfl⟩ : ∃ j : Nat, j < n ∧ x = nI j := by
        rcases pk_ix x (n := n) (by omega) with h9 | h9 | h9
        · exact absurd h9 h1
        · exact absurd h9 h2
        · exact h9
      have hjj : j < 120 := by omega
      refine lv_aload_n hx hb d_X_on_12 rfl (lv_at hl 0 rfl) ?_
      refine w_get i_X hx hb hT hown hK hP 0 rfl rfl 0 (by decide) tb_88 rfl d_X_on_13 ?_
      refine lv_iload_n hx hb d_X_on_16 rfl (lv_at hl 1 rfl) ?_
      refine w_aald hx hb hK hP 1 0 rfl rfl (by omega) (by decide) d_X_on_17 ?_
      refine w_get i_C hx hb hT hown hK hP (7 + j) (xW_con hjj) rfl 3 (by decide) tb_45 rfl d_X_on_18 ?_
      refine w_ifeqB (tgt := 26) hx hb d_X_on_21 (by decide) (fun h3 => ?_) (fun h3 => ?_)
      · exact absurd h3 (by rw [h j hjn rfl]; decide)
      · refine lv_iconst (v := (-1)) hx hb d_X_on_24 (by decide) ?_
        exact hE _ _ _ _ d_X_on_25 hP hD hS

set_option maxHeartbeats 4000000 in
set_option maxRecDepth 100000 in
/-- X_slack: no -/
theorem c_X_slack_n (l : Launch) (D : va_G) (a : Nat → Nat) (k : Nat → ClassId) (ca : Nat → Nat) (n : Nat) (al : Int32) (fr tt : Nat → Nat) (cc : Nat → Int64) (on : Nat → Bool) (len : Nat → Int64) (stp : Nat → Int32) (dir : Nat → Int64) (row : Nat → Int32) (rm : Nat) (rl : Int64) (x : Int32) (hn : n ≤ 120) (h : ∀ j, j < n → x = nI j → on j = false) : Ct l y_X_slack b_X_slack 2 (some .long) 1 21 D (xT k) [.ref (a 0), .int x] (xW a k ca n al fr tt cc on len stp dir row rm rl) (xW a k ca n al fr tt cc on len stp dir row rm rl) (some (.long (-1))) := by
  refine q_enter [(0, .ref (a 0)), (1, .int x)] "TimeNet" .lreturn [.long (-1)] (by decide) rfl (Nat.le_of_ble_eq_true rfl) rfl (Or.inr (Or.inr (Or.inl ⟨rfl, rfl, _, rfl, rfl⟩))) ?_
  intro p e s m args below meth c A ls Q E hK hP hD hS hA hl hE
  obtain ⟨hx, hb, hml, hr, hlk, hown, hT⟩ := E
  refine lv_iload_n hx hb d_X_slack_0 rfl (lv_at hl 1 rfl) ?_
  refine lv_if_lt (tgt := 24) hx hb d_X_slack_1 (by decide) (fun h1 => ?_) (fun h1 => ?_)
  · refine lv_ldc2 (v := (-1)) hx hb hown (hT _ tb_176) d_X_slack_24 ?_
    exact hE _ _ _ _ d_X_slack_27 hP hD hS
  · refine lv_iload_n hx hb d_X_slack_4 rfl (lv_at hl 1 rfl) ?_
    refine lv_aload_n hx hb d_X_slack_5 rfl (lv_at hl 0 rfl) ?_
    refine w_get i_X hx hb hT hown hK hP 0 rfl rfl 1 (by decide) tb_89 rfl d_X_slack_6 ?_
    refine lv_icmp_ge (tgt := 24) hx hb d_X_slack_9 (by decide) (fun h2 => ?_) (fun h2 => ?_)
    · refine lv_ldc2 (v := (-1)) hx hb hown (hT _ tb_176) d_X_slack_24 ?_
      exact hE _ _ _ _ d_X_slack_27 hP hD hS
    · obtain ⟨j, hjn, rfl⟩ : ∃ j : Nat, j < n ∧ x = nI j := by
        rcases pk_ix x (n := n) (by omega) with h9 | h9 | h9
        · exact absurd h9 h1
        · exact absurd h9 h2
        · exact h9
      have hjj : j < 120 := by omega
      refine lv_aload_n hx hb d_X_slack_12 rfl (lv_at hl 0 rfl) ?_
      refine w_get i_X hx hb hT hown hK hP 0 rfl rfl 0 (by decide) tb_88 rfl d_X_slack_13 ?_
      refine lv_iload_n hx hb d_X_slack_16 rfl (lv_at hl 1 rfl) ?_
      refine w_aald hx hb hK hP 1 0 rfl rfl (by omega) (by decide) d_X_slack_17 ?_
      refine w_get i_C hx hb hT hown hK hP (7 + j) (xW_con hjj) rfl 3 (by decide) tb_45 rfl d_X_slack_18 ?_
      refine w_ifneB (tgt := 28) hx hb d_X_slack_21 (by decide) (fun h3 => ?_) (fun h3 => ?_)
      · exact absurd h3 (by rw [h j hjn rfl]; decide)
      · refine lv_ldc2 (v := (-1)) hx hb hown (hT _ tb_176) d_X_slack_24 ?_
        exact hE _ _ _ _ d_X_slack_27 hP hD hS

set_option maxHeartbeats 4000000 in
set_option maxRecDepth 100000 in
/-- off: yes -/
theorem c_X_off_y (l : Launch) (D : va_G) (a : Nat → Nat) (k : Nat → ClassId) (ca : Nat → Nat) (n : Nat) (al : Int32) (fr tt : Nat → Nat) (cc : Nat → Int64) (on : Nat → Bool) (len : Nat → Int64) (stp : Nat → Int32) (dir : Nat → Int64) (row : Nat → Int32) (rm : Nat) (rl : Int64) (j : Nat) (hn : n ≤ 120) (hft : ∀ j, j < n → fr j < 20 ∧ tt j < 20) (hjn : j < n) (h : on j = true) : Ct l y_X_off b_X_off 2 (some .boolean) 5 118 D (xT k) [.ref (a 0), .int (nI j)] (xW a k ca n al fr tt cc on len stp dir row rm rl) (xW a k ca n (al - nI 1) fr tt cc (va_up on j false) ((q_new n fr tt cc (va_up on j false) (dir, (len, stp))).2.1) ((q_new n fr tt cc (va_up on j false) (dir, (len, stp))).2.2) ((q_new n fr tt cc (va_up on j false) (dir, (len, stp))).1) row rm rl) (some (.int (q_b true))) := by
  refine q_enter [(0, .ref (a 0)), (1, .int (nI j))] "TimeNet" .ireturn [.int (q_b true)] (by decide) rfl (Nat.le_of_ble_eq_true rfl) rfl (Or.inr (Or.inl ⟨rfl, rfl, _, rfl, rfl⟩)) ?_
  intro p e s m args below meth c A ls Q E hK hP hD hS hA hl hE
  obtain ⟨hx, hb, hml, hr, hlk, hown, hT⟩ := E
  have hjj : j < 120 := by omega
  refine lv_iload_n hx hb d_X_off_0 rfl (lv_at hl 1 rfl) ?_
  refine lv_if_lt (tgt := 24) hx hb d_X_off_1 (by decide) (fun h1 => ?_) (fun h1 => ?_)
  · exact absurd h1 (nI_pos (by omega))
  · refine lv_iload_n hx hb d_X_off_4 rfl (lv_at hl 1 rfl) ?_
    refine lv_aload_n hx hb d_X_off_5 rfl (lv_at hl 0 rfl) ?_
    refine w_get i_X hx hb hT hown hK hP 0 rfl rfl 1 (by decide) tb_89 rfl d_X_off_6 ?_
    refine w_icge (tgt := 24) hx hb (by omega) (by omega) d_X_off_9 (by decide) (fun h2 => ?_) (fun h2 => ?_)
    · exact absurd h2 (by omega)
    · refine lv_aload_n hx hb d_X_off_12 rfl (lv_at hl 0 rfl) ?_
      refine w_get i_X hx hb hT hown hK hP 0 rfl rfl 0 (by decide) tb_88 rfl d_X_off_13 ?_
      refine lv_iload_n hx hb d_X_off_16 rfl (lv_at hl 1 rfl) ?_
      refine w_aald hx hb hK hP 1 0 rfl rfl (by omega) (by decide) d_X_off_17 ?_
      refine w_get i_C hx hb hT hown hK hP (7 + j) (xW_con hjj) rfl 3 (by decide) tb_45 rfl d_X_off_18 ?_
      refine w_ifneB (tgt := 26) hx hb d_X_off_21 (by decide) (fun h3 => ?_) (fun h3 => ?_)
      · refine lv_aload_n hx hb d_X_off_26 rfl (lv_at hl 0 rfl) ?_
        refine w_get i_X hx hb hT hown hK hP 0 rfl rfl 0 (by decide) tb_88 rfl d_X_off_27 ?_
        refine lv_iload_n hx hb d_X_off_30 rfl (lv_at hl 1 rfl) ?_
        refine w_aald hx hb hK hP 1 0 rfl rfl (by omega) (by decide) d_X_off_31 ?_
        refine lv_iconst (v := nI 0) hx hb d_X_off_32 (by decide) ?_
        refine w_top (y := .int (q_b false)) rfl ?_
        refine w_puton hx hb hT hown hK hP hD hS hjj tb_45 d_X_off_33 (fun H locs hP hD hS => ?_)
        refine lv_aload_n hx hb d_X_off_36 rfl (lv_at hl 0 rfl) ?_
        refine lv_dup hx hb d_X_off_37 rfl ?_
        refine w_get i_X hx hb hT hown hK hP 0 rfl rfl 2 (by decide) tb_90 rfl d_X_off_38 ?_
        refine lv_iconst (v := nI 1) hx hb d_X_off_41 (by decide) ?_
        refine lv_isub hx hb d_X_off_42 ?_
        refine w_put i_X t_X t_X_ok n_X hx hb hT hown hK hP hD hS 0 rfl rfl 2 (by decide) tb_90 rfl rfl rfl (Nat.le_of_ble_eq_true rfl) d_X_off_43 (fun H locs hP hD hS => ?_)
        have hP : va_P D classes (xW a k ca n (al - (nI 1)) fr tt cc (va_up on j false) len stp dir row rm rl) H := hP
        have hD : va_D A (xW a k ca n (al - (nI 1)) fr tt cc (va_up on j false) len stp dir row rm rl) := hD
        refine lv_aload_n hx hb d_X_off_46 rfl (lv_at hl 0 rfl) ?_
        refine w_callN (As := []) (rest := []) ⟨hx, hb, hml, hown, hT⟩ (c_X_anew l D a k ca n (al - (nI 1)) fr tt cc (va_up on j false) len stp dir row rm rl hn hft) (w_cwV hT ms_X_anew tb_55 ⟨by decide, by decide⟩) hK hP hD hS hA 0 0 rfl rfl rfl rfl rfl hl.1 (Nat.le_of_ble_eq_true rfl) d_X_off_47 ⟨Nat.zero_le _, Nat.zero_le _⟩ (fun H locs hP hD hS => ?_)
        have hP : va_P D classes (xW a k ca n (al - (nI 1)) fr tt cc (va_up on j false) ((q_new n fr tt cc (va_up on j false) (dir, (len, stp))).2.1) ((q_new n fr tt cc (va_up on j false) (dir, (len, stp))).2.2) ((q_new n fr tt cc (va_up on j false) (dir, (len, stp))).1) row rm rl) H := hP
        have hD : va_D A (xW a k ca n (al - (nI 1)) fr tt cc (va_up on j false) ((q_new n fr tt cc (va_up on j false) (dir, (len, stp))).2.1) ((q_new n fr tt cc (va_up on j false) (dir, (len, stp))).2.2) ((q_new n fr tt cc (va_up on j false) (dir, (len, stp))).1) row rm rl) := hD
        refine lv_iconst (v := nI 1) hx hb d_X_off_50 (by decide) ?_
        refine w_top (y := .int (q_b true)) rfl ?_
        exact hE _ _ _ _ d_X_off_51 hP hD hS
      · exact absurd h3 (by rw [h]; decide)

set_option maxHeartbeats 4000000 in
set_option maxRecDepth 100000 in
/-- on: refused -/
theorem c_X_on_r (l : Launch) (D : va_G) (a : Nat → Nat) (k : Nat → ClassId) (ca : Nat → Nat) (n : Nat) (al : Int32) (fr tt : Nat → Nat) (cc : Nat → Int64) (on : Nat → Bool) (len : Nat → Int64) (stp : Nat → Int32) (dir : Nat → Int64) (row : Nat → Int32) (rm : Nat) (rl : Int64) (j : Nat) (hn : n ≤ 120) (hft : ∀ j, j < n → fr j < 20 ∧ tt j < 20) (hjn : j < n) (h : on j = false) (hrf : q_ref len (fr j) (tt j) (cc j) = true) (qs : List Nat) (hs : stp (20 * tt j + fr j) = nI qs.length) (hq : q_fol dir len stp (fr j) (tt j) (len (20 * tt j + fr j)) qs) (hlen : qs.length ≤ 20) : Ct l y_X_on b_X_on 3 (some .int) 5 122 D (xT k) [.ref (a 0), .int (nI j)] (xW a k ca n al fr tt cc on len stp dir row rm rl) (xW a k ca n al fr tt cc on len stp dir (q_app (upd (upd row 0 (nI (fr j))) 1 (nI (tt j))) 2 qs) (2 + qs.length) (len (20 * tt j + fr j) + cc j)) (some (.int (-2))) := by
  refine q_enter [(0, .ref (a 0)), (1, .int (nI j))] "TimeNet" .ireturn [.int (-2)] (by decide) rfl (Nat.le_of_ble_eq_true rfl) rfl (Or.inl ⟨rfl, rfl, _, rfl, rfl⟩) ?_
  intro p e s m args below meth c A ls Q E hK hP hD hS hA hl hE
  obtain ⟨hx, hb, hml, hr, hlk, hown, hT⟩ := E
  have hjj : j < 120 := by omega
  refine lv_iload_n hx hb d_X_on_0 rfl (lv_at hl 1 rfl) ?_
  refine lv_if_lt (tgt := 24) hx hb d_X_on_1 (by decide) (fun h1 => ?_) (fun h1 => ?_)
  · exact absurd h1 (nI_pos (by omega))
  · refine lv_iload_n hx hb d_X_on_4 rfl (lv_at hl 1 rfl) ?_
    refine lv_aload_n hx hb d_X_on_5 rfl (lv_at hl 0 rfl) ?_
    refine w_get i_X hx hb hT hown hK hP 0 rfl rfl 1 (by decide) tb_89 rfl d_X_on_6 ?_
    refine w_icge (tgt := 24) hx hb (by omega) (by omega) d_X_on_9 (by decide) (fun h2 => ?_) (fun h2 => ?_)
    · exact absurd h2 (by omega)
    · refine lv_aload_n hx hb d_X_on_12 rfl (lv_at hl 0 rfl) ?_
      refine w_get i_X hx hb hT hown hK hP 0 rfl rfl 0 (by decide) tb_88 rfl d_X_on_13 ?_
      refine lv_iload_n hx hb d_X_on_16 rfl (lv_at hl 1 rfl) ?_
      refine w_aald hx hb hK hP 1 0 rfl rfl (by omega) (by decide) d_X_on_17 ?_
      refine w_get i_C hx hb hT hown hK hP (7 + j) (xW_con hjj) rfl 3 (by decide) tb_45 rfl d_X_on_18 ?_
      refine w_ifeqB (tgt := 26) hx hb d_X_on_21 (by decide) (fun h3 => ?_) (fun h3 => ?_)
      · refine lv_aload_n hx hb d_X_on_26 rfl (lv_at hl 0 rfl) ?_
        refine w_get i_X hx hb hT hown hK hP 0 rfl rfl 0 (by decide) tb_88 rfl d_X_on_27 ?_
        refine lv_iload_n hx hb d_X_on_30 rfl (lv_at hl 1 rfl) ?_
        refine w_aald hx hb hK hP 1 0 rfl rfl (by omega) (by decide) d_X_on_31 ?_
        refine lv_astore_n (lv' := [(2, .ref (ca j)), (0, .ref (a 0)), (1, .int (nI j))]) hx hb d_X_on_32 rfl hl (by decide) rfl (fun ls hl => ?_)
        refine lv_aload_n hx hb d_X_on_33 rfl (lv_at hl 1 rfl) ?_
        refine lv_aload_n hx hb d_X_on_34 rfl (lv_at hl 0 rfl) ?_
        refine w_get i_C hx hb hT hown hK hP (7 + j) (xW_con hjj) rfl 0 (by decide) tb_42 rfl d_X_on_35 ?_
        refine lv_aload_n hx hb d_X_on_38 rfl (lv_at hl 0 rfl) ?_
        refine w_get i_C hx hb hT hown hK hP (7 + j) (xW_con hjj) rfl 1 (by decide) tb_43 rfl d_X_on_39 ?_
        refine lv_aload_n hx hb d_X_on_42 rfl (lv_at hl 0 rfl) ?_
        refine w_get i_C hx hb hT hown hK hP (7 + j) (xW_con hjj) rfl 2 (by decide) tb_44 rfl d_X_on_43 ?_
        refine w_callV (As := [.int (nI (fr j)), .int (nI (tt j)), .long (cc j)]) (rest := []) ⟨hx, hb, hml, hown, hT⟩ (c_X_isRefused_y l D a k ca n al fr tt cc on len stp dir row rm rl (fr j) (tt j) (cc j) (hft j hjn).1 (hft j hjn).2 hrf qs hs hq hlen) (w_cwV hT ms_X_isRefused tb_122 ⟨by decide, by decide⟩) hK hP hD hS hA 0 0 rfl rfl rfl rfl rfl hl.1 (Nat.le_of_ble_eq_true rfl) d_X_on_46 ⟨Nat.zero_le _, Nat.zero_le _⟩ (fun H locs hP hD hS => ?_)
        have hP : va_P D classes (xW a k ca n al fr tt cc on len stp dir (q_app (upd (upd row 0 (nI (fr j))) 1 (nI (tt j))) 2 qs) (2 + qs.length) (len (20 * tt j + fr j) + cc j)) H := hP
        have hD : va_D A (xW a k ca n al fr tt cc on len stp dir (q_app (upd (upd row 0 (nI (fr j))) 1 (nI (tt j))) 2 qs) (2 + qs.length) (len (20 * tt j + fr j) + cc j)) := hD
        refine w_ifeqB (tgt := 55) hx hb d_X_on_49 (by decide) (fun h7 => ?_) (fun h7 => ?_)
        · exact absurd h7 (by decide)
        · refine lv_bipush (v := (-2)) hx hb d_X_on_52 (by decide) ?_
          exact hE _ _ _ _ d_X_on_54 hP hD hS
      · exact absurd h3 (by rw [h]; decide)

set_option maxHeartbeats 4000000 in
set_option maxRecDepth 100000 in
/-- on: yes -/
theorem c_X_on_y (l : Launch) (D : va_G) (a : Nat → Nat) (k : Nat → ClassId) (ca : Nat → Nat) (n : Nat) (al : Int32) (fr tt : Nat → Nat) (cc : Nat → Int64) (on : Nat → Bool) (len : Nat → Int64) (stp : Nat → Int32) (dir : Nat → Int64) (row : Nat → Int32) (rm : Nat) (rl : Int64) (j : Nat) (hn : n ≤ 120) (hft : ∀ j, j < n → fr j < 20 ∧ tt j < 20) (hjn : j < n) (h : on j = false) (hrf : q_ref len (fr j) (tt j) (cc j) = false) : Ct l y_X_on b_X_on 3 (some .int) 5 122 D (xT k) [.ref (a 0), .int (nI j)] (xW a k ca n al fr tt cc on len stp dir row rm rl) (xW a k ca n (al + nI 1) fr tt cc (va_up on j true) ((q_tk (fr j) (tt j) (cc j) (dir, (len, stp))).2.1) ((q_tk (fr j) (tt j) (cc j) (dir, (len, stp))).2.2) ((q_tk (fr j) (tt j) (cc j) (dir, (len, stp))).1) row rm rl) (some (.int (nI j))) := by
  refine q_enter [(0, .ref (a 0)), (1, .int (nI j))] "TimeNet" .ireturn [.int (nI j)] (by decide) rfl (Nat.le_of_ble_eq_true rfl) rfl (Or.inl ⟨rfl, rfl, _, rfl, rfl⟩) ?_
  intro p e s m args below meth c A ls Q E hK hP hD hS hA hl hE
  obtain ⟨hx, hb, hml, hr, hlk, hown, hT⟩ := E
  have hjj : j < 120 := by omega
  refine lv_iload_n hx hb d_X_on_0 rfl (lv_at hl 1 rfl) ?_
  refine lv_if_lt (tgt := 24) hx hb d_X_on_1 (by decide) (fun h1 => ?_) (fun h1 => ?_)
  · exact absurd h1 (nI_pos (by omega))
  · refine lv_iload_n hx hb d_X_on_4 rfl (lv_at hl 1 rfl) ?_
    refine lv_aload_n hx hb d_X_on_5 rfl (lv_at hl 0 rfl) ?_
    refine w_get i_X hx hb hT hown hK hP 0 rfl rfl 1 (by decide) tb_89 rfl d_X_on_6 ?_
    refine w_icge (tgt := 24) hx hb (by omega) (by omega) d_X_on_9 (by decide) (fun h2 => ?_) (fun h2 => ?_)
    · exact absurd h2 (by omega)
    · refine lv_aload_n hx hb d_X_on_12 rfl (lv_at hl 0 rfl) ?_
      refine w_get i_X hx hb hT hown hK hP 0 rfl rfl 0 (by decide) tb_88 rfl d_X_on_13 ?_
      refine lv_iload_n hx hb d_X_on_16 rfl (lv_at hl 1 rfl) ?_
      refine w_aald hx hb hK hP 1 0 rfl rfl (by omega) (by decide) d_X_on_17 ?_
      refine w_get i_C hx hb hT hown hK hP (7 + j) (xW_con hjj) rfl 3 (by decide) tb_45 rfl d_X_on_18 ?_
      refine w_ifeqB (tgt := 26) hx hb d_X_on_21 (by decide) (fun h3 => ?_) (fun h3 => ?_)
      · refine lv_aload_n hx hb d_X_on_26 rfl (lv_at hl 0 rfl) ?_
        refine w_get i_X hx hb hT hown hK hP 0 rfl rfl 0 (by decide) tb_88 rfl d_X_on_27 ?_
        refine lv_iload_n hx hb d_X_on_30 rfl (lv_at hl 1 rfl) ?_
        refine w_aald hx hb hK hP 1 0 rfl rfl (by omega) (by decide) d_X_on_31 ?_
        refine lv_astore_n (lv' := [(2, .ref (ca j)), (0, .ref (a 0)), (1, .int (nI j))]) hx hb d_X_on_32 rfl hl (by decide) rfl (fun ls hl => ?_)
        refine lv_aload_n hx hb d_X_on_33 rfl (lv_at hl 1 rfl) ?_
        refine lv_aload_n hx hb d_X_on_34 rfl (lv_at hl 0 rfl) ?_
        refine w_get i_C hx hb hT hown hK hP (7 + j) (xW_con hjj) rfl 0 (by decide) tb_42 rfl d_X_on_35 ?_
        refine lv_aload_n hx hb d_X_on_38 rfl (lv_at hl 0 rfl) ?_
        refine w_get i_C hx hb hT hown hK hP (7 + j) (xW_con hjj) rfl 1 (by decide) tb_43 rfl d_X_on_39 ?_
        refine lv_aload_n hx hb d_X_on_42 rfl (lv_at hl 0 rfl) ?_
        refine w_get i_C hx hb hT hown hK hP (7 + j) (xW_con hjj) rfl 2 (by decide) tb_44 rfl d_X_on_43 ?_
        refine w_callV (As := [.int (nI (fr j)), .int (nI (tt j)), .long (cc j)]) (rest := []) ⟨hx, hb, hml, hown, hT⟩ (c_X_isRefused_n l D a k ca n al fr tt cc on len stp dir row rm rl (fr j) (tt j) (cc j) (hft j hjn).1 (hft j hjn).2 hrf) (w_cwV hT ms_X_isRefused tb_122 ⟨by decide, by decide⟩) hK hP hD hS hA 0 0 rfl rfl rfl rfl rfl hl.1 (Nat.le_of_ble_eq_true rfl) d_X_on_46 ⟨Nat.zero_le _, Nat.zero_le _⟩ (fun H locs hP hD hS => ?_)
        refine w_ifeqB (tgt := 55) hx hb d_X_on_49 (by decide) (fun h7 => ?_) (fun h7 => ?_)
        · refine lv_aload_n hx hb d_X_on_55 rfl (lv_at hl 0 rfl) ?_
          refine lv_iconst (v := nI 1) hx hb d_X_on_56 (by decide) ?_
          refine w_top (y := .int (q_b true)) rfl ?_
          refine w_puton hx hb hT hown hK hP hD hS hjj tb_45 d_X_on_57 (fun H locs hP hD hS => ?_)
          refine lv_aload_n hx hb d_X_on_60 rfl (lv_at hl 1 rfl) ?_
          refine lv_dup hx hb d_X_on_61 rfl ?_
          refine w_get i_X hx hb hT hown hK hP 0 rfl rfl 2 (by decide) tb_90 rfl d_X_on_62 ?_
          refine lv_iconst (v := nI 1) hx hb d_X_on_65 (by decide) ?_
          refine lv_iadd hx hb d_X_on_66 ?_
          refine w_put i_X t_X t_X_ok n_X hx hb hT hown hK hP hD hS 0 rfl rfl 2 (by decide) tb_90 rfl rfl rfl (Nat.le_of_ble_eq_true rfl) d_X_on_67 (fun H locs hP hD hS => ?_)
          have hP : va_P D classes (xW a k ca n (al + (nI 1)) fr tt cc (va_up on j true) len stp dir row rm rl) H := hP
          have hD : va_D A (xW a k ca n (al + (nI 1)) fr tt cc (va_up on j true) len stp dir row rm rl) := hD
          refine lv_aload_n hx hb d_X_on_70 rfl (lv_at hl 1 rfl) ?_
          refine lv_aload_n hx hb d_X_on_71 rfl (lv_at hl 0 rfl) ?_
          refine w_callN (As := [.ref (ca j)]) (rest := []) ⟨hx, hb, hml, hown, hT⟩ (c_X_takes l D a k ca n (al + (nI 1)) fr tt cc (va_up on j true) len stp dir row rm rl j hjj (hft j hjn).1 (hft j hjn).2) (w_cwV hT ms_X_takes tb_65 ⟨by decide, by decide⟩) hK hP hD hS hA 0 0 rfl rfl rfl rfl rfl hl.1 (Nat.le_of_ble_eq_true rfl) d_X_on_72 ⟨Nat.zero_le _, Nat.zero_le _⟩ (fun H locs hP hD hS => ?_)
          have hP : va_P D classes (xW a k ca n (al + (nI 1)) fr tt cc (va_up on j true) ((q_tk (fr j) (tt j) (cc j) (dir, (len, stp))).2.1) ((q_tk (fr j) (tt j) (cc j) (dir, (len, stp))).2.2) ((q_tk (fr j) (tt j) (cc j) (dir, (len, stp))).1) row rm rl) H := hP
          have hD : va_D A (xW a k ca n (al + (nI 1)) fr tt cc (va_up on j true) ((q_tk (fr j) (tt j) (cc j) (dir, (len, stp))).2.1) ((q_tk (fr j) (tt j) (cc j) (dir, (len, stp))).2.2) ((q_tk (fr j) (tt j) (cc j) (dir, (len, stp))).1) row rm rl) := hD
          refine lv_iload_n hx hb d_X_on_75 rfl (lv_at hl 2 rfl) ?_
          exact hE _ _ _ _ d_X_on_76 hP hD hS
        · exact absurd h7 (by decide)
      · exact absurd h3 (by rw [h]; decide)

set_option maxHeartbeats 4000000 in
set_option maxRecDepth 100000 in
/-- slack: yes -/
theorem c_X_slack_y (l : Launch) (D : va_G) (a : Nat → Nat) (k : Nat → ClassId) (ca : Nat → Nat) (n : Nat) (al : Int32) (fr tt : Nat → Nat) (cc : Nat → Int64) (on : Nat → Bool) (len : Nat → Int64) (stp : Nat → Int32) (dir : Nat → Int64) (row : Nat → Int32) (rm : Nat) (rl : Int64) (j : Nat) (hn : n ≤ 120) (hft : ∀ j, j < n → fr j < 20 ∧ tt j < 20) (hjn : j < n) (h : on j = true) : Ct l y_X_slack b_X_slack 2 (some .long) 1 21 D (xT k) [.ref (a 0), .int (nI j)] (xW a k ca n al fr tt cc on len stp dir row rm rl) (xW a k ca n al fr tt cc on len stp dir row rm rl) (some (.long (cc j - len (20 * fr j + tt j)))) := by
  refine q_enter [(0, .ref (a 0)), (1, .int (nI j))] "TimeNet" .lreturn [.long (cc j - len (20 * fr j + tt j))] (by decide) rfl (Nat.le_of_ble_eq_true rfl) rfl (Or.inr (Or.inr (Or.inl ⟨rfl, rfl, _, rfl, rfl⟩))) ?_
  intro p e s m args below meth c A ls Q E hK hP hD hS hA hl hE
  obtain ⟨hx, hb, hml, hr, hlk, hown, hT⟩ := E
  have hjj : j < 120 := by omega
  refine lv_iload_n hx hb d_X_slack_0 rfl (lv_at hl 1 rfl) ?_
  refine lv_if_lt (tgt := 24) hx hb d_X_slack_1 (by decide) (fun h1 => ?_) (fun h1 => ?_)
  · exact absurd h1 (nI_pos (by omega))
  · refine lv_iload_n hx hb d_X_slack_4 rfl (lv_at hl 1 rfl) ?_
    refine lv_aload_n hx hb d_X_slack_5 rfl (lv_at hl 0 rfl) ?_
    refine w_get i_X hx hb hT hown hK hP 0 rfl rfl 1 (by decide) tb_89 rfl d_X_slack_6 ?_
    refine w_icge (tgt := 24) hx hb (by omega) (by omega) d_X_slack_9 (by decide) (fun h2 => ?_) (fun h2 => ?_)
    · exact absurd h2 (by omega)
    · refine lv_aload_n hx hb d_X_slack_12 rfl (lv_at hl 0 rfl) ?_
      refine w_get i_X hx hb hT hown hK hP 0 rfl rfl 0 (by decide) tb_88 rfl d_X_slack_13 ?_
      refine lv_iload_n hx hb d_X_slack_16 rfl (lv_at hl 1 rfl) ?_
      refine w_aald hx hb hK hP 1 0 rfl rfl (by omega) (by decide) d_X_slack_17 ?_
      refine w_get i_C hx hb hT hown hK hP (7 + j) (xW_con hjj) rfl 3 (by decide) tb_45 rfl d_X_slack_18 ?_
      refine w_ifneB (tgt := 28) hx hb d_X_slack_21 (by decide) (fun h3 => ?_) (fun h3 => ?_)
      · have hfj := (hft j hjn).1
        have htj := (hft j hjn).2
        refine lv_aload_n hx hb d_X_slack_28 rfl (lv_at hl 0 rfl) ?_
        refine w_get i_X hx hb hT hown hK hP 0 rfl rfl 0 (by decide) tb_88 rfl d_X_slack_29 ?_
        refine lv_iload_n hx hb d_X_slack_32 rfl (lv_at hl 1 rfl) ?_
        refine w_aald hx hb hK hP 1 0 rfl rfl (by omega) (by decide) d_X_slack_33 ?_
        refine w_get i_C hx hb hT hown hK hP (7 + j) (xW_con hjj) rfl 2 (by decide) tb_44 rfl d_X_slack_34 ?_
        refine lv_aload_n hx hb d_X_slack_37 rfl (lv_at hl 0 rfl) ?_
        refine w_get i_X hx hb hT hown hK hP 0 rfl rfl 3 (by decide) tb_91 rfl d_X_slack_38 ?_
        refine w_get i_P hx hb hT hown hK hP 2 rfl rfl 0 (by decide) tb_27 rfl d_X_slack_41 ?_
        refine lv_aload_n hx hb d_X_slack_44 rfl (lv_at hl 0 rfl) ?_
        refine w_get i_X hx hb hT hown hK hP 0 rfl rfl 0 (by decide) tb_88 rfl d_X_slack_45 ?_
        refine lv_iload_n hx hb d_X_slack_48 rfl (lv_at hl 1 rfl) ?_
        refine w_aald hx hb hK hP 1 0 rfl rfl (by omega) (by decide) d_X_slack_49 ?_
        refine w_get i_C hx hb hT hown hK hP (7 + j) (xW_con hjj) rfl 0 (by decide) tb_42 rfl d_X_slack_50 ?_
        refine lv_aload_n hx hb d_X_slack_53 rfl (lv_at hl 0 rfl) ?_
        refine w_get i_X hx hb hT hown hK hP 0 rfl rfl 0 (by decide) tb_88 rfl d_X_slack_54 ?_
        refine lv_iload_n hx hb d_X_slack_57 rfl (lv_at hl 1 rfl) ?_
        refine w_aald hx hb hK hP 1 0 rfl rfl (by omega) (by decide) d_X_slack_58 ?_
        refine w_get i_C hx hb hT hown hK hP (7 + j) (xW_con hjj) rfl 1 (by decide) tb_43 rfl d_X_slack_59 ?_
        refine w_callS (v := .int (nI (20 * fr j + tt j))) (As := [.int (nI (fr j)), .int (nI (tt j))]) (rest := [.ref (a 3), .long (cc j)]) ⟨hx, hb, hml, hown, hT⟩ (c_P_at l (fr j) (tt j)) (w_cwS hT ms_P_at tb_69 ⟨by decide, by decide⟩) rfl rfl hl.1 (Nat.le_of_ble_eq_true rfl) d_X_slack_62 ⟨Nat.zero_le _, Nat.zero_le _⟩ ?_
        refine w_lald hx hb hK hP 3 1 rfl rfl (by omega) (by decide) d_X_slack_65 ?_
        refine lv_lsub hx hb d_X_slack_66 ?_
        exact hE _ _ _ _ d_X_slack_67 hP hD hS
      · exact absurd h3 (by rw [h]; decide)
end
section
set_option maxHeartbeats 4000000 in
set_option maxRecDepth 100000 in
/-- X_row -/
theorem c_X_row (l : Launch) (D : va_G) (a : Nat → Nat) (k : Nat → ClassId) (ca : Nat → Nat) (n : Nat) (al : Int32) (fr tt : Nat → Nat) (cc : Nat → Int64) (on : Nat → Bool) (len : Nat → Int64) (stp : Nat → Int32) (dir : Nat → Int64) (row : Nat → Int32) (rm : Nat) (rl : Int64)  : Ct l y_X_row b_X_row 1 (some .int) 0 0 D (xT k) [.ref (a 0)] (xW a k ca n al fr tt cc on len stp dir row rm rl) (xW a k ca n al fr tt cc on len stp dir row rm rl) (some (.int (nI rm))) := by
  refine q_enter [(0, .ref (a 0))] "TimeNet" .ireturn [.int (nI rm)] (by decide) rfl (Nat.le_of_ble_eq_true rfl) rfl (Or.inl ⟨rfl, rfl, _, rfl, rfl⟩) ?_
  intro p e s m args below meth c A ls Q E hK hP hD hS hA hl hE
  obtain ⟨hx, hb, hml, hr, hlk, hown, hT⟩ := E
  refine lv_aload_n hx hb d_X_row_0 rfl (lv_at hl 0 rfl) ?_
  refine w_get i_X hx hb hT hown hK hP 0 rfl rfl 6 (by decide) tb_94 rfl d_X_row_1 ?_
  exact hE _ _ _ _ d_X_row_4 hP hD hS

set_option maxHeartbeats 4000000 in
set_option maxRecDepth 100000 in
/-- X_length -/
theorem c_X_length (l : Launch) (D : va_G) (a : Nat → Nat) (k : Nat → ClassId) (ca : Nat → Nat) (n : Nat) (al : Int32) (fr tt : Nat → Nat) (cc : Nat → Int64) (on : Nat → Bool) (len : Nat → Int64) (stp : Nat → Int32) (dir : Nat → Int64) (row : Nat → Int32) (rm : Nat) (rl : Int64)  : Ct l y_X_length b_X_length 1 (some .long) 0 0 D (xT k) [.ref (a 0)] (xW a k ca n al fr tt cc on len stp dir row rm rl) (xW a k ca n al fr tt cc on len stp dir row rm rl) (some (.long rl)) := by
  refine q_enter [(0, .ref (a 0))] "TimeNet" .lreturn [.long rl] (by decide) rfl (Nat.le_of_ble_eq_true rfl) rfl (Or.inr (Or.inr (Or.inl ⟨rfl, rfl, _, rfl, rfl⟩))) ?_
  intro p e s m args below meth c A ls Q E hK hP hD hS hA hl hE
  obtain ⟨hx, hb, hml, hr, hlk, hown, hT⟩ := E
  refine lv_aload_n hx hb d_X_length_0 rfl (lv_at hl 0 rfl) ?_
  refine w_get i_X hx hb hT hown hK hP 0 rfl rfl 7 (by decide) tb_95 rfl d_X_length_1 ?_
  exact hE _ _ _ _ d_X_length_4 hP hD hS

set_option maxHeartbeats 4000000 in
set_option maxRecDepth 100000 in
/-- X_alive -/
theorem c_X_alive (l : Launch) (D : va_G) (a : Nat → Nat) (k : Nat → ClassId) (ca : Nat → Nat) (n : Nat) (al : Int32) (fr tt : Nat → Nat) (cc : Nat → Int64) (on : Nat → Bool) (len : Nat → Int64) (stp : Nat → Int32) (dir : Nat → Int64) (row : Nat → Int32) (rm : Nat) (rl : Int64)  : Ct l y_X_alive b_X_alive 1 (some .int) 0 0 D (xT k) [.ref (a 0)] (xW a k ca n al fr tt cc on len stp dir row rm rl) (xW a k ca n al fr tt cc on len stp dir row rm rl) (some (.int al)) := by
  refine q_enter [(0, .ref (a 0))] "TimeNet" .ireturn [.int al] (by decide) rfl (Nat.le_of_ble_eq_true rfl) rfl (Or.inl ⟨rfl, rfl, _, rfl, rfl⟩) ?_
  intro p e s m args below meth c A ls Q E hK hP hD hS hA hl hE
  obtain ⟨hx, hb, hml, hr, hlk, hown, hT⟩ := E
  refine lv_aload_n hx hb d_X_alive_0 rfl (lv_at hl 0 rfl) ?_
  refine w_get i_X hx hb hT hown hK hP 0 rfl rfl 2 (by decide) tb_90 rfl d_X_alive_1 ?_
  exact hE _ _ _ _ d_X_alive_4 hP hD hS

set_option maxHeartbeats 4000000 in
set_option maxRecDepth 100000 in
/-- rowAt: no -/
theorem c_X_rowAt_n (l : Launch) (D : va_G) (a : Nat → Nat) (k : Nat → ClassId) (ca : Nat → Nat) (n : Nat) (al : Int32) (fr tt : Nat → Nat) (cc : Nat → Int64) (on : Nat → Bool) (len : Nat → Int64) (stp : Nat → Int32) (dir : Nat → Int64) (row : Nat → Int32) (rm : Nat) (rl : Int64) (x : Int32) (hrm : rm ≤ 22) (h : ∀ j, j < rm → x ≠ nI j) : Ct l y_X_rowAt b_X_rowAt 2 (some .int) 0 0 D (xT k) [.ref (a 0), .int x] (xW a k ca n al fr tt cc on len stp dir row rm rl) (xW a k ca n al fr tt cc on len stp dir row rm rl) (some (.int (-1))) := by
  refine q_enter [(0, .ref (a 0)), (1, .int x)] "TimeNet" .ireturn [.int (-1)] (by decide) rfl (Nat.le_of_ble_eq_true rfl) rfl (Or.inl ⟨rfl, rfl, _, rfl, rfl⟩) ?_
  intro p e s m args below meth c A ls Q E hK hP hD hS hA hl hE
  obtain ⟨hx, hb, hml, hr, hlk, hown, hT⟩ := E
  refine lv_iload_n hx hb d_X_rowAt_0 rfl (lv_at hl 1 rfl) ?_
  refine lv_if_lt (tgt := 21) hx hb d_X_rowAt_1 (by decide) (fun h1 => ?_) (fun h1 => ?_)
  · refine lv_iconst (v := (-1)) hx hb d_X_rowAt_21 (by decide) ?_
    exact hE _ _ _ _ d_X_rowAt_22 hP hD hS
  · refine lv_iload_n hx hb d_X_rowAt_4 rfl (lv_at hl 1 rfl) ?_
    refine lv_aload_n hx hb d_X_rowAt_5 rfl (lv_at hl 0 rfl) ?_
    refine w_get i_X hx hb hT hown hK hP 0 rfl rfl 6 (by decide) tb_94 rfl d_X_rowAt_6 ?_
    refine lv_icmp_ge (tgt := 21) hx hb d_X_rowAt_9 (by decide) (fun h2 => ?_) (fun h2 => ?_)
    · refine lv_iconst (v := (-1)) hx hb d_X_rowAt_21 (by decide) ?_
      exact hE _ _ _ _ d_X_rowAt_22 hP hD hS
    · exfalso
      rcases pk_ix x (n := rm) (by omega) with h9 | h9 | ⟨j, h8, h9⟩
      · exact h1 h9
      · exact h2 h9
      · exact h j h8 h9

set_option maxHeartbeats 4000000 in
set_option maxRecDepth 100000 in
/-- rowAt: yes -/
theorem c_X_rowAt_y (l : Launch) (D : va_G) (a : Nat → Nat) (k : Nat → ClassId) (ca : Nat → Nat) (n : Nat) (al : Int32) (fr tt : Nat → Nat) (cc : Nat → Int64) (on : Nat → Bool) (len : Nat → Int64) (stp : Nat → Int32) (dir : Nat → Int64) (row : Nat → Int32) (rm : Nat) (rl : Int64) (j : Nat) (hrm : rm ≤ 22) (hj : j < rm) : Ct l y_X_rowAt b_X_rowAt 2 (some .int) 0 0 D (xT k) [.ref (a 0), .int (nI j)] (xW a k ca n al fr tt cc on len stp dir row rm rl) (xW a k ca n al fr tt cc on len stp dir row rm rl) (some (.int (row j))) := by
  refine q_enter [(0, .ref (a 0)), (1, .int (nI j))] "TimeNet" .ireturn [.int (row j)] (by decide) rfl (Nat.le_of_ble_eq_true rfl) rfl (Or.inl ⟨rfl, rfl, _, rfl, rfl⟩) ?_
  intro p e s m args below meth c A ls Q E hK hP hD hS hA hl hE
  obtain ⟨hx, hb, hml, hr, hlk, hown, hT⟩ := E
  refine lv_iload_n hx hb d_X_rowAt_0 rfl (lv_at hl 1 rfl) ?_
  refine lv_if_lt (tgt := 21) hx hb d_X_rowAt_1 (by decide) (fun h1 => ?_) (fun h1 => ?_)
  · exact absurd h1 (nI_pos (by omega))
  · refine lv_iload_n hx hb d_X_rowAt_4 rfl (lv_at hl 1 rfl) ?_
    refine lv_aload_n hx hb d_X_rowAt_5 rfl (lv_at hl 0 rfl) ?_
    refine w_get i_X hx hb hT hown hK hP 0 rfl rfl 6 (by decide) tb_94 rfl d_X_rowAt_6 ?_
    refine w_icge (tgt := 21) hx hb (by omega) (by omega) d_X_rowAt_9 (by decide) (fun h2 => ?_) (fun h2 => ?_)
    · exact absurd h2 (by omega)
    · refine lv_aload_n hx hb d_X_rowAt_12 rfl (lv_at hl 0 rfl) ?_
      refine w_get i_X hx hb hT hown hK hP 0 rfl rfl 5 (by decide) tb_93 rfl d_X_rowAt_13 ?_
      refine lv_iload_n hx hb d_X_rowAt_16 rfl (lv_at hl 1 rfl) ?_
      refine w_iald hx hb hK hP 6 4 rfl rfl (by omega) (by decide) d_X_rowAt_17 ?_
      refine lv_goto (tgt := 22) hx hb d_X_rowAt_18 (by decide) ?_
      exact hE _ _ _ _ d_X_rowAt_22 hP hD hS

set_option maxHeartbeats 4000000 in
set_option maxRecDepth 100000 in
/-- steps: no points -/
theorem c_X_steps_n (l : Launch) (D : va_G) (a : Nat → Nat) (k : Nat → ClassId) (ca : Nat → Nat) (n : Nat) (al : Int32) (fr tt : Nat → Nat) (cc : Nat → Int64) (on : Nat → Bool) (len : Nat → Int64) (stp : Nat → Int32) (dir : Nat → Int64) (row : Nat → Int32) (rm : Nat) (rl : Int64) (i j : Int32) (h : (q_pt i && q_pt j) = false) : Ct l y_X_steps b_X_steps 3 (some .int) 2 43 D (xT k) [.ref (a 0), .int i, .int j] (xW a k ca n al fr tt cc on len stp dir row rm rl) (xW a k ca n al fr tt cc on len stp dir row rm rl) (some (.int (-1))) := by
  refine q_enter [(0, .ref (a 0)), (1, .int i), (2, .int j)] "TimeNet" .ireturn [.int (-1)] (by decide) rfl (Nat.le_of_ble_eq_true rfl) rfl (Or.inl ⟨rfl, rfl, _, rfl, rfl⟩) ?_
  intro p e s m args below meth c A ls Q E hK hP hD hS hA hl hE
  obtain ⟨hx, hb, hml, hr, hlk, hown, hT⟩ := E
  refine lv_iload_n hx hb d_X_steps_0 rfl (lv_at hl 1 rfl) ?_
  refine w_callS (v := .int (q_b (q_pt i))) (As := [.int i]) (rest := []) ⟨hx, hb, hml, hown, hT⟩ (c_X_isPoint l i) (w_cwS hT ms_X_isPoint tb_117 ⟨by decide, by decide⟩) rfl rfl hl.1 (Nat.le_of_ble_eq_true rfl) d_X_steps_1 ⟨Nat.zero_le _, Nat.zero_le _⟩ ?_
  refine w_ifeqB (tgt := 42) hx hb d_X_steps_4 (by decide) (fun h1 => ?_) (fun h1 => ?_)
  · refine lv_iconst (v := (-1)) hx hb d_X_steps_42 (by decide) ?_
    exact hE _ _ _ _ d_X_steps_43 hP hD hS
  · refine lv_iload_n hx hb d_X_steps_7 rfl (lv_at hl 2 rfl) ?_
    refine w_callS (v := .int (q_b (q_pt j))) (As := [.int j]) (rest := []) ⟨hx, hb, hml, hown, hT⟩ (c_X_isPoint l j) (w_cwS hT ms_X_isPoint tb_117 ⟨by decide, by decide⟩) rfl rfl hl.1 (Nat.le_of_ble_eq_true rfl) d_X_steps_8 ⟨Nat.zero_le _, Nat.zero_le _⟩ ?_
    refine w_ifeqB (tgt := 42) hx hb d_X_steps_11 (by decide) (fun h2 => ?_) (fun h2 => ?_)
    · refine lv_iconst (v := (-1)) hx hb d_X_steps_42 (by decide) ?_
      exact hE _ _ _ _ d_X_steps_43 hP hD hS
    · exact absurd h (by simp [h1, h2])

set_option maxHeartbeats 4000000 in
set_option maxRecDepth 100000 in
/-- steps -/
theorem c_X_steps_f (l : Launch) (D : va_G) (a : Nat → Nat) (k : Nat → ClassId) (ca : Nat → Nat) (n : Nat) (al : Int32) (fr tt : Nat → Nat) (cc : Nat → Int64) (on : Nat → Bool) (len : Nat → Int64) (stp : Nat → Int32) (dir : Nat → Int64) (row : Nat → Int32) (rm : Nat) (rl : Int64) (i j : Nat) (hi : i < 20) (hj : j < 20) (h : q_has len i j = false) : Ct l y_X_steps b_X_steps 3 (some .int) 2 43 D (xT k) [.ref (a 0), .int (nI i), .int (nI j)] (xW a k ca n al fr tt cc on len stp dir row rm rl) (xW a k ca n al fr tt cc on len stp dir row rm rl) (some (.int (-1))) := by
  refine q_enter [(0, .ref (a 0)), (1, .int (nI i)), (2, .int (nI j))] "TimeNet" .ireturn [.int (-1)] (by decide) rfl (Nat.le_of_ble_eq_true rfl) rfl (Or.inl ⟨rfl, rfl, _, rfl, rfl⟩) ?_
  intro p e s m args below meth c A ls Q E hK hP hD hS hA hl hE
  obtain ⟨hx, hb, hml, hr, hlk, hown, hT⟩ := E
  refine lv_iload_n hx hb d_X_steps_0 rfl (lv_at hl 1 rfl) ?_
  refine w_callS (v := .int (q_b (q_pt (nI i)))) (As := [.int (nI i)]) (rest := []) ⟨hx, hb, hml, hown, hT⟩ (c_X_isPoint l (nI i)) (w_cwS hT ms_X_isPoint tb_117 ⟨by decide, by decide⟩) rfl rfl hl.1 (Nat.le_of_ble_eq_true rfl) d_X_steps_1 ⟨Nat.zero_le _, Nat.zero_le _⟩ ?_
  refine w_ifeqB (tgt := 42) hx hb d_X_steps_4 (by decide) (fun h1 => ?_) (fun h1 => ?_)
  · exact absurd h1 (by rw [q_pt_nI hi]; decide)
  · refine lv_iload_n hx hb d_X_steps_7 rfl (lv_at hl 2 rfl) ?_
    refine w_callS (v := .int (q_b (q_pt (nI j)))) (As := [.int (nI j)]) (rest := []) ⟨hx, hb, hml, hown, hT⟩ (c_X_isPoint l (nI j)) (w_cwS hT ms_X_isPoint tb_117 ⟨by decide, by decide⟩) rfl rfl hl.1 (Nat.le_of_ble_eq_true rfl) d_X_steps_8 ⟨Nat.zero_le _, Nat.zero_le _⟩ ?_
    refine w_ifeqB (tgt := 42) hx hb d_X_steps_11 (by decide) (fun h2 => ?_) (fun h2 => ?_)
    · exact absurd h2 (by rw [q_pt_nI hj]; decide)
    · refine lv_aload_n hx hb d_X_steps_14 rfl (lv_at hl 0 rfl) ?_
      refine w_get i_X hx hb hT hown hK hP 0 rfl rfl 3 (by decide) tb_91 rfl d_X_steps_15 ?_
      refine lv_iload_n hx hb d_X_steps_18 rfl (lv_at hl 1 rfl) ?_
      refine lv_iload_n hx hb d_X_steps_19 rfl (lv_at hl 2 rfl) ?_
      refine w_callV (As := [.int (nI i), .int (nI j)]) (rest := []) ⟨hx, hb, hml, hown, hT⟩ (c_P_has l D a k ca n al fr tt cc on len stp dir row rm rl i j hi hj) (w_cwV hT ms_P_has tb_126 ⟨by decide, by decide⟩) hK hP hD hS hA 2 1 rfl rfl rfl rfl rfl hl.1 (Nat.le_of_ble_eq_true rfl) d_X_steps_20 ⟨Nat.zero_le _, Nat.zero_le _⟩ (fun H locs hP hD hS => ?_)
      refine w_ifeqB (tgt := 42) hx hb d_X_steps_23 (by decide) (fun h3 => ?_) (fun h3 => ?_)
      · refine lv_iconst (v := (-1)) hx hb d_X_steps_42 (by decide) ?_
        exact hE _ _ _ _ d_X_steps_43 hP hD hS
      · exact absurd h3 (by rw [h]; decide)

set_option maxHeartbeats 4000000 in
set_option maxRecDepth 100000 in
/-- steps -/
theorem c_X_steps_y (l : Launch) (D : va_G) (a : Nat → Nat) (k : Nat → ClassId) (ca : Nat → Nat) (n : Nat) (al : Int32) (fr tt : Nat → Nat) (cc : Nat → Int64) (on : Nat → Bool) (len : Nat → Int64) (stp : Nat → Int32) (dir : Nat → Int64) (row : Nat → Int32) (rm : Nat) (rl : Int64) (i j : Nat) (hi : i < 20) (hj : j < 20) (h : q_has len i j = true) : Ct l y_X_steps b_X_steps 3 (some .int) 2 43 D (xT k) [.ref (a 0), .int (nI i), .int (nI j)] (xW a k ca n al fr tt cc on len stp dir row rm rl) (xW a k ca n al fr tt cc on len stp dir row rm rl) (some (.int (stp (20 * i + j)))) := by
  refine q_enter [(0, .ref (a 0)), (1, .int (nI i)), (2, .int (nI j))] "TimeNet" .ireturn [.int (stp (20 * i + j))] (by decide) rfl (Nat.le_of_ble_eq_true rfl) rfl (Or.inl ⟨rfl, rfl, _, rfl, rfl⟩) ?_
  intro p e s m args below meth c A ls Q E hK hP hD hS hA hl hE
  obtain ⟨hx, hb, hml, hr, hlk, hown, hT⟩ := E
  refine lv_iload_n hx hb d_X_steps_0 rfl (lv_at hl 1 rfl) ?_
  refine w_callS (v := .int (q_b (q_pt (nI i)))) (As := [.int (nI i)]) (rest := []) ⟨hx, hb, hml, hown, hT⟩ (c_X_isPoint l (nI i)) (w_cwS hT ms_X_isPoint tb_117 ⟨by decide, by decide⟩) rfl rfl hl.1 (Nat.le_of_ble_eq_true rfl) d_X_steps_1 ⟨Nat.zero_le _, Nat.zero_le _⟩ ?_
  refine w_ifeqB (tgt := 42) hx hb d_X_steps_4 (by decide) (fun h1 => ?_) (fun h1 => ?_)
  · exact absurd h1 (by rw [q_pt_nI hi]; decide)
  · refine lv_iload_n hx hb d_X_steps_7 rfl (lv_at hl 2 rfl) ?_
    refine w_callS (v := .int (q_b (q_pt (nI j)))) (As := [.int (nI j)]) (rest := []) ⟨hx, hb, hml, hown, hT⟩ (c_X_isPoint l (nI j)) (w_cwS hT ms_X_isPoint tb_117 ⟨by decide, by decide⟩) rfl rfl hl.1 (Nat.le_of_ble_eq_true rfl) d_X_steps_8 ⟨Nat.zero_le _, Nat.zero_le _⟩ ?_
    refine w_ifeqB (tgt := 42) hx hb d_X_steps_11 (by decide) (fun h2 => ?_) (fun h2 => ?_)
    · exact absurd h2 (by rw [q_pt_nI hj]; decide)
    · refine lv_aload_n hx hb d_X_steps_14 rfl (lv_at hl 0 rfl) ?_
      refine w_get i_X hx hb hT hown hK hP 0 rfl rfl 3 (by decide) tb_91 rfl d_X_steps_15 ?_
      refine lv_iload_n hx hb d_X_steps_18 rfl (lv_at hl 1 rfl) ?_
      refine lv_iload_n hx hb d_X_steps_19 rfl (lv_at hl 2 rfl) ?_
      refine w_callV (As := [.int (nI i), .int (nI j)]) (rest := []) ⟨hx, hb, hml, hown, hT⟩ (c_P_has l D a k ca n al fr tt cc on len stp dir row rm rl i j hi hj) (w_cwV hT ms_P_has tb_126 ⟨by decide, by decide⟩) hK hP hD hS hA 2 1 rfl rfl rfl rfl rfl hl.1 (Nat.le_of_ble_eq_true rfl) d_X_steps_20 ⟨Nat.zero_le _, Nat.zero_le _⟩ (fun H locs hP hD hS => ?_)
      refine w_ifeqB (tgt := 42) hx hb d_X_steps_23 (by decide) (fun h3 => ?_) (fun h3 => ?_)
      · exact absurd h3 (by rw [h]; decide)
      · refine lv_aload_n hx hb d_X_steps_26 rfl (lv_at hl 0 rfl) ?_
        refine w_get i_X hx hb hT hown hK hP 0 rfl rfl 3 (by decide) tb_91 rfl d_X_steps_27 ?_
        refine w_get i_P hx hb hT hown hK hP 2 rfl rfl 1 (by decide) tb_29 rfl d_X_steps_30 ?_
        refine lv_iload_n hx hb d_X_steps_33 rfl (lv_at hl 1 rfl) ?_
        refine lv_iload_n hx hb d_X_steps_34 rfl (lv_at hl 2 rfl) ?_
        refine w_callS (v := .int (nI (20 * i + j))) (As := [.int (nI i), .int (nI j)]) (rest := [.ref (a 4)]) ⟨hx, hb, hml, hown, hT⟩ (c_P_at l i j) (w_cwS hT ms_P_at tb_69 ⟨by decide, by decide⟩) rfl rfl hl.1 (Nat.le_of_ble_eq_true rfl) d_X_steps_35 ⟨Nat.zero_le _, Nat.zero_le _⟩ ?_
        refine w_iald hx hb hK hP 4 2 rfl rfl (by omega) (by decide) d_X_steps_38 ?_
        refine lv_goto (tgt := 43) hx hb d_X_steps_39 (by decide) ?_
        exact hE _ _ _ _ d_X_steps_43 hP hD hS

set_option maxHeartbeats 4000000 in
set_option maxRecDepth 100000 in
/-- path: no points -/
theorem c_X_path_n (l : Launch) (D : va_G) (a : Nat → Nat) (k : Nat → ClassId) (ca : Nat → Nat) (n : Nat) (al : Int32) (fr tt : Nat → Nat) (cc : Nat → Int64) (on : Nat → Bool) (len : Nat → Int64) (stp : Nat → Int32) (dir : Nat → Int64) (row : Nat → Int32) (rm : Nat) (rl : Int64) (i j : Int32) (h : (q_pt i && q_pt j) = false) : Ct l y_X_path b_X_path 3 (some .int) 4 98 D (xT k) [.ref (a 0), .int i, .int j] (xW a k ca n al fr tt cc on len stp dir row rm rl) (xW a k ca n al fr tt cc on len stp dir row rm rl) (some (.int (-1))) := by
  refine q_enter [(0, .ref (a 0)), (1, .int i), (2, .int j)] "TimeNet" .ireturn [.int (-1)] (by decide) rfl (Nat.le_of_ble_eq_true rfl) rfl (Or.inl ⟨rfl, rfl, _, rfl, rfl⟩) ?_
  intro p e s m args below meth c A ls Q E hK hP hD hS hA hl hE
  obtain ⟨hx, hb, hml, hr, hlk, hown, hT⟩ := E
  refine lv_aload_n hx hb d_X_path_0 rfl (lv_at hl 0 rfl) ?_
  refine lv_iload_n hx hb d_X_path_1 rfl (lv_at hl 1 rfl) ?_
  refine lv_iload_n hx hb d_X_path_2 rfl (lv_at hl 2 rfl) ?_
  refine w_callV (As := [.int i, .int j]) (rest := []) ⟨hx, hb, hml, hown, hT⟩ (c_X_steps_n l D a k ca n al fr tt cc on len stp dir row rm rl i j h) (w_cwV hT ms_X_steps tb_159 ⟨by decide, by decide⟩) hK hP hD hS hA 0 0 rfl rfl rfl rfl rfl hl.1 (Nat.le_of_ble_eq_true rfl) d_X_path_3 ⟨Nat.zero_le _, Nat.zero_le _⟩ (fun H locs hP hD hS => ?_)
  refine lv_if_ge (tgt := 11) hx hb d_X_path_6 (by decide) (fun h1 => ?_) (fun h1 => ?_)
  · exact absurd h1 (by decide)
  · refine lv_iconst (v := (-1)) hx hb d_X_path_9 (by decide) ?_
    exact hE _ _ _ _ d_X_path_10 hP hD hS

set_option maxHeartbeats 4000000 in
set_option maxRecDepth 100000 in
/-- path: none -/
theorem c_X_path_f (l : Launch) (D : va_G) (a : Nat → Nat) (k : Nat → ClassId) (ca : Nat → Nat) (n : Nat) (al : Int32) (fr tt : Nat → Nat) (cc : Nat → Int64) (on : Nat → Bool) (len : Nat → Int64) (stp : Nat → Int32) (dir : Nat → Int64) (row : Nat → Int32) (rm : Nat) (rl : Int64) (i j : Nat) (hi : i < 20) (hj : j < 20) (h : q_has len i j = false) : Ct l y_X_path b_X_path 3 (some .int) 4 98 D (xT k) [.ref (a 0), .int (nI i), .int (nI j)] (xW a k ca n al fr tt cc on len stp dir row rm rl) (xW a k ca n al fr tt cc on len stp dir row rm rl) (some (.int (-1))) := by
  refine q_enter [(0, .ref (a 0)), (1, .int (nI i)), (2, .int (nI j))] "TimeNet" .ireturn [.int (-1)] (by decide) rfl (Nat.le_of_ble_eq_true rfl) rfl (Or.inl ⟨rfl, rfl, _, rfl, rfl⟩) ?_
  intro p e s m args below meth c A ls Q E hK hP hD hS hA hl hE
  obtain ⟨hx, hb, hml, hr, hlk, hown, hT⟩ := E
  refine lv_aload_n hx hb d_X_path_0 rfl (lv_at hl 0 rfl) ?_
  refine lv_iload_n hx hb d_X_path_1 rfl (lv_at hl 1 rfl) ?_
  refine lv_iload_n hx hb d_X_path_2 rfl (lv_at hl 2 rfl) ?_
  refine w_callV (As := [.int (nI i), .int (nI j)]) (rest := []) ⟨hx, hb, hml, hown, hT⟩ (c_X_steps_f l D a k ca n al fr tt cc on len stp dir row rm rl i j hi hj h) (w_cwV hT ms_X_steps tb_159 ⟨by decide, by decide⟩) hK hP hD hS hA 0 0 rfl rfl rfl rfl rfl hl.1 (Nat.le_of_ble_eq_true rfl) d_X_path_3 ⟨Nat.zero_le _, Nat.zero_le _⟩ (fun H locs hP hD hS => ?_)
  refine lv_if_ge (tgt := 11) hx hb d_X_path_6 (by decide) (fun h1 => ?_) (fun h1 => ?_)
  · exact absurd h1 (by decide)
  · refine lv_iconst (v := (-1)) hx hb d_X_path_9 (by decide) ?_
    exact hE _ _ _ _ d_X_path_10 hP hD hS

set_option maxHeartbeats 4000000 in
set_option maxRecDepth 100000 in
/-- path -/
theorem c_X_path_y (l : Launch) (D : va_G) (a : Nat → Nat) (k : Nat → ClassId) (ca : Nat → Nat) (n : Nat) (al : Int32) (fr tt : Nat → Nat) (cc : Nat → Int64) (on : Nat → Bool) (len : Nat → Int64) (stp : Nat → Int32) (dir : Nat → Int64) (row : Nat → Int32) (rm : Nat) (rl : Int64) (i j : Nat) (hi : i < 20) (hj : j < 20) (h : q_has len i j = true) (qs : List Nat) (hs : stp (20 * i + j) = nI qs.length) (hq : q_fol dir len stp j i (len (20 * i + j)) qs) (hlen : qs.length ≤ 20) : Ct l y_X_path b_X_path 3 (some .int) 4 98 D (xT k) [.ref (a 0), .int (nI i), .int (nI j)] (xW a k ca n al fr tt cc on len stp dir row rm rl) (xW a k ca n al fr tt cc on len stp dir (q_app (upd row 0 (nI i)) 1 qs) (1 + qs.length) (len (20 * i + j))) (some (.int (nI (1 + qs.length)))) := by
  refine q_enter [(0, .ref (a 0)), (1, .int (nI i)), (2, .int (nI j))] "TimeNet" .ireturn [.int (nI (1 + qs.length))] (by decide) rfl (Nat.le_of_ble_eq_true rfl) rfl (Or.inl ⟨rfl, rfl, _, rfl, rfl⟩) ?_
  intro p e s m args below meth c A ls Q E hK hP hD hS hA hl hE
  obtain ⟨hx, hb, hml, hr, hlk, hown, hT⟩ := E
  refine lv_aload_n hx hb d_X_path_0 rfl (lv_at hl 0 rfl) ?_
  refine lv_iload_n hx hb d_X_path_1 rfl (lv_at hl 1 rfl) ?_
  refine lv_iload_n hx hb d_X_path_2 rfl (lv_at hl 2 rfl) ?_
  refine w_callV (As := [.int (nI i), .int (nI j)]) (rest := []) ⟨hx, hb, hml, hown, hT⟩ (c_X_steps_y l D a k ca n al fr tt cc on len stp dir row rm rl i j hi hj h) (w_cwV hT ms_X_steps tb_159 ⟨by decide, by decide⟩) hK hP hD hS hA 0 0 rfl rfl rfl rfl rfl hl.1 (Nat.le_of_ble_eq_true rfl) d_X_path_3 ⟨Nat.zero_le _, Nat.zero_le _⟩ (fun H locs hP hD hS => ?_)
  refine w_top (y := .int (nI qs.length)) (by rw [hs]) ?_
  refine lv_if_ge (tgt := 11) hx hb d_X_path_6 (by decide) (fun h1 => ?_) (fun h1 => ?_)
  · refine lv_aload_n hx hb d_X_path_11 rfl (lv_at hl 0 rfl) ?_
    refine w_callN (As := []) (rest := []) ⟨hx, hb, hml, hown, hT⟩ (c_X_clearRow l D a k ca n al fr tt cc on len stp dir row rm rl ) (w_cwV hT ms_X_clearRow tb_127 ⟨by decide, by decide⟩) hK hP hD hS hA 0 0 rfl rfl rfl rfl rfl hl.1 (Nat.le_of_ble_eq_true rfl) d_X_path_12 ⟨Nat.zero_le _, Nat.zero_le _⟩ (fun H locs hP hD hS => ?_)
    have hP : va_P D classes (xW a k ca n al fr tt cc on len stp dir row 0 0) H := hP
    have hD : va_D A (xW a k ca n al fr tt cc on len stp dir row 0 0) := hD
    refine lv_aload_n hx hb d_X_path_15 rfl (lv_at hl 0 rfl) ?_
    refine lv_iload_n hx hb d_X_path_16 rfl (lv_at hl 1 rfl) ?_
    refine w_callN (As := [.int (nI i)]) (rest := []) ⟨hx, hb, hml, hown, hT⟩ (c_X_tell l D a k ca n al fr tt cc on len stp dir row 0 0 (nI i) (by omega)) (w_cwV hT ms_X_tell tb_131 ⟨by decide, by decide⟩) hK hP hD hS hA 0 0 rfl rfl rfl rfl rfl hl.1 (Nat.le_of_ble_eq_true rfl) d_X_path_17 ⟨Nat.zero_le _, Nat.zero_le _⟩ (fun H locs hP hD hS => ?_)
    have hP : va_P D classes (xW a k ca n al fr tt cc on len stp dir (upd row 0 (nI i)) (0 + 1) 0) H := hP
    have hD : va_D A (xW a k ca n al fr tt cc on len stp dir (upd row 0 (nI i)) (0 + 1) 0) := hD
    refine lv_aload_n hx hb d_X_path_20 rfl (lv_at hl 0 rfl) ?_
    refine lv_iload_n hx hb d_X_path_21 rfl (lv_at hl 1 rfl) ?_
    refine lv_iload_n hx hb d_X_path_22 rfl (lv_at hl 2 rfl) ?_
    refine w_callN (As := [.int (nI i), .int (nI j)]) (rest := []) ⟨hx, hb, hml, hown, hT⟩ (c_X_follow l D a k ca n al fr tt cc on len stp dir (upd row 0 (nI i)) (0 + 1) 0 i j hi hj qs hs hq (by omega)) (w_cwV hT ms_X_follow tb_135 ⟨by decide, by decide⟩) hK hP hD hS hA 0 0 rfl rfl rfl rfl rfl hl.1 (Nat.le_of_ble_eq_true rfl) d_X_path_23 ⟨Nat.zero_le _, Nat.zero_le _⟩ (fun H locs hP hD hS => ?_)
    have hP : va_P D classes (xW a k ca n al fr tt cc on len stp dir (q_app (upd row 0 (nI i)) (0 + 1) qs) (0 + 1 + qs.length) 0) H := hP
    have hD : va_D A (xW a k ca n al fr tt cc on len stp dir (q_app (upd row 0 (nI i)) (0 + 1) qs) (0 + 1 + qs.length) 0) := hD
    refine lv_aload_n hx hb d_X_path_26 rfl (lv_at hl 0 rfl) ?_
    refine lv_aload_n hx hb d_X_path_27 rfl (lv_at hl 0 rfl) ?_
    refine w_get i_X hx hb hT hown hK hP 0 rfl rfl 3 (by decide) tb_91 rfl d_X_path_28 ?_
    refine w_get i_P hx hb hT hown hK hP 2 rfl rfl 0 (by decide) tb_27 rfl d_X_path_31 ?_
    refine lv_iload_n hx hb d_X_path_34 rfl (lv_at hl 1 rfl) ?_
    refine lv_iload_n hx hb d_X_path_35 rfl (lv_at hl 2 rfl) ?_
    refine w_callS (v := .int (nI (20 * i + j))) (As := [.int (nI i), .int (nI j)]) (rest := [.ref (a 3), .ref (a 0)]) ⟨hx, hb, hml, hown, hT⟩ (c_P_at l i j) (w_cwS hT ms_P_at tb_69 ⟨by decide, by decide⟩) rfl rfl hl.1 (Nat.le_of_ble_eq_true rfl) d_X_path_36 ⟨Nat.zero_le _, Nat.zero_le _⟩ ?_
    refine w_lald hx hb hK hP 3 1 rfl rfl (by omega) (by decide) d_X_path_39 ?_
    refine w_put i_X t_X t_X_ok n_X hx hb hT hown hK hP hD hS 0 rfl rfl 7 (by decide) tb_95 rfl rfl rfl (Nat.le_of_ble_eq_true rfl) d_X_path_40 (fun H locs hP hD hS => ?_)
    have hP : va_P D classes (xW a k ca n al fr tt cc on len stp dir (q_app (upd row 0 (nI i)) (0 + 1) qs) (0 + 1 + qs.length) (len (20 * i + j))) H := hP
    have hD : va_D A (xW a k ca n al fr tt cc on len stp dir (q_app (upd row 0 (nI i)) (0 + 1) qs) (0 + 1 + qs.length) (len (20 * i + j))) := hD
    refine lv_aload_n hx hb d_X_path_43 rfl (lv_at hl 0 rfl) ?_
    refine w_get i_X hx hb hT hown hK hP 0 rfl rfl 6 (by decide) tb_94 rfl d_X_path_44 ?_
    exact hE _ _ _ _ d_X_path_47 hP hD hS
  · exact absurd (nI_pos' (by omega)) h1
end
section
def q_th (n : Nat) (x : Int32) : Bool := !(decide (x < 0)) && !(decide (nI n ≤ x))
theorem q_th_nI {n j : Nat} (h : j < n) (hn : n < 2 ^ 31) : q_th n (nI j) = true := by
  have h1 : ¬ nI j < 0 := nI_pos (by omega)
  have h2 : ¬ nI n ≤ nI j := fun q => by have := (nI_leI hn (by omega)).mp q; omega
  simp [q_th, h1, h2]
theorem q_th_of {n : Nat} {x : Int32} (hn : n < 2 ^ 31) (h : q_th n x = true) : ∃ j : Nat, j < n ∧ x = nI j := by
  rcases pk_ix x hn with h9 | h9 | h9
  · simp [q_th, h9] at h
  · simp [q_th, h9] at h
  · exact h9
end
section
set_option maxHeartbeats 4000000 in
set_option maxRecDepth 100000 in
/-- thrown -/
theorem c_M_thrown (l : Launch) (D : va_G) (a : Nat → Nat) (k : Nat → ClassId) (th : Int32) (n : Nat) (fr tt : Nat → Nat) (cc : Nat → Int64) (on : Nat → Bool) (rs : Nat) (row : Nat → Int32) (rl : Int64) (lst : Nat → Int64) (bl : Int64) (bs : Int32)  : Ct l y_M_thrown b_M_thrown 1 (some .int) 0 0 D (mT k) [.ref (a 0)] (mW a k th n fr tt cc on rs row rl lst bl bs) (mW a k th n fr tt cc on rs row rl lst bl bs) (some (.int th)) := by
  refine q_enter [(0, .ref (a 0))] "TimeNetModel" .ireturn [.int th] (by decide) rfl (Nat.le_of_ble_eq_true rfl) rfl (Or.inl ⟨rfl, rfl, _, rfl, rfl⟩) ?_
  intro p e s m args below meth c A ls Q E hK hP hD hS hA hl hE
  obtain ⟨hx, hb, hml, hr, hlk, hown, hT⟩ := E
  refine lv_aload_n hx hb d_M_thrown_0 rfl (lv_at hl 0 rfl) ?_
  refine w_get i_M hx hb hT hown hK hP 0 rfl rfl 0 (by decide) tb_267 rfl d_M_thrown_1 ?_
  exact hE _ _ _ _ d_M_thrown_4 hP hD hS

set_option maxHeartbeats 4000000 in
set_option maxRecDepth 100000 in
/-- isThere -/
theorem c_M_isThere (l : Launch) (D : va_G) (a : Nat → Nat) (k : Nat → ClassId) (th : Int32) (n : Nat) (fr tt : Nat → Nat) (cc : Nat → Int64) (on : Nat → Bool) (rs : Nat) (row : Nat → Int32) (rl : Int64) (lst : Nat → Int64) (bl : Int64) (bs : Int32) (x : Int32) : Ct l y_M_isThere b_M_isThere 2 (some .boolean) 0 0 D (mT k) [.ref (a 0), .int x] (mW a k th n fr tt cc on rs row rl lst bl bs) (mW a k th n fr tt cc on rs row rl lst bl bs) (some (.int (q_b (q_th n x)))) := by
  refine q_enter [(0, .ref (a 0)), (1, .int x)] "TimeNetModel" .ireturn [.int (q_b (q_th n x))] (by decide) rfl (Nat.le_of_ble_eq_true rfl) rfl (Or.inr (Or.inl ⟨rfl, rfl, _, rfl, rfl⟩)) ?_
  intro p e s m args below meth c A ls Q E hK hP hD hS hA hl hE
  obtain ⟨hx, hb, hml, hr, hlk, hown, hT⟩ := E
  refine lv_iload_n hx hb d_M_isThere_0 rfl (lv_at hl 1 rfl) ?_
  refine lv_if_lt (tgt := 16) hx hb d_M_isThere_1 (by decide) (fun h1 => ?_) (fun h1 => ?_)
  · refine lv_iconst (v := nI 0) hx hb d_M_isThere_16 (by decide) ?_
    refine w_top (y := .int (q_b (q_th n x))) (by rw [show q_th n x = false by simp [q_th, h1]]; rfl) ?_
    exact hE _ _ _ _ d_M_isThere_17 hP hD hS
  · refine lv_iload_n hx hb d_M_isThere_4 rfl (lv_at hl 1 rfl) ?_
    refine lv_aload_n hx hb d_M_isThere_5 rfl (lv_at hl 0 rfl) ?_
    refine w_get i_M hx hb hT hown hK hP 0 rfl rfl 1 (by decide) tb_268 rfl d_M_isThere_6 ?_
    refine lv_icmp_ge (tgt := 16) hx hb d_M_isThere_9 (by decide) (fun h2 => ?_) (fun h2 => ?_)
    · refine lv_iconst (v := nI 0) hx hb d_M_isThere_16 (by decide) ?_
      refine w_top (y := .int (q_b (q_th n x))) (by rw [show q_th n x = false by simp [q_th, h2]]; rfl) ?_
      exact hE _ _ _ _ d_M_isThere_17 hP hD hS
    · refine lv_iconst (v := nI 1) hx hb d_M_isThere_12 (by decide) ?_
      refine lv_goto (tgt := 17) hx hb d_M_isThere_13 (by decide) ?_
      refine w_top (y := .int (q_b (q_th n x))) (by rw [show q_th n x = true by simp [q_th, h1, h2]]; rfl) ?_
      exact hE _ _ _ _ d_M_isThere_17 hP hD hS

set_option maxHeartbeats 4000000 in
set_option maxRecDepth 100000 in
/-- step -/
theorem c_M_step (l : Launch) (D : va_G) (a : Nat → Nat) (k : Nat → ClassId) (th : Int32) (n : Nat) (fr tt : Nat → Nat) (cc : Nat → Int64) (on : Nat → Bool) (rs : Nat) (row : Nat → Int32) (rl : Int64) (lst : Nat → Int64) (bl : Int64) (bs : Int32) (i j : Nat) (hi : i < 20) (hj : j < 20) (hft : ∀ j, j < n → fr j < 20 ∧ tt j < 20) (hn : n ≤ 120) : Ct l y_M_step b_M_step 6 (some .long) 0 0 D (mT k) [.ref (a 0), .int (nI i), .int (nI j)] (mW a k th n fr tt cc on rs row rl lst bl bs) (mW a k th n fr tt cc on rs row rl lst bl bs) (some (.long (q_step n fr tt cc on i j))) := by
  refine q_enter [(0, .ref (a 0)), (1, .int (nI i)), (2, .int (nI j))] "TimeNetModel" .lreturn [.long (q_step n fr tt cc on i j)] (by decide) rfl (Nat.le_of_ble_eq_true rfl) rfl (Or.inr (Or.inr (Or.inl ⟨rfl, rfl, _, rfl, rfl⟩))) ?_
  intro p e s m args below meth c A ls Q E hK hP hD hS hA hl hE
  obtain ⟨hx, hb, hml, hr, hlk, hown, hT⟩ := E
  refine lv_ldc2 (v := q_nev) hx hb hown (hT _ tb_326) d_M_step_0 ?_
  refine lv_lstore_n (lv' := [(3, .long q_nev), (0, .ref (a 0)), (1, .int (nI i)), (2, .int (nI j))]) hx hb d_M_step_3 rfl hl (by decide) rfl (fun ls hl => ?_)
  refine lv_iconst (v := nI 0) hx hb d_M_step_4 (by decide) ?_
  refine lv_istore (lv' := [(5, .int (nI 0)), (3, .long q_nev), (0, .ref (a 0)), (1, .int (nI i)), (2, .int (nI j))]) hx hb d_M_step_5 hl (by decide) rfl (fun ls hl => ?_)
  have loop : ∀ (d z : Nat), z ≤ n → n + 1 ≤ z + d → ∀ (g : Int64) (H : Heap) (locs : List Loc) (ls : Array Slot), g = q_it (q_st fr tt cc on i j) z q_nev → va_P D classes (mW a k th n fr tt cc on rs row rl lst bl bs) H → va_D A (mW a k th n fr tt cc on rs row rl lst bl bs) → va_S A s.heap H locs → lv_has ls 6 [(5, .int (nI z)), (3, .long g), (0, .ref (a 0)), (1, .int (nI i)), (2, .int (nI j))] → W p l e (q_rm 0 0) s m args below meth c H locs 0 0 Q (F0 m 7 ls []) := by
    intro d
    induction d with
    | zero => intro z h1 h2; exact absurd h2 (by omega)
    | succ d ih =>
      intro z hi_z hd_z g H locs ls hg hP hD hS hl
      refine lv_iload hx hb d_M_step_7 (lv_at hl 0 rfl) ?_
      refine lv_aload_n hx hb d_M_step_9 rfl (lv_at hl 2 rfl) ?_
      refine w_get i_M hx hb hT hown hK hP 0 rfl rfl 1 (by decide) tb_268 rfl d_M_step_10 ?_
      refine w_icge (tgt := 78) hx hb (by omega) (by omega) d_M_step_13 (by decide) (fun h3 => ?_) (fun h3 => ?_)
      · have h4 : z = n := by omega
        rw [h4] at hg
        refine lv_lload_n hx hb d_M_step_78 rfl (lv_at hl 1 rfl) ?_
        refine w_top (y := .long (q_step n fr tt cc on i j)) (by rw [hg]; rfl) ?_
        exact hE _ _ _ _ d_M_step_79 hP hD hS
      · have hfz := (hft z h3).1
        have htz := (hft z h3).2
        refine lv_aload_n hx hb d_M_step_16 rfl (lv_at hl 2 rfl) ?_
        refine w_get i_M hx hb hT hown hK hP 0 rfl rfl 5 (by decide) tb_272 rfl d_M_step_17 ?_
        refine lv_iload hx hb d_M_step_20 (lv_at hl 0 rfl) ?_
        refine w_zald hx hb hK hP 4 3 rfl rfl (by omega) (by decide) d_M_step_22 ?_
        refine w_ifeqB (tgt := 70) hx hb d_M_step_23 (by decide) (fun h5 => ?_) (fun h5 => ?_)
        · refine lv_lload_n hx hb d_M_step_70 rfl (lv_at hl 1 rfl) ?_
          refine lv_lstore_n (lv' := [(3, .long g), (5, .int (nI z)), (0, .ref (a 0)), (1, .int (nI i)), (2, .int (nI j))]) hx hb d_M_step_71 rfl hl (by decide) rfl (fun ls hl => ?_)
          refine lv_iinc (v := nI (z + 1)) (lv' := [(5, .int (nI (z + 1))), (3, .long g), (0, .ref (a 0)), (1, .int (nI i)), (2, .int (nI j))]) hx hb d_M_step_72 hl (k := 1) rfl (q_ii _) (by decide) rfl (fun ls hl => ?_)
          refine lv_goto (tgt := 7) hx hb d_M_step_75 (by decide) ?_
          exact ih (z + 1) (by omega) (by omega) g H locs ls (by rw [q_it, ← hg, q_st, if_neg (by simp [h5])]) hP hD hS (lv_sub hl [0, 1, 2, 3, 4] rfl)
        · refine lv_aload_n hx hb d_M_step_26 rfl (lv_at hl 2 rfl) ?_
          refine w_get i_M hx hb hT hown hK hP 0 rfl rfl 2 (by decide) tb_269 rfl d_M_step_27 ?_
          refine lv_iload hx hb d_M_step_30 (lv_at hl 0 rfl) ?_
          refine w_iald hx hb hK hP 1 0 rfl rfl (by omega) (by decide) d_M_step_32 ?_
          refine lv_iload_n hx hb d_M_step_33 rfl (lv_at hl 3 rfl) ?_
          refine w_icne (tgt := 70) hx hb (by omega) (by omega) d_M_step_34 (by decide) (fun h6 => ?_) (fun h6 => ?_)
          · refine lv_lload_n hx hb d_M_step_70 rfl (lv_at hl 1 rfl) ?_
            refine lv_lstore_n (lv' := [(3, .long g), (5, .int (nI z)), (0, .ref (a 0)), (1, .int (nI i)), (2, .int (nI j))]) hx hb d_M_step_71 rfl hl (by decide) rfl (fun ls hl => ?_)
            refine lv_iinc (v := nI (z + 1)) (lv' := [(5, .int (nI (z + 1))), (3, .long g), (0, .ref (a 0)), (1, .int (nI i)), (2, .int (nI j))]) hx hb d_M_step_72 hl (k := 1) rfl (q_ii _) (by decide) rfl (fun ls hl => ?_)
            refine lv_goto (tgt := 7) hx hb d_M_step_75 (by decide) ?_
            exact ih (z + 1) (by omega) (by omega) g H locs ls (by rw [q_it, ← hg, q_st, if_neg (by simp [h6])]) hP hD hS (lv_sub hl [0, 1, 2, 3, 4] rfl)
          · refine lv_aload_n hx hb d_M_step_37 rfl (lv_at hl 2 rfl) ?_
            refine w_get i_M hx hb hT hown hK hP 0 rfl rfl 3 (by decide) tb_270 rfl d_M_step_38 ?_
            refine lv_iload hx hb d_M_step_41 (lv_at hl 0 rfl) ?_
            refine w_iald hx hb hK hP 2 1 rfl rfl (by omega) (by decide) d_M_step_43 ?_
            refine lv_iload_n hx hb d_M_step_44 rfl (lv_at hl 4 rfl) ?_
            refine w_icne (tgt := 70) hx hb (by omega) (by omega) d_M_step_45 (by decide) (fun h7 => ?_) (fun h7 => ?_)
            · refine lv_lload_n hx hb d_M_step_70 rfl (lv_at hl 1 rfl) ?_
              refine lv_lstore_n (lv' := [(3, .long g), (5, .int (nI z)), (0, .ref (a 0)), (1, .int (nI i)), (2, .int (nI j))]) hx hb d_M_step_71 rfl hl (by decide) rfl (fun ls hl => ?_)
              refine lv_iinc (v := nI (z + 1)) (lv' := [(5, .int (nI (z + 1))), (3, .long g), (0, .ref (a 0)), (1, .int (nI i)), (2, .int (nI j))]) hx hb d_M_step_72 hl (k := 1) rfl (q_ii _) (by decide) rfl (fun ls hl => ?_)
              refine lv_goto (tgt := 7) hx hb d_M_step_75 (by decide) ?_
              exact ih (z + 1) (by omega) (by omega) g H locs ls (by rw [q_it, ← hg, q_st, if_neg (by simp [h7])]) hP hD hS (lv_sub hl [0, 1, 2, 3, 4] rfl)
            · refine lv_aload_n hx hb d_M_step_48 rfl (lv_at hl 2 rfl) ?_
              refine w_get i_M hx hb hT hown hK hP 0 rfl rfl 4 (by decide) tb_271 rfl d_M_step_49 ?_
              refine lv_iload hx hb d_M_step_52 (lv_at hl 0 rfl) ?_
              refine w_lald hx hb hK hP 3 2 rfl rfl (by omega) (by decide) d_M_step_54 ?_
              refine lv_lload_n hx hb d_M_step_55 rfl (lv_at hl 1 rfl) ?_
              refine w_lcge (tgt := 70) hx hb d_M_step_56 d_M_step_57 (by decide) (fun h8 => ?_) (fun h8 => ?_)
              · refine lv_lload_n hx hb d_M_step_70 rfl (lv_at hl 1 rfl) ?_
                refine lv_lstore_n (lv' := [(3, .long g), (5, .int (nI z)), (0, .ref (a 0)), (1, .int (nI i)), (2, .int (nI j))]) hx hb d_M_step_71 rfl hl (by decide) rfl (fun ls hl => ?_)
                refine lv_iinc (v := nI (z + 1)) (lv' := [(5, .int (nI (z + 1))), (3, .long g), (0, .ref (a 0)), (1, .int (nI i)), (2, .int (nI j))]) hx hb d_M_step_72 hl (k := 1) rfl (q_ii _) (by decide) rfl (fun ls hl => ?_)
                refine lv_goto (tgt := 7) hx hb d_M_step_75 (by decide) ?_
                exact ih (z + 1) (by omega) (by omega) g H locs ls (by rw [q_it, ← hg, q_st, if_neg (by simp [h8])]) hP hD hS (lv_sub hl [0, 1, 2, 3, 4] rfl)
              · refine lv_aload_n hx hb d_M_step_60 rfl (lv_at hl 2 rfl) ?_
                refine w_get i_M hx hb hT hown hK hP 0 rfl rfl 4 (by decide) tb_271 rfl d_M_step_61 ?_
                refine lv_iload hx hb d_M_step_64 (lv_at hl 0 rfl) ?_
                refine w_lald hx hb hK hP 3 2 rfl rfl (by omega) (by decide) d_M_step_66 ?_
                refine lv_goto (tgt := 71) hx hb d_M_step_67 (by decide) ?_
                refine lv_lstore_n (lv' := [(3, .long (cc z)), (5, .int (nI z)), (0, .ref (a 0)), (1, .int (nI i)), (2, .int (nI j))]) hx hb d_M_step_71 rfl hl (by decide) rfl (fun ls hl => ?_)
                refine lv_iinc (v := nI (z + 1)) (lv' := [(5, .int (nI (z + 1))), (3, .long (cc z)), (0, .ref (a 0)), (1, .int (nI i)), (2, .int (nI j))]) hx hb d_M_step_72 hl (k := 1) rfl (q_ii _) (by decide) rfl (fun ls hl => ?_)
                refine lv_goto (tgt := 7) hx hb d_M_step_75 (by decide) ?_
                exact ih (z + 1) (by omega) (by omega) (cc z) H locs ls (by rw [q_it, ← hg, q_st, if_pos ⟨h5, h6, h7, h8⟩]) hP hD hS (lv_sub hl [0, 1, 2, 3, 4] rfl)
  exact loop (n + 1) 0 (by omega) (by omega) q_nev s.heap [] ls rfl hP hD hS (lv_sub hl [0, 1, 2, 3, 4] rfl)
end
section
set_option maxHeartbeats 4000000 in
set_option maxRecDepth 100000 in
/-- best -/
theorem c_M_best (l : Launch) (D : va_G) (a : Nat → Nat) (k : Nat → ClassId) (th : Int32) (n : Nat) (fr tt : Nat → Nat) (cc : Nat → Int64) (on : Nat → Bool) (rs : Nat) (row : Nat → Int32) (rl : Int64) (lst : Nat → Int64) (bl : Int64) (bs : Int32) (i j : Nat) (hi : i < 20) (hj : j < 20) (hft : ∀ j, j < n → fr j < 20 ∧ tt j < 20) (hn : n ≤ 120) : Ct l y_M_best b_M_best 7 (some .boolean) 0 0 D (mT k) [.ref (a 0), .int (nI i), .int (nI j)] (mW a k th n fr tt cc on rs row rl lst bl bs) (mW a k th n fr tt cc on rs row rl (q_lst n fr tt cc on j lst) ((q_bst (q_lst n fr tt cc on j lst) i).1) ((q_bst (q_lst n fr tt cc on j lst) i).2)) (some (.int (q_b (!(decide ((q_bst (q_lst n fr tt cc on j lst) i).2 < 0)))))) := by
  refine q_enter [(0, .ref (a 0)), (1, .int (nI i)), (2, .int (nI j))] "TimeNetModel" .ireturn [.int (q_b (!(decide ((q_bst (q_lst n fr tt cc on j lst) i).2 < 0))))] (by decide) rfl (Nat.le_of_ble_eq_true rfl) rfl (Or.inr (Or.inl ⟨rfl, rfl, _, rfl, rfl⟩)) ?_
  intro p e s m args below meth c A ls Q E hK hP hD hS hA hl hE
  obtain ⟨hx, hb, hml, hr, hlk, hown, hT⟩ := E
  refine lv_iconst (v := nI 0) hx hb d_M_best_0 (by decide) ?_
  refine lv_istore_n (lv' := [(3, .int (nI 0)), (0, .ref (a 0)), (1, .int (nI i)), (2, .int (nI j))]) hx hb d_M_best_1 rfl hl (by decide) rfl (fun ls hl => ?_)
  have loop3 : ∀ (d z : Nat), z ≤ 21 → 21 + 1 ≤ z + d → ∀ (g : Int64 × Int32) (H : Heap) (locs : List Loc) (ls : Array Slot), g = q_it (q_b4 (q_lst n fr tt cc on j lst) i) z (q_nev, -1) → va_P D classes (mW a k th n fr tt cc on rs row rl (q_lst n fr tt cc on j lst) g.1 g.2) H → va_D A (mW a k th n fr tt cc on rs row rl (q_lst n fr tt cc on j lst) g.1 g.2) → va_S A s.heap H locs → lv_has ls 7 [(3, .int (nI z)), (0, .ref (a 0)), (1, .int (nI i)), (2, .int (nI j))] → W p l e (q_rm 0 0) s m args below meth c H locs 0 0 Q (F0 m 211 ls []) := by
    intro d
    induction d with
    | zero => intro z h1 h2; exact absurd h2 (by omega)
    | succ d ih =>
      intro z hi_z hd_z g H locs ls hg hP hD hS hl
      refine lv_iload_n hx hb d_M_best_211 rfl (lv_at hl 0 rfl) ?_
      refine lv_bipush (v := nI 20) hx hb d_M_best_212 (by decide) ?_
      refine w_icgt (tgt := 262) hx hb (by omega) (by omega) d_M_best_214 (by decide) (fun h3 => ?_) (fun h3 => ?_)
      · have h4 : z = 21 := by omega
        rw [h4] at hg
        have h5 : g = q_bst (q_lst n fr tt cc on j lst) i := hg
        rw [← h5] at hE
        refine lv_aload_n hx hb d_M_best_262 rfl (lv_at hl 1 rfl) ?_
        refine w_get i_M hx hb hT hown hK hP 0 rfl rfl 11 (by decide) tb_278 rfl d_M_best_263 ?_
        refine lv_if_lt (tgt := 273) hx hb d_M_best_266 (by decide) (fun h6 => ?_) (fun h6 => ?_)
        · refine lv_iconst (v := nI 0) hx hb d_M_best_273 (by decide) ?_
          refine w_top (y := .int (q_b (!(decide (g.2 < 0))))) (by rw [show (!(decide (g.2 < 0))) = false by simp [h6]]; rfl) ?_
          exact hE _ _ _ _ d_M_best_274 hP hD hS
        · refine lv_iconst (v := nI 1) hx hb d_M_best_269 (by decide) ?_
          refine lv_goto (tgt := 274) hx hb d_M_best_270 (by decide) ?_
          refine w_top (y := .int (q_b (!(decide (g.2 < 0))))) (by rw [show (!(decide (g.2 < 0))) = true by simp [h6]]; rfl) ?_
          exact hE _ _ _ _ d_M_best_274 hP hD hS
      · refine lv_aload_n hx hb d_M_best_217 rfl (lv_at hl 1 rfl) ?_
        refine w_get i_M hx hb hT hown hK hP 0 rfl rfl 9 (by decide) tb_276 rfl d_M_best_218 ?_
        refine lv_bipush (v := nI 20) hx hb d_M_best_221 (by decide) ?_
        refine lv_iload_n hx hb d_M_best_223 rfl (lv_at hl 0 rfl) ?_
        refine w_imul hx hb d_M_best_224 ?_
        refine lv_iload_n hx hb d_M_best_225 rfl (lv_at hl 2 rfl) ?_
        refine w_iadd hx hb d_M_best_226 ?_
        refine w_lald hx hb hK hP 6 5 rfl rfl (by omega) (by decide) d_M_best_227 ?_
        refine lv_aload_n hx hb d_M_best_228 rfl (lv_at hl 1 rfl) ?_
        refine w_get i_M hx hb hT hown hK hP 0 rfl rfl 10 (by decide) tb_277 rfl d_M_best_229 ?_
        refine w_lcge (tgt := 256) hx hb d_M_best_232 d_M_best_233 (by decide) (fun h7 => ?_) (fun h7 => ?_)
        · refine lv_iinc (v := nI (z + 1)) (lv' := [(3, .int (nI (z + 1))), (0, .ref (a 0)), (1, .int (nI i)), (2, .int (nI j))]) hx hb d_M_best_256 hl (k := 0) rfl (q_ii _) (by decide) rfl (fun ls hl => ?_)
          refine lv_goto (tgt := 211) hx hb d_M_best_259 (by decide) ?_
          exact ih (z + 1) (by omega) (by omega) g H locs ls (by rw [q_it, ← hg, q_b4, if_neg h7]) hP hD hS (lv_sub hl [0, 1, 2, 3] rfl)
        · refine lv_aload_n hx hb d_M_best_236 rfl (lv_at hl 1 rfl) ?_
          refine lv_aload_n hx hb d_M_best_237 rfl (lv_at hl 1 rfl) ?_
          refine w_get i_M hx hb hT hown hK hP 0 rfl rfl 9 (by decide) tb_276 rfl d_M_best_238 ?_
          refine lv_bipush (v := nI 20) hx hb d_M_best_241 (by decide) ?_
          refine lv_iload_n hx hb d_M_best_243 rfl (lv_at hl 0 rfl) ?_
          refine w_imul hx hb d_M_best_244 ?_
          refine lv_iload_n hx hb d_M_best_245 rfl (lv_at hl 2 rfl) ?_
          refine w_iadd hx hb d_M_best_246 ?_
          refine w_lald hx hb hK hP 6 5 rfl rfl (by omega) (by decide) d_M_best_247 ?_
          refine w_put i_M t_M t_M_ok n_M hx hb hT hown hK hP hD hS 0 rfl rfl 10 (by decide) tb_277 rfl rfl rfl (Nat.le_of_ble_eq_true rfl) d_M_best_248 (fun H locs hP hD hS => ?_)
          have hP : va_P D classes (mW a k th n fr tt cc on rs row rl (q_lst n fr tt cc on j lst) ((q_lst n fr tt cc on j lst) (20 * z + i)) g.2) H := hP
          have hD : va_D A (mW a k th n fr tt cc on rs row rl (q_lst n fr tt cc on j lst) ((q_lst n fr tt cc on j lst) (20 * z + i)) g.2) := hD
          refine lv_aload_n hx hb d_M_best_251 rfl (lv_at hl 1 rfl) ?_
          refine lv_iload_n hx hb d_M_best_252 rfl (lv_at hl 0 rfl) ?_
          refine w_put i_M t_M t_M_ok n_M hx hb hT hown hK hP hD hS 0 rfl rfl 11 (by decide) tb_278 rfl rfl rfl (Nat.le_of_ble_eq_true rfl) d_M_best_253 (fun H locs hP hD hS => ?_)
          have hP : va_P D classes (mW a k th n fr tt cc on rs row rl (q_lst n fr tt cc on j lst) ((q_lst n fr tt cc on j lst) (20 * z + i)) (nI z)) H := hP
          have hD : va_D A (mW a k th n fr tt cc on rs row rl (q_lst n fr tt cc on j lst) ((q_lst n fr tt cc on j lst) (20 * z + i)) (nI z)) := hD
          refine lv_iinc (v := nI (z + 1)) (lv' := [(3, .int (nI (z + 1))), (0, .ref (a 0)), (1, .int (nI i)), (2, .int (nI j))]) hx hb d_M_best_256 hl (k := 0) rfl (q_ii _) (by decide) rfl (fun ls hl => ?_)
          refine lv_goto (tgt := 211) hx hb d_M_best_259 (by decide) ?_
          exact ih (z + 1) (by omega) (by omega) ((q_lst n fr tt cc on j lst) (20 * z + i), nI z) H locs ls (by rw [q_it, ← hg, q_b4, if_pos h7]) hP hD hS (lv_sub hl [0, 1, 2, 3] rfl)
  have loop2 : ∀ (d z : Nat), z ≤ 20 → 20 + 1 ≤ z + d → ∀ (g : Nat → Int64) (H : Heap) (locs : List Loc) (ls : Array Slot), g = q_it (q_b3 n fr tt cc on) z (q_it (q_b0 j) 20 lst) → va_P D classes (mW a k th n fr tt cc on rs row rl g bl bs) H → va_D A (mW a k th n fr tt cc on rs row rl g bl bs) → va_S A s.heap H locs → lv_has ls 7 [(3, .int (nI (z + 1))), (0, .ref (a 0)), (1, .int (nI i)), (2, .int (nI j))] → W p l e (q_rm 0 0) s m args below meth c H locs 0 0 Q (F0 m 34 ls []) := by
    intro d
    induction d with
    | zero => intro z h1 h2; exact absurd h2 (by omega)
    | succ d ih =>
      intro z hi_z hd_z g H locs ls hg hP hD hS hl
      refine lv_iload_n hx hb d_M_best_34 rfl (lv_at hl 0 rfl) ?_
      refine lv_bipush (v := nI 20) hx hb d_M_best_35 (by decide) ?_
      refine w_icgt (tgt := 197) hx hb (by omega) (by omega) d_M_best_37 (by decide) (fun h3 => ?_) (fun h3 => ?_)
      · have h4 : z = 20 := by omega
        rw [h4] at hg
        have h5 : g = q_lst n fr tt cc on j lst := hg
        rw [h5] at hP hD
        refine lv_aload_n hx hb d_M_best_197 rfl (lv_at hl 1 rfl) ?_
        refine lv_iconst (v := (-1)) hx hb d_M_best_198 (by decide) ?_
        refine w_put i_M t_M t_M_ok n_M hx hb hT hown hK hP hD hS 0 rfl rfl 11 (by decide) tb_278 rfl rfl rfl (Nat.le_of_ble_eq_true rfl) d_M_best_199 (fun H locs hP hD hS => ?_)
        have hP : va_P D classes (mW a k th n fr tt cc on rs row rl (q_lst n fr tt cc on j lst) bl (-1)) H := hP
        have hD : va_D A (mW a k th n fr tt cc on rs row rl (q_lst n fr tt cc on j lst) bl (-1)) := hD
        refine lv_aload_n hx hb d_M_best_202 rfl (lv_at hl 1 rfl) ?_
        refine lv_ldc2 (v := q_nev) hx hb hown (hT _ tb_326) d_M_best_203 ?_
        refine w_put i_M t_M t_M_ok n_M hx hb hT hown hK hP hD hS 0 rfl rfl 10 (by decide) tb_277 rfl rfl rfl (Nat.le_of_ble_eq_true rfl) d_M_best_206 (fun H locs hP hD hS => ?_)
        have hP : va_P D classes (mW a k th n fr tt cc on rs row rl (q_lst n fr tt cc on j lst) q_nev (-1)) H := hP
        have hD : va_D A (mW a k th n fr tt cc on rs row rl (q_lst n fr tt cc on j lst) q_nev (-1)) := hD
        refine lv_iconst (v := nI 0) hx hb d_M_best_209 (by decide) ?_
        refine lv_istore_n (lv' := [(3, .int (nI 0)), (0, .ref (a 0)), (1, .int (nI i)), (2, .int (nI j))]) hx hb d_M_best_210 rfl hl (by decide) rfl (fun ls hl => ?_)
        exact loop3 22 0 (by omega) (by omega) (q_nev, -1) H locs ls rfl hP hD hS (lv_sub hl [0, 1, 2, 3] rfl)
      · refine lv_iconst (v := nI 0) hx hb d_M_best_40 (by decide) ?_
        refine lv_istore (lv' := [(4, .int (nI 0)), (3, .int (nI (z + 1))), (0, .ref (a 0)), (1, .int (nI i)), (2, .int (nI j))]) hx hb d_M_best_41 hl (by decide) rfl (fun ls hl => ?_)
        have loop2b : ∀ (d2 v : Nat), v ≤ n → n + 1 ≤ v + d2 → ∀ (g2 : Nat → Int64) (H : Heap) (locs : List Loc) (ls : Array Slot), g2 = q_it (q_b2 fr tt cc on (z + 1)) v (q_it (q_b1 (z + 1)) 20 g) → va_P D classes (mW a k th n fr tt cc on rs row rl g2 bl bs) H → va_D A (mW a k th n fr tt cc on rs row rl g2 bl bs) → va_S A s.heap H locs → lv_has ls 7 [(4, .int (nI v)), (3, .int (nI (z + 1))), (0, .ref (a 0)), (1, .int (nI i)), (2, .int (nI j))] → W p l e (q_rm 0 0) s m args below meth c H locs 0 0 Q (F0 m 74 ls []) := by
          intro d2
          induction d2 with
          | zero => intro v h1 h2; exact absurd h2 (by omega)
          | succ d2 ih2 =>
            intro v hi_v hd_v g2 H locs ls hg2 hP hD hS hl
            refine lv_iload hx hb d_M_best_74 (lv_at hl 0 rfl) ?_
            refine lv_aload_n hx hb d_M_best_76 rfl (lv_at hl 2 rfl) ?_
            refine w_get i_M hx hb hT hown hK hP 0 rfl rfl 1 (by decide) tb_268 rfl d_M_best_77 ?_
            refine w_icge (tgt := 191) hx hb (by omega) (by omega) d_M_best_80 (by decide) (fun h6 => ?_) (fun h6 => ?_)
            · have h7 : v = n := by omega
              rw [h7] at hg2
              refine lv_iinc (v := nI (z + 1 + 1)) (lv' := [(3, .int (nI (z + 1 + 1))), (4, .int (nI v)), (0, .ref (a 0)), (1, .int (nI i)), (2, .int (nI j))]) hx hb d_M_best_191 hl (k := 1) rfl (q_ii _) (by decide) rfl (fun ls hl => ?_)
              refine lv_goto (tgt := 34) hx hb d_M_best_194 (by decide) ?_
              exact ih (z + 1) (by omega) (by omega) g2 H locs ls (by rw [q_it, ← hg]; exact hg2) hP hD hS (lv_sub hl [0, 2, 3, 4] rfl)
            · have hfv := (hft v h6).1
              have htv := (hft v h6).2
              refine lv_bipush (v := nI 20) hx hb d_M_best_83 (by decide) ?_
              refine lv_iload_n hx hb d_M_best_85 rfl (lv_at hl 1 rfl) ?_
              refine lv_iconst (v := nI 1) hx hb d_M_best_86 (by decide) ?_
              refine w_isub hx hb (by omega) d_M_best_87 ?_
              refine w_imul hx hb d_M_best_88 ?_
              refine lv_aload_n hx hb d_M_best_89 rfl (lv_at hl 2 rfl) ?_
              refine w_get i_M hx hb hT hown hK hP 0 rfl rfl 3 (by decide) tb_270 rfl d_M_best_90 ?_
              refine lv_iload hx hb d_M_best_93 (lv_at hl 0 rfl) ?_
              refine w_iald hx hb hK hP 2 1 rfl rfl (by omega) (by decide) d_M_best_95 ?_
              refine w_iadd hx hb d_M_best_96 ?_
              refine lv_istore (lv' := [(5, .int (nI (20 * ((z + 1) - 1) + tt v))), (4, .int (nI v)), (3, .int (nI (z + 1))), (0, .ref (a 0)), (1, .int (nI i)), (2, .int (nI j))]) hx hb d_M_best_97 hl (by decide) rfl (fun ls hl => ?_)
              refine lv_bipush (v := nI 20) hx hb d_M_best_99 (by decide) ?_
              refine lv_iload_n hx hb d_M_best_101 rfl (lv_at hl 2 rfl) ?_
              refine w_imul hx hb d_M_best_102 ?_
              refine lv_aload_n hx hb d_M_best_103 rfl (lv_at hl 3 rfl) ?_
              refine w_get i_M hx hb hT hown hK hP 0 rfl rfl 2 (by decide) tb_269 rfl d_M_best_104 ?_
              refine lv_iload hx hb d_M_best_107 (lv_at hl 1 rfl) ?_
              refine w_iald hx hb hK hP 1 0 rfl rfl (by omega) (by decide) d_M_best_109 ?_
              refine w_iadd hx hb d_M_best_110 ?_
              refine lv_istore (lv' := [(6, .int (nI (20 * (z + 1) + fr v))), (5, .int (nI (20 * ((z + 1) - 1) + tt v))), (4, .int (nI v)), (3, .int (nI (z + 1))), (0, .ref (a 0)), (1, .int (nI i)), (2, .int (nI j))]) hx hb d_M_best_111 hl (by decide) rfl (fun ls hl => ?_)
              refine lv_aload_n hx hb d_M_best_113 rfl (lv_at hl 4 rfl) ?_
              refine w_get i_M hx hb hT hown hK hP 0 rfl rfl 5 (by decide) tb_272 rfl d_M_best_114 ?_
              refine lv_iload hx hb d_M_best_117 (lv_at hl 2 rfl) ?_
              refine w_zald hx hb hK hP 4 3 rfl rfl (by omega) (by decide) d_M_best_119 ?_
              refine w_ifeqB (tgt := 185) hx hb d_M_best_120 (by decide) (fun h8 => ?_) (fun h8 => ?_)
              · refine lv_iinc (v := nI (v + 1)) (lv' := [(4, .int (nI (v + 1))), (6, .int (nI (20 * (z + 1) + fr v))), (5, .int (nI (20 * ((z + 1) - 1) + tt v))), (3, .int (nI (z + 1))), (0, .ref (a 0)), (1, .int (nI i)), (2, .int (nI j))]) hx hb d_M_best_185 hl (k := 2) rfl (q_ii _) (by decide) rfl (fun ls hl => ?_)
                refine lv_goto (tgt := 74) hx hb d_M_best_188 (by decide) ?_
                exact ih2 (v + 1) (by omega) (by omega) g2 H locs ls (by rw [q_it, ← hg2, q_b2, if_neg (by simp only [not_and]; intro q1 q2; exact absurd q1 (by rw [h8]; decide))]) hP hD hS (lv_sub hl [0, 3, 4, 5, 6] rfl)
              · refine lv_aload_n hx hb d_M_best_123 rfl (lv_at hl 4 rfl) ?_
                refine w_get i_M hx hb hT hown hK hP 0 rfl rfl 9 (by decide) tb_276 rfl d_M_best_124 ?_
                refine lv_iload hx hb d_M_best_127 (lv_at hl 1 rfl) ?_
                refine w_lald hx hb hK hP 6 5 rfl rfl (by omega) (by decide) d_M_best_129 ?_
                refine lv_ldc2 (v := q_nev) hx hb hown (hT _ tb_326) d_M_best_130 ?_
                refine w_lceq (tgt := 185) hx hb d_M_best_133 d_M_best_134 (by decide) (fun h9 => ?_) (fun h9 => ?_)
                · refine lv_iinc (v := nI (v + 1)) (lv' := [(4, .int (nI (v + 1))), (6, .int (nI (20 * (z + 1) + fr v))), (5, .int (nI (20 * ((z + 1) - 1) + tt v))), (3, .int (nI (z + 1))), (0, .ref (a 0)), (1, .int (nI i)), (2, .int (nI j))]) hx hb d_M_best_185 hl (k := 2) rfl (q_ii _) (by decide) rfl (fun ls hl => ?_)
                  refine lv_goto (tgt := 74) hx hb d_M_best_188 (by decide) ?_
                  exact ih2 (v + 1) (by omega) (by omega) g2 H locs ls (by rw [q_it, ← hg2, q_b2, if_neg (by simp only [not_and]; intro q1 q2; exact absurd h9 q2)]) hP hD hS (lv_sub hl [0, 3, 4, 5, 6] rfl)
                · refine lv_aload_n hx hb d_M_best_137 rfl (lv_at hl 4 rfl) ?_
                  refine w_get i_M hx hb hT hown hK hP 0 rfl rfl 4 (by decide) tb_271 rfl d_M_best_138 ?_
                  refine lv_iload hx hb d_M_best_141 (lv_at hl 2 rfl) ?_
                  refine w_lald hx hb hK hP 3 2 rfl rfl (by omega) (by decide) d_M_best_143 ?_
                  refine lv_aload_n hx hb d_M_best_144 rfl (lv_at hl 4 rfl) ?_
                  refine w_get i_M hx hb hT hown hK hP 0 rfl rfl 9 (by decide) tb_276 rfl d_M_best_145 ?_
                  refine lv_iload hx hb d_M_best_148 (lv_at hl 1 rfl) ?_
                  refine w_lald hx hb hK hP 6 5 rfl rfl (by omega) (by decide) d_M_best_150 ?_
                  refine lv_ladd hx hb d_M_best_151 ?_
                  refine lv_aload_n hx hb d_M_best_152 rfl (lv_at hl 4 rfl) ?_
                  refine w_get i_M hx hb hT hown hK hP 0 rfl rfl 9 (by decide) tb_276 rfl d_M_best_153 ?_
                  refine lv_iload hx hb d_M_best_156 (lv_at hl 0 rfl) ?_
                  refine w_lald hx hb hK hP 6 5 rfl rfl (by omega) (by decide) d_M_best_158 ?_
                  refine w_lcge (tgt := 185) hx hb d_M_best_159 d_M_best_160 (by decide) (fun h10 => ?_) (fun h10 => ?_)
                  · refine lv_iinc (v := nI (v + 1)) (lv' := [(4, .int (nI (v + 1))), (6, .int (nI (20 * (z + 1) + fr v))), (5, .int (nI (20 * ((z + 1) - 1) + tt v))), (3, .int (nI (z + 1))), (0, .ref (a 0)), (1, .int (nI i)), (2, .int (nI j))]) hx hb d_M_best_185 hl (k := 2) rfl (q_ii _) (by decide) rfl (fun ls hl => ?_)
                    refine lv_goto (tgt := 74) hx hb d_M_best_188 (by decide) ?_
                    exact ih2 (v + 1) (by omega) (by omega) g2 H locs ls (by rw [q_it, ← hg2, q_b2, if_neg (by simp only [not_and]; intro q1 q2; exact h10)]) hP hD hS (lv_sub hl [0, 3, 4, 5, 6] rfl)
                  · refine lv_aload_n hx hb d_M_best_163 rfl (lv_at hl 4 rfl) ?_
                    refine w_get i_M hx hb hT hown hK hP 0 rfl rfl 9 (by decide) tb_276 rfl d_M_best_164 ?_
                    refine lv_iload hx hb d_M_best_167 (lv_at hl 0 rfl) ?_
                    refine lv_aload_n hx hb d_M_best_169 rfl (lv_at hl 4 rfl) ?_
                    refine w_get i_M hx hb hT hown hK hP 0 rfl rfl 4 (by decide) tb_271 rfl d_M_best_170 ?_
                    refine lv_iload hx hb d_M_best_173 (lv_at hl 2 rfl) ?_
                    refine w_lald hx hb hK hP 3 2 rfl rfl (by omega) (by decide) d_M_best_175 ?_
                    refine lv_aload_n hx hb d_M_best_176 rfl (lv_at hl 4 rfl) ?_
                    refine w_get i_M hx hb hT hown hK hP 0 rfl rfl 9 (by decide) tb_276 rfl d_M_best_177 ?_
                    refine lv_iload hx hb d_M_best_180 (lv_at hl 1 rfl) ?_
                    refine w_lald hx hb hK hP 6 5 rfl rfl (by omega) (by decide) d_M_best_182 ?_
                    refine lv_ladd hx hb d_M_best_183 ?_
                    refine w_last hx hb hK hP hD hS 6 5 rfl rfl (by omega) (by decide) d_M_best_184 (fun H locs hP hD hS => ?_)
                    have hP : va_P D classes (mW a k th n fr tt cc on rs row rl (vp_updL g2 (20 * (z + 1) + fr v) ((cc v) + (g2 (20 * ((z + 1) - 1) + tt v)))) bl bs) H := hP
                    have hD : va_D A (mW a k th n fr tt cc on rs row rl (vp_updL g2 (20 * (z + 1) + fr v) ((cc v) + (g2 (20 * ((z + 1) - 1) + tt v)))) bl bs) := hD
                    refine lv_iinc (v := nI (v + 1)) (lv' := [(4, .int (nI (v + 1))), (6, .int (nI (20 * (z + 1) + fr v))), (5, .int (nI (20 * ((z + 1) - 1) + tt v))), (3, .int (nI (z + 1))), (0, .ref (a 0)), (1, .int (nI i)), (2, .int (nI j))]) hx hb d_M_best_185 hl (k := 2) rfl (q_ii _) (by decide) rfl (fun ls hl => ?_)
                    refine lv_goto (tgt := 74) hx hb d_M_best_188 (by decide) ?_
                    exact ih2 (v + 1) (by omega) (by omega) (vp_updL g2 (20 * (z + 1) + fr v) ((cc v) + (g2 (20 * ((z + 1) - 1) + tt v)))) H locs ls (by rw [q_it, ← hg2, q_b2, if_pos ⟨h8, h9, h10⟩]) hP hD hS (lv_sub hl [0, 3, 4, 5, 6] rfl)
        have loop2a : ∀ (d2 v : Nat), v ≤ 20 → 20 + 1 ≤ v + d2 → ∀ (g2 : Nat → Int64) (H : Heap) (locs : List Loc) (ls : Array Slot), g2 = q_it (q_b1 (z + 1)) v g → va_P D classes (mW a k th n fr tt cc on rs row rl g2 bl bs) H → va_D A (mW a k th n fr tt cc on rs row rl g2 bl bs) → va_S A s.heap H locs → lv_has ls 7 [(4, .int (nI v)), (3, .int (nI (z + 1))), (0, .ref (a 0)), (1, .int (nI i)), (2, .int (nI j))] → W p l e (q_rm 0 0) s m args below meth c H locs 0 0 Q (F0 m 43 ls []) := by
          intro d2
          induction d2 with
          | zero => intro v h1 h2; exact absurd h2 (by omega)
          | succ d2 ih2 =>
            intro v hi_v hd_v g2 H locs ls hg2 hP hD hS hl
            refine lv_iload hx hb d_M_best_43 (lv_at hl 0 rfl) ?_
            refine lv_bipush (v := nI 20) hx hb d_M_best_45 (by decide) ?_
            refine w_icge (tgt := 71) hx hb (by omega) (by omega) d_M_best_47 (by decide) (fun h6 => ?_) (fun h6 => ?_)
            · have h7 : v = 20 := by omega
              rw [h7] at hg2
              refine lv_iconst (v := nI 0) hx hb d_M_best_71 (by decide) ?_
              refine lv_istore (lv' := [(4, .int (nI 0)), (3, .int (nI (z + 1))), (0, .ref (a 0)), (1, .int (nI i)), (2, .int (nI j))]) hx hb d_M_best_72 hl (by decide) rfl (fun ls hl => ?_)
              exact loop2b (n + 1) 0 (by omega) (by omega) g2 H locs ls hg2 hP hD hS (lv_sub hl [0, 1, 2, 3, 4] rfl)
            · refine lv_aload_n hx hb d_M_best_50 rfl (lv_at hl 2 rfl) ?_
              refine w_get i_M hx hb hT hown hK hP 0 rfl rfl 9 (by decide) tb_276 rfl d_M_best_51 ?_
              refine lv_bipush (v := nI 20) hx hb d_M_best_54 (by decide) ?_
              refine lv_iload_n hx hb d_M_best_56 rfl (lv_at hl 1 rfl) ?_
              refine w_imul hx hb d_M_best_57 ?_
              refine lv_iload hx hb d_M_best_58 (lv_at hl 0 rfl) ?_
              refine w_iadd hx hb d_M_best_60 ?_
              refine lv_ldc2 (v := q_nev) hx hb hown (hT _ tb_326) d_M_best_61 ?_
              refine w_last hx hb hK hP hD hS 6 5 rfl rfl (by omega) (by decide) d_M_best_64 (fun H locs hP hD hS => ?_)
              have hP : va_P D classes (mW a k th n fr tt cc on rs row rl (vp_updL g2 (20 * (z + 1) + v) q_nev) bl bs) H := hP
              have hD : va_D A (mW a k th n fr tt cc on rs row rl (vp_updL g2 (20 * (z + 1) + v) q_nev) bl bs) := hD
              refine lv_iinc (v := nI (v + 1)) (lv' := [(4, .int (nI (v + 1))), (3, .int (nI (z + 1))), (0, .ref (a 0)), (1, .int (nI i)), (2, .int (nI j))]) hx hb d_M_best_65 hl (k := 0) rfl (q_ii _) (by decide) rfl (fun ls hl => ?_)
              refine lv_goto (tgt := 43) hx hb d_M_best_68 (by decide) ?_
              exact ih2 (v + 1) (by omega) (by omega) (vp_updL g2 (20 * (z + 1) + v) q_nev) H locs ls (by rw [q_it, ← hg2, q_b1]) hP hD hS (lv_sub hl [0, 1, 2, 3, 4] rfl)
        exact loop2a 21 0 (by omega) (by omega) g H locs ls rfl hP hD hS (lv_sub hl [0, 1, 2, 3, 4] rfl)
  have loop1 : ∀ (d z : Nat), z ≤ 20 → 20 + 1 ≤ z + d → ∀ (g : Nat → Int64) (H : Heap) (locs : List Loc) (ls : Array Slot), g = q_it (q_b0 j) z lst → va_P D classes (mW a k th n fr tt cc on rs row rl g bl bs) H → va_D A (mW a k th n fr tt cc on rs row rl g bl bs) → va_S A s.heap H locs → lv_has ls 7 [(3, .int (nI z)), (0, .ref (a 0)), (1, .int (nI i)), (2, .int (nI j))] → W p l e (q_rm 0 0) s m args below meth c H locs 0 0 Q (F0 m 2 ls []) := by
    intro d
    induction d with
    | zero => intro z h1 h2; exact absurd h2 (by omega)
    | succ d ih =>
      intro z hi_z hd_z g H locs ls hg hP hD hS hl
      refine lv_iload_n hx hb d_M_best_2 rfl (lv_at hl 0 rfl) ?_
      refine lv_bipush (v := nI 20) hx hb d_M_best_3 (by decide) ?_
      refine w_icge (tgt := 32) hx hb (by omega) (by omega) d_M_best_5 (by decide) (fun h3 => ?_) (fun h3 => ?_)
      · have h4 : z = 20 := by omega
        rw [h4] at hg
        refine lv_iconst (v := nI 1) hx hb d_M_best_32 (by decide) ?_
        refine w_top (y := .int (nI (0 + 1))) rfl ?_
        refine lv_istore_n (lv' := [(3, .int (nI (0 + 1))), (0, .ref (a 0)), (1, .int (nI i)), (2, .int (nI j))]) hx hb d_M_best_33 rfl hl (by decide) rfl (fun ls hl => ?_)
        exact loop2 21 0 (by omega) (by omega) g H locs ls hg hP hD hS (lv_sub hl [0, 1, 2, 3] rfl)
      · refine lv_aload_n hx hb d_M_best_8 rfl (lv_at hl 1 rfl) ?_
        refine w_get i_M hx hb hT hown hK hP 0 rfl rfl 9 (by decide) tb_276 rfl d_M_best_9 ?_
        refine lv_iload_n hx hb d_M_best_12 rfl (lv_at hl 0 rfl) ?_
        refine lv_iload_n hx hb d_M_best_13 rfl (lv_at hl 0 rfl) ?_
        refine lv_iload_n hx hb d_M_best_14 rfl (lv_at hl 3 rfl) ?_
        refine w_icne (tgt := 22) hx hb (by omega) (by omega) d_M_best_15 (by decide) (fun h5 => ?_) (fun h5 => ?_)
        · refine lv_ldc2 (v := q_nev) hx hb hown (hT _ tb_326) d_M_best_22 ?_
          refine w_top (y := .long (if z = j then 0 else q_nev)) (by rw [if_neg h5]) ?_
          refine w_last hx hb hK hP hD hS 6 5 rfl rfl (by omega) (by decide) d_M_best_25 (fun H locs hP hD hS => ?_)
          have hP : va_P D classes (mW a k th n fr tt cc on rs row rl (vp_updL g z (if z = j then 0 else q_nev)) bl bs) H := hP
          have hD : va_D A (mW a k th n fr tt cc on rs row rl (vp_updL g z (if z = j then 0 else q_nev)) bl bs) := hD
          refine lv_iinc (v := nI (z + 1)) (lv' := [(3, .int (nI (z + 1))), (0, .ref (a 0)), (1, .int (nI i)), (2, .int (nI j))]) hx hb d_M_best_26 hl (k := 0) rfl (q_ii _) (by decide) rfl (fun ls hl => ?_)
          refine lv_goto (tgt := 2) hx hb d_M_best_29 (by decide) ?_
          exact ih (z + 1) (by omega) (by omega) (vp_updL g z (if z = j then 0 else q_nev)) H locs ls (by rw [q_it, ← hg, q_b0]) hP hD hS (lv_sub hl [0, 1, 2, 3] rfl)
        · refine lv_lconst (v := 0) hx hb d_M_best_18 (by decide) ?_
          refine lv_goto (tgt := 25) hx hb d_M_best_19 (by decide) ?_
          refine w_top (y := .long (if z = j then 0 else q_nev)) (by rw [if_pos h5]) ?_
          refine w_last hx hb hK hP hD hS 6 5 rfl rfl (by omega) (by decide) d_M_best_25 (fun H locs hP hD hS => ?_)
          have hP : va_P D classes (mW a k th n fr tt cc on rs row rl (vp_updL g z (if z = j then 0 else q_nev)) bl bs) H := hP
          have hD : va_D A (mW a k th n fr tt cc on rs row rl (vp_updL g z (if z = j then 0 else q_nev)) bl bs) := hD
          refine lv_iinc (v := nI (z + 1)) (lv' := [(3, .int (nI (z + 1))), (0, .ref (a 0)), (1, .int (nI i)), (2, .int (nI j))]) hx hb d_M_best_26 hl (k := 0) rfl (q_ii _) (by decide) rfl (fun ls hl => ?_)
          refine lv_goto (tgt := 2) hx hb d_M_best_29 (by decide) ?_
          exact ih (z + 1) (by omega) (by omega) (vp_updL g z (if z = j then 0 else q_nev)) H locs ls (by rw [q_it, ← hg, q_b0]) hP hD hS (lv_sub hl [0, 1, 2, 3] rfl)
  exact loop1 21 0 (by omega) (by omega) lst s.heap [] ls rfl hP hD hS (lv_sub hl [0, 1, 2, 3] rfl)
end
section
set_option maxHeartbeats 4000000 in
set_option maxRecDepth 100000 in
/-- walk -/
theorem c_M_walk (l : Launch) (D : va_G) (a : Nat → Nat) (k : Nat → ClassId) (th : Int32) (n : Nat) (fr tt : Nat → Nat) (cc : Nat → Int64) (on : Nat → Bool) (rs : Nat) (row : Nat → Int32) (rl : Int64) (lst : Nat → Int64) (bl : Int64) (bs : Int32) (i : Nat) (hi : i < 20) (hft : ∀ j, j < n → fr j < 20 ∧ tt j < 20) (hn : n ≤ 120) (us : List Nat) (hs : bs = nI us.length) (h20 : us.length ≤ 20) (hq : q_wlk n fr tt cc on lst i us) (hlen : rs + us.length ≤ 24) : Ct l y_M_walk b_M_walk 5 none 1 25 D (mT k) [.ref (a 0), .int (nI i)] (mW a k th n fr tt cc on rs row rl lst bl bs) (mW a k th n fr tt cc on (rs + us.length) (q_app row rs us) rl lst bl bs) none := by
  refine q_enter [(0, .ref (a 0)), (1, .int (nI i))] "TimeNetModel" .return_ [] (by decide) rfl (Nat.le_of_ble_eq_true rfl) rfl (Or.inr (Or.inr (Or.inr ⟨rfl, rfl, rfl, rfl⟩))) ?_
  intro p e s m args below meth c A ls Q E hK hP hD hS hA hl hE
  obtain ⟨hx, hb, hml, hr, hlk, hown, hT⟩ := E
  refine lv_iload_n hx hb d_M_walk_0 rfl (lv_at hl 1 rfl) ?_
  refine lv_istore_n (lv' := [(2, .int (nI i)), (0, .ref (a 0)), (1, .int (nI i))]) hx hb d_M_walk_1 rfl hl (by decide) rfl (fun ls hl => ?_)
  refine lv_aload_n hx hb d_M_walk_2 rfl (lv_at hl 1 rfl) ?_
  refine w_get i_M hx hb hT hown hK hP 0 rfl rfl 11 (by decide) tb_278 rfl d_M_walk_3 ?_
  refine w_top (y := .int (nI us.length)) (by rw [hs]) ?_
  refine lv_istore_n (lv' := [(3, .int (nI us.length)), (2, .int (nI i)), (0, .ref (a 0)), (1, .int (nI i))]) hx hb d_M_walk_6 rfl hl (by decide) rfl (fun ls hl => ?_)
  have loop : ∀ (ps : List Nat) (v : Nat) (row' : Nat → Int32) (rs' : Nat) (H : Heap) (locs : List Loc) (ls : Array Slot), v < 20 → ps.length ≤ 20 → q_wlk n fr tt cc on lst v ps → rs' + ps.length ≤ 24 → q_app row' rs' ps = q_app row rs us → rs' + ps.length = rs + us.length → va_P D classes (mW a k th n fr tt cc on rs' row' rl lst bl bs) H → va_D A (mW a k th n fr tt cc on rs' row' rl lst bl bs) → va_S A s.heap H locs → lv_has ls 5 [(3, .int (nI ps.length)), (2, .int (nI v)), (0, .ref (a 0)), (1, .int (nI i))] → W p l e (q_rm 1 25) s m args below meth c H locs 0 0 Q (F0 m 7 ls []) := by
    intro ps
    induction ps with
    | nil =>
      intro v row' rs' H locs ls hv h20 hf hlen happ hrs hP hD hS hl
      refine lv_iload_n hx hb d_M_walk_7 rfl (lv_at hl 0 rfl) ?_
      refine w_ifle (tgt := 122) hx hb (by omega) d_M_walk_8 (by decide) (fun h1 => ?_) (fun h1 => ?_)
      · have e1 : row' = q_app row rs us := happ
        have e2 : rs' = rs + us.length := hrs
        rw [e1, e2] at hP hD
        exact hE _ _ _ _ d_M_walk_122 hP hD hS
      · exact absurd h1 (by simp)
    | cons q ps ih =>
      intro v row' rs' H locs ls hv h20 hf hlen happ hrs hP hD hS hl
      obtain ⟨hq, hgo, hmin, hrest⟩ := hf
      have hps : (q :: ps).length = ps.length + 1 := rfl
      have hl : lv_has ls 5 [(3, .int (nI (ps.length + 1))), (2, .int (nI v)), (0, .ref (a 0)), (1, .int (nI i))] := hl
      refine lv_iload_n hx hb d_M_walk_7 rfl (lv_at hl 0 rfl) ?_
      refine w_ifle (tgt := 122) hx hb (by omega) d_M_walk_8 (by decide) (fun h1 => ?_) (fun h1 => ?_)
      · exact absurd h1 (by omega)
      · refine lv_iconst (v := nI 0) hx hb d_M_walk_11 (by decide) ?_
        refine lv_istore (lv' := [(4, .int (nI 0)), (3, .int (nI (ps.length + 1))), (2, .int (nI v)), (0, .ref (a 0)), (1, .int (nI i))]) hx hb d_M_walk_12 hl (by decide) rfl (fun ls hl => ?_)
        have inner : ∀ (d2 u : Nat), u ≤ q → q + 1 ≤ u + d2 → ∀ (H : Heap) (locs : List Loc) (ls : Array Slot), va_P D classes (mW a k th n fr tt cc on rs' row' rl lst bl bs) H → va_D A (mW a k th n fr tt cc on rs' row' rl lst bl bs) → va_S A s.heap H locs → lv_has ls 5 [(4, .int (nI u)), (3, .int (nI (ps.length + 1))), (2, .int (nI v)), (0, .ref (a 0)), (1, .int (nI i))] → W p l e (q_rm 1 25) s m args below meth c H locs 0 0 Q (F0 m 14 ls []) := by
          intro d2
          induction d2 with
          | zero => intro u h1 h2; exact absurd h2 (by omega)
          | succ d2 ih2 =>
            intro u hi_u hd_u H locs ls hP hD hS hl
            refine lv_aload_n hx hb d_M_walk_14 rfl (lv_at hl 3 rfl) ?_
            refine lv_iload_n hx hb d_M_walk_15 rfl (lv_at hl 2 rfl) ?_
            refine lv_iload hx hb d_M_walk_16 (lv_at hl 0 rfl) ?_
            refine w_callV (As := [.int (nI v), .int (nI u)]) (rest := []) ⟨hx, hb, hml, hown, hT⟩ (c_M_step l D a k th n fr tt cc on rs' row' rl lst bl bs v u hv (by omega) hft hn) (w_cwV hT ms_M_step tb_331 ⟨by decide, by decide⟩) hK hP hD hS hA 0 3 rfl rfl rfl rfl rfl hl.1 (Nat.le_of_ble_eq_true rfl) d_M_walk_18 ⟨Nat.zero_le _, Nat.zero_le _⟩ (fun H locs hP hD hS => ?_)
            refine lv_ldc2 (v := q_nev) hx hb hown (hT _ tb_326) d_M_walk_21 ?_
            refine w_lceq (tgt := 86) hx hb d_M_walk_24 d_M_walk_25 (by decide) (fun k1 => ?_) (fun k1 => ?_)
            · have h2 : q_wg n fr tt cc on lst v u (ps.length + 1) = false := by simp [q_wg, k1]
              have h8 : u < q := by
                rcases Nat.lt_or_ge u q with h9 | h9
                · exact h9
                · have h7 : u = q := by omega
                  rw [h7, hgo] at h2
                  exact absurd h2 (by decide)
              refine lv_iinc (v := nI (u + 1)) (lv' := [(4, .int (nI (u + 1))), (3, .int (nI (ps.length + 1))), (2, .int (nI v)), (0, .ref (a 0)), (1, .int (nI i))]) hx hb d_M_walk_86 hl (k := 0) rfl (q_ii _) (by decide) rfl (fun ls hl => ?_)
              refine lv_goto (tgt := 14) hx hb d_M_walk_89 (by decide) ?_
              exact ih2 (u + 1) (by omega) (by omega) H locs ls hP hD hS (lv_sub hl [0, 1, 2, 3, 4] rfl)
            · refine lv_aload_n hx hb d_M_walk_28 rfl (lv_at hl 3 rfl) ?_
              refine w_get i_M hx hb hT hown hK hP 0 rfl rfl 9 (by decide) tb_276 rfl d_M_walk_29 ?_
              refine lv_bipush (v := nI 20) hx hb d_M_walk_32 (by decide) ?_
              refine lv_iload_n hx hb d_M_walk_34 rfl (lv_at hl 1 rfl) ?_
              refine lv_iconst (v := nI 1) hx hb d_M_walk_35 (by decide) ?_
              refine w_isub hx hb (by omega) d_M_walk_36 ?_
              refine w_imul hx hb d_M_walk_37 ?_
              refine lv_iload hx hb d_M_walk_38 (lv_at hl 0 rfl) ?_
              refine w_iadd hx hb d_M_walk_40 ?_
              refine w_lald hx hb hK hP 6 5 rfl rfl (by omega) (by decide) d_M_walk_41 ?_
              refine lv_ldc2 (v := q_nev) hx hb hown (hT _ tb_326) d_M_walk_42 ?_
              refine w_lceq (tgt := 86) hx hb d_M_walk_45 d_M_walk_46 (by decide) (fun k2 => ?_) (fun k2 => ?_)
              · have h2 : q_wg n fr tt cc on lst v u (ps.length + 1) = false := by simp [q_wg, show lst (20 * ps.length + u) = q_nev from k2]
                have h8 : u < q := by
                  rcases Nat.lt_or_ge u q with h9 | h9
                  · exact h9
                  · have h7 : u = q := by omega
                    rw [h7, hgo] at h2
                    exact absurd h2 (by decide)
                refine lv_iinc (v := nI (u + 1)) (lv' := [(4, .int (nI (u + 1))), (3, .int (nI (ps.length + 1))), (2, .int (nI v)), (0, .ref (a 0)), (1, .int (nI i))]) hx hb d_M_walk_86 hl (k := 0) rfl (q_ii _) (by decide) rfl (fun ls hl => ?_)
                refine lv_goto (tgt := 14) hx hb d_M_walk_89 (by decide) ?_
                exact ih2 (u + 1) (by omega) (by omega) H locs ls hP hD hS (lv_sub hl [0, 1, 2, 3, 4] rfl)
              · refine lv_aload_n hx hb d_M_walk_49 rfl (lv_at hl 3 rfl) ?_
                refine lv_iload_n hx hb d_M_walk_50 rfl (lv_at hl 2 rfl) ?_
                refine lv_iload hx hb d_M_walk_51 (lv_at hl 0 rfl) ?_
                refine w_callV (As := [.int (nI v), .int (nI u)]) (rest := []) ⟨hx, hb, hml, hown, hT⟩ (c_M_step l D a k th n fr tt cc on rs' row' rl lst bl bs v u hv (by omega) hft hn) (w_cwV hT ms_M_step tb_331 ⟨by decide, by decide⟩) hK hP hD hS hA 0 3 rfl rfl rfl rfl rfl hl.1 (Nat.le_of_ble_eq_true rfl) d_M_walk_53 ⟨Nat.zero_le _, Nat.zero_le _⟩ (fun H locs hP hD hS => ?_)
                refine lv_aload_n hx hb d_M_walk_56 rfl (lv_at hl 3 rfl) ?_
                refine w_get i_M hx hb hT hown hK hP 0 rfl rfl 9 (by decide) tb_276 rfl d_M_walk_57 ?_
                refine lv_bipush (v := nI 20) hx hb d_M_walk_60 (by decide) ?_
                refine lv_iload_n hx hb d_M_walk_62 rfl (lv_at hl 1 rfl) ?_
                refine lv_iconst (v := nI 1) hx hb d_M_walk_63 (by decide) ?_
                refine w_isub hx hb (by omega) d_M_walk_64 ?_
                refine w_imul hx hb d_M_walk_65 ?_
                refine lv_iload hx hb d_M_walk_66 (lv_at hl 0 rfl) ?_
                refine w_iadd hx hb d_M_walk_68 ?_
                refine w_lald hx hb hK hP 6 5 rfl rfl (by omega) (by decide) d_M_walk_69 ?_
                refine lv_ladd hx hb d_M_walk_70 ?_
                refine lv_aload_n hx hb d_M_walk_71 rfl (lv_at hl 3 rfl) ?_
                refine w_get i_M hx hb hT hown hK hP 0 rfl rfl 9 (by decide) tb_276 rfl d_M_walk_72 ?_
                refine lv_bipush (v := nI 20) hx hb d_M_walk_75 (by decide) ?_
                refine lv_iload_n hx hb d_M_walk_77 rfl (lv_at hl 1 rfl) ?_
                refine w_imul hx hb d_M_walk_78 ?_
                refine lv_iload_n hx hb d_M_walk_79 rfl (lv_at hl 2 rfl) ?_
                refine w_iadd hx hb d_M_walk_80 ?_
                refine w_lald hx hb hK hP 6 5 rfl rfl (by omega) (by decide) d_M_walk_81 ?_
                refine w_lceq (tgt := 92) hx hb d_M_walk_82 d_M_walk_83 (by decide) (fun k3 => ?_) (fun k3 => ?_)
                · have h2 : q_wg n fr tt cc on lst v u (ps.length + 1) = true := by simp [q_wg, k1, show ¬ lst (20 * ps.length + u) = q_nev from k2, show q_step n fr tt cc on v u + lst (20 * ps.length + u) = lst (20 * (ps.length + 1) + v) from k3]
                  obtain rfl : q = u := by
                    rcases Nat.lt_or_ge u q with h9 | h9
                    · exact absurd h2 (by rw [hmin u h9]; decide)
                    · omega
                  refine lv_aload_n hx hb d_M_walk_92 rfl (lv_at hl 3 rfl) ?_
                  refine w_get i_M hx hb hT hown hK hP 0 rfl rfl 7 (by decide) tb_274 rfl d_M_walk_93 ?_
                  refine lv_aload_n hx hb d_M_walk_96 rfl (lv_at hl 3 rfl) ?_
                  refine w_get i_M hx hb hT hown hK hP 0 rfl rfl 6 (by decide) tb_273 rfl d_M_walk_97 ?_
                  refine lv_iload hx hb d_M_walk_100 (lv_at hl 0 rfl) ?_
                  refine w_iast hx hb hK hP hD hS 5 4 rfl rfl (by omega) (by decide) d_M_walk_102 (fun H locs hP hD hS => ?_)
                  have hP : va_P D classes (mW a k th n fr tt cc on rs' (upd row' rs' (nI q)) rl lst bl bs) H := hP
                  have hD : va_D A (mW a k th n fr tt cc on rs' (upd row' rs' (nI q)) rl lst bl bs) := hD
                  refine lv_aload_n hx hb d_M_walk_103 rfl (lv_at hl 3 rfl) ?_
                  refine lv_dup hx hb d_M_walk_104 rfl ?_
                  refine w_get i_M hx hb hT hown hK hP 0 rfl rfl 6 (by decide) tb_273 rfl d_M_walk_105 ?_
                  refine lv_iconst (v := nI 1) hx hb d_M_walk_108 (by decide) ?_
                  refine w_iadd hx hb d_M_walk_109 ?_
                  refine w_put i_M t_M t_M_ok n_M hx hb hT hown hK hP hD hS 0 rfl rfl 6 (by decide) tb_273 rfl rfl rfl (Nat.le_of_ble_eq_true rfl) d_M_walk_110 (fun H locs hP hD hS => ?_)
                  have hP : va_P D classes (mW a k th n fr tt cc on (rs' + 1) (upd row' rs' (nI q)) rl lst bl bs) H := hP
                  have hD : va_D A (mW a k th n fr tt cc on (rs' + 1) (upd row' rs' (nI q)) rl lst bl bs) := hD
                  refine lv_iload hx hb d_M_walk_113 (lv_at hl 0 rfl) ?_
                  refine lv_istore_n (lv' := [(2, .int (nI q)), (4, .int (nI q)), (3, .int (nI (ps.length + 1))), (0, .ref (a 0)), (1, .int (nI i))]) hx hb d_M_walk_115 rfl hl (by decide) rfl (fun ls hl => ?_)
                  refine lv_iinc (v := nI ps.length) (lv' := [(3, .int (nI ps.length)), (2, .int (nI q)), (4, .int (nI q)), (0, .ref (a 0)), (1, .int (nI i))]) hx hb d_M_walk_116 hl (k := 2) rfl (q_im _) (by decide) rfl (fun ls hl => ?_)
                  refine lv_goto (tgt := 7) hx hb d_M_walk_119 (by decide) ?_
                  exact ih q (upd row' rs' (nI q)) (rs' + 1) H locs ls hq (by omega) hrest (by omega) happ (by omega) hP hD hS (lv_sub hl [0, 1, 3, 4] rfl)
                · have h2 : q_wg n fr tt cc on lst v u (ps.length + 1) = false := by simp [q_wg, show ¬ q_step n fr tt cc on v u + lst (20 * ps.length + u) = lst (20 * (ps.length + 1) + v) from k3]
                  have h8 : u < q := by
                    rcases Nat.lt_or_ge u q with h9 | h9
                    · exact h9
                    · have h7 : u = q := by omega
                      rw [h7, hgo] at h2
                      exact absurd h2 (by decide)
                  refine lv_iinc (v := nI (u + 1)) (lv' := [(4, .int (nI (u + 1))), (3, .int (nI (ps.length + 1))), (2, .int (nI v)), (0, .ref (a 0)), (1, .int (nI i))]) hx hb d_M_walk_86 hl (k := 0) rfl (q_ii _) (by decide) rfl (fun ls hl => ?_)
                  refine lv_goto (tgt := 14) hx hb d_M_walk_89 (by decide) ?_
                  exact ih2 (u + 1) (by omega) (by omega) H locs ls hP hD hS (lv_sub hl [0, 1, 2, 3, 4] rfl)
        exact inner (q + 1) 0 (by omega) (by omega) H locs ls hP hD hS (lv_sub hl [0, 1, 2, 3, 4] rfl)
  exact loop us i row rs _ _ ls hi h20 hq hlen rfl rfl hP hD hS (lv_sub hl [0, 1, 2, 3] rfl)
end
section
set_option maxHeartbeats 4000000 in
set_option maxRecDepth 100000 in
/-- isBad: no -/
theorem c_M_isBad_n (l : Launch) (D : va_G) (a : Nat → Nat) (k : Nat → ClassId) (th : Int32) (n : Nat) (fr tt : Nat → Nat) (cc : Nat → Int64) (on : Nat → Bool) (rs : Nat) (row : Nat → Int32) (rl : Int64) (lst : Nat → Int64) (bl : Int64) (bs : Int32) (i j : Nat) (x : Int64) (hi : i < 20) (hj : j < 20) (hft : ∀ j, j < n → fr j < 20 ∧ tt j < 20) (hn : n ≤ 120) (h : (!(decide ((q_bst (q_lst n fr tt cc on i lst) j).2 < 0)) && decide (x + (q_bst (q_lst n fr tt cc on i lst) j).1 < 0)) = false) : Ct l y_M_isBad b_M_isBad 5 (some .boolean) 2 49 D (mT k) [.ref (a 0), .int (nI i), .int (nI j), .long x] (mW a k th n fr tt cc on rs row rl lst bl bs) (mW a k th n fr tt cc on rs row rl (q_lst n fr tt cc on i lst) ((q_bst (q_lst n fr tt cc on i lst) j).1) ((q_bst (q_lst n fr tt cc on i lst) j).2)) (some (.int (q_b false))) := by
  refine q_enter [(0, .ref (a 0)), (1, .int (nI i)), (2, .int (nI j)), (3, .long x)] "TimeNetModel" .ireturn [.int (q_b false)] (by decide) rfl (Nat.le_of_ble_eq_true rfl) rfl (Or.inr (Or.inl ⟨rfl, rfl, _, rfl, rfl⟩)) ?_
  intro p e s m args below meth c A ls Q E hK hP hD hS hA hl hE
  obtain ⟨hx, hb, hml, hr, hlk, hown, hT⟩ := E
  refine lv_aload_n hx hb d_M_isBad_0 rfl (lv_at hl 0 rfl) ?_
  refine lv_iload_n hx hb d_M_isBad_1 rfl (lv_at hl 2 rfl) ?_
  refine lv_iload_n hx hb d_M_isBad_2 rfl (lv_at hl 1 rfl) ?_
  refine w_callV (As := [.int (nI j), .int (nI i)]) (rest := []) ⟨hx, hb, hml, hown, hT⟩ (c_M_best l D a k th n fr tt cc on rs row rl lst bl bs j i hj hi hft hn) (w_cwV hT ms_M_best tb_322 ⟨by decide, by decide⟩) hK hP hD hS hA 0 3 rfl rfl rfl rfl rfl hl.1 (Nat.le_of_ble_eq_true rfl) d_M_isBad_3 ⟨Nat.zero_le _, Nat.zero_le _⟩ (fun H locs hP hD hS => ?_)
  have hP : va_P D classes (mW a k th n fr tt cc on rs row rl (q_lst n fr tt cc on i lst) ((q_bst (q_lst n fr tt cc on i lst) j).1) ((q_bst (q_lst n fr tt cc on i lst) j).2)) H := hP
  have hD : va_D A (mW a k th n fr tt cc on rs row rl (q_lst n fr tt cc on i lst) ((q_bst (q_lst n fr tt cc on i lst) j).1) ((q_bst (q_lst n fr tt cc on i lst) j).2)) := hD
  refine w_ifeqB (tgt := 20) hx hb d_M_isBad_6 (by decide) (fun h1 => ?_) (fun h1 => ?_)
  · refine lv_iconst (v := nI 0) hx hb d_M_isBad_20 (by decide) ?_
    refine w_top (y := .int (q_b false)) rfl ?_
    exact hE _ _ _ _ d_M_isBad_21 hP hD hS
  · refine lv_lload_n hx hb d_M_isBad_9 rfl (lv_at hl 3 rfl) ?_
    refine lv_aload_n hx hb d_M_isBad_10 rfl (lv_at hl 0 rfl) ?_
    refine w_get i_M hx hb hT hown hK hP 0 rfl rfl 10 (by decide) tb_277 rfl d_M_isBad_11 ?_
    refine lv_ladd hx hb d_M_isBad_14 ?_
    refine lv_lconst (v := 0) hx hb d_M_isBad_15 (by decide) ?_
    refine w_lclt (tgt := 22) hx hb d_M_isBad_16 d_M_isBad_17 (by decide) (fun h2 => ?_) (fun h2 => ?_)
    · rw [h1] at h
      exact absurd h (by simp [h2])
    · refine lv_iconst (v := nI 0) hx hb d_M_isBad_20 (by decide) ?_
      refine w_top (y := .int (q_b false)) rfl ?_
      exact hE _ _ _ _ d_M_isBad_21 hP hD hS

set_option maxHeartbeats 4000000 in
set_option maxRecDepth 100000 in
/-- isBad: yes -/
theorem c_M_isBad_y (l : Launch) (D : va_G) (a : Nat → Nat) (k : Nat → ClassId) (th : Int32) (n : Nat) (fr tt : Nat → Nat) (cc : Nat → Int64) (on : Nat → Bool) (rs : Nat) (row : Nat → Int32) (rl : Int64) (lst : Nat → Int64) (bl : Int64) (bs : Int32) (i j : Nat) (x : Int64) (hi : i < 20) (hj : j < 20) (hft : ∀ j, j < n → fr j < 20 ∧ tt j < 20) (hn : n ≤ 120) (h : (!(decide ((q_bst (q_lst n fr tt cc on i lst) j).2 < 0)) && decide (x + (q_bst (q_lst n fr tt cc on i lst) j).1 < 0)) = true) (us : List Nat) (hs : (q_bst (q_lst n fr tt cc on i lst) j).2 = nI us.length) (h20 : us.length ≤ 20) (hq : q_wlk n fr tt cc on (q_lst n fr tt cc on i lst) j us) : Ct l y_M_isBad b_M_isBad 5 (some .boolean) 2 49 D (mT k) [.ref (a 0), .int (nI i), .int (nI j), .long x] (mW a k th n fr tt cc on rs row rl lst bl bs) (mW a k th n fr tt cc on (2 + us.length) (q_app (upd (upd row 0 (nI i)) 1 (nI j)) 2 us) (x + (q_bst (q_lst n fr tt cc on i lst) j).1) (q_lst n fr tt cc on i lst) ((q_bst (q_lst n fr tt cc on i lst) j).1) ((q_bst (q_lst n fr tt cc on i lst) j).2)) (some (.int (q_b true))) := by
  refine q_enter [(0, .ref (a 0)), (1, .int (nI i)), (2, .int (nI j)), (3, .long x)] "TimeNetModel" .ireturn [.int (q_b true)] (by decide) rfl (Nat.le_of_ble_eq_true rfl) rfl (Or.inr (Or.inl ⟨rfl, rfl, _, rfl, rfl⟩)) ?_
  intro p e s m args below meth c A ls Q E hK hP hD hS hA hl hE
  obtain ⟨hx, hb, hml, hr, hlk, hown, hT⟩ := E
  refine lv_aload_n hx hb d_M_isBad_0 rfl (lv_at hl 0 rfl) ?_
  refine lv_iload_n hx hb d_M_isBad_1 rfl (lv_at hl 2 rfl) ?_
  refine lv_iload_n hx hb d_M_isBad_2 rfl (lv_at hl 1 rfl) ?_
  refine w_callV (As := [.int (nI j), .int (nI i)]) (rest := []) ⟨hx, hb, hml, hown, hT⟩ (c_M_best l D a k th n fr tt cc on rs row rl lst bl bs j i hj hi hft hn) (w_cwV hT ms_M_best tb_322 ⟨by decide, by decide⟩) hK hP hD hS hA 0 3 rfl rfl rfl rfl rfl hl.1 (Nat.le_of_ble_eq_true rfl) d_M_isBad_3 ⟨Nat.zero_le _, Nat.zero_le _⟩ (fun H locs hP hD hS => ?_)
  have hP : va_P D classes (mW a k th n fr tt cc on rs row rl (q_lst n fr tt cc on i lst) ((q_bst (q_lst n fr tt cc on i lst) j).1) ((q_bst (q_lst n fr tt cc on i lst) j).2)) H := hP
  have hD : va_D A (mW a k th n fr tt cc on rs row rl (q_lst n fr tt cc on i lst) ((q_bst (q_lst n fr tt cc on i lst) j).1) ((q_bst (q_lst n fr tt cc on i lst) j).2)) := hD
  refine w_ifeqB (tgt := 20) hx hb d_M_isBad_6 (by decide) (fun h1 => ?_) (fun h1 => ?_)
  · rw [h1] at h
    exact absurd h (by simp)
  · refine lv_lload_n hx hb d_M_isBad_9 rfl (lv_at hl 3 rfl) ?_
    refine lv_aload_n hx hb d_M_isBad_10 rfl (lv_at hl 0 rfl) ?_
    refine w_get i_M hx hb hT hown hK hP 0 rfl rfl 10 (by decide) tb_277 rfl d_M_isBad_11 ?_
    refine lv_ladd hx hb d_M_isBad_14 ?_
    refine lv_lconst (v := 0) hx hb d_M_isBad_15 (by decide) ?_
    refine w_lclt (tgt := 22) hx hb d_M_isBad_16 d_M_isBad_17 (by decide) (fun h2 => ?_) (fun h2 => ?_)
    · refine lv_aload_n hx hb d_M_isBad_22 rfl (lv_at hl 0 rfl) ?_
      refine w_get i_M hx hb hT hown hK hP 0 rfl rfl 7 (by decide) tb_274 rfl d_M_isBad_23 ?_
      refine lv_iconst (v := nI 0) hx hb d_M_isBad_26 (by decide) ?_
      refine lv_iload_n hx hb d_M_isBad_27 rfl (lv_at hl 1 rfl) ?_
      refine w_iast hx hb hK hP hD hS 5 4 rfl rfl (by omega) (by decide) d_M_isBad_28 (fun H locs hP hD hS => ?_)
      have hP : va_P D classes (mW a k th n fr tt cc on rs (upd row 0 (nI i)) rl (q_lst n fr tt cc on i lst) ((q_bst (q_lst n fr tt cc on i lst) j).1) ((q_bst (q_lst n fr tt cc on i lst) j).2)) H := hP
      have hD : va_D A (mW a k th n fr tt cc on rs (upd row 0 (nI i)) rl (q_lst n fr tt cc on i lst) ((q_bst (q_lst n fr tt cc on i lst) j).1) ((q_bst (q_lst n fr tt cc on i lst) j).2)) := hD
      refine lv_aload_n hx hb d_M_isBad_29 rfl (lv_at hl 0 rfl) ?_
      refine w_get i_M hx hb hT hown hK hP 0 rfl rfl 7 (by decide) tb_274 rfl d_M_isBad_30 ?_
      refine lv_iconst (v := nI 1) hx hb d_M_isBad_33 (by decide) ?_
      refine lv_iload_n hx hb d_M_isBad_34 rfl (lv_at hl 2 rfl) ?_
      refine w_iast hx hb hK hP hD hS 5 4 rfl rfl (by omega) (by decide) d_M_isBad_35 (fun H locs hP hD hS => ?_)
      have hP : va_P D classes (mW a k th n fr tt cc on rs (upd (upd row 0 (nI i)) 1 (nI j)) rl (q_lst n fr tt cc on i lst) ((q_bst (q_lst n fr tt cc on i lst) j).1) ((q_bst (q_lst n fr tt cc on i lst) j).2)) H := hP
      have hD : va_D A (mW a k th n fr tt cc on rs (upd (upd row 0 (nI i)) 1 (nI j)) rl (q_lst n fr tt cc on i lst) ((q_bst (q_lst n fr tt cc on i lst) j).1) ((q_bst (q_lst n fr tt cc on i lst) j).2)) := hD
      refine lv_aload_n hx hb d_M_isBad_36 rfl (lv_at hl 0 rfl) ?_
      refine lv_iconst (v := nI 2) hx hb d_M_isBad_37 (by decide) ?_
      refine w_put i_M t_M t_M_ok n_M hx hb hT hown hK hP hD hS 0 rfl rfl 6 (by decide) tb_273 rfl rfl rfl (Nat.le_of_ble_eq_true rfl) d_M_isBad_38 (fun H locs hP hD hS => ?_)
      have hP : va_P D classes (mW a k th n fr tt cc on 2 (upd (upd row 0 (nI i)) 1 (nI j)) rl (q_lst n fr tt cc on i lst) ((q_bst (q_lst n fr tt cc on i lst) j).1) ((q_bst (q_lst n fr tt cc on i lst) j).2)) H := hP
      have hD : va_D A (mW a k th n fr tt cc on 2 (upd (upd row 0 (nI i)) 1 (nI j)) rl (q_lst n fr tt cc on i lst) ((q_bst (q_lst n fr tt cc on i lst) j).1) ((q_bst (q_lst n fr tt cc on i lst) j).2)) := hD
      refine lv_aload_n hx hb d_M_isBad_41 rfl (lv_at hl 0 rfl) ?_
      refine lv_iload_n hx hb d_M_isBad_42 rfl (lv_at hl 2 rfl) ?_
      refine w_callN (As := [.int (nI j)]) (rest := []) ⟨hx, hb, hml, hown, hT⟩ (c_M_walk l D a k th n fr tt cc on 2 (upd (upd row 0 (nI i)) 1 (nI j)) rl (q_lst n fr tt cc on i lst) ((q_bst (q_lst n fr tt cc on i lst) j).1) ((q_bst (q_lst n fr tt cc on i lst) j).2) j hj hft hn us hs h20 hq (by omega)) (w_cwV hT ms_M_walk tb_327 ⟨by decide, by decide⟩) hK hP hD hS hA 0 3 rfl rfl rfl rfl rfl hl.1 (Nat.le_of_ble_eq_true rfl) d_M_isBad_43 ⟨Nat.zero_le _, Nat.zero_le _⟩ (fun H locs hP hD hS => ?_)
      have hP : va_P D classes (mW a k th n fr tt cc on (2 + us.length) (q_app (upd (upd row 0 (nI i)) 1 (nI j)) 2 us) rl (q_lst n fr tt cc on i lst) ((q_bst (q_lst n fr tt cc on i lst) j).1) ((q_bst (q_lst n fr tt cc on i lst) j).2)) H := hP
      have hD : va_D A (mW a k th n fr tt cc on (2 + us.length) (q_app (upd (upd row 0 (nI i)) 1 (nI j)) 2 us) rl (q_lst n fr tt cc on i lst) ((q_bst (q_lst n fr tt cc on i lst) j).1) ((q_bst (q_lst n fr tt cc on i lst) j).2)) := hD
      refine lv_aload_n hx hb d_M_isBad_46 rfl (lv_at hl 0 rfl) ?_
      refine lv_lload_n hx hb d_M_isBad_47 rfl (lv_at hl 3 rfl) ?_
      refine lv_aload_n hx hb d_M_isBad_48 rfl (lv_at hl 0 rfl) ?_
      refine w_get i_M hx hb hT hown hK hP 0 rfl rfl 10 (by decide) tb_277 rfl d_M_isBad_49 ?_
      refine lv_ladd hx hb d_M_isBad_52 ?_
      refine w_put i_M t_M t_M_ok n_M hx hb hT hown hK hP hD hS 0 rfl rfl 8 (by decide) tb_275 rfl rfl rfl (Nat.le_of_ble_eq_true rfl) d_M_isBad_53 (fun H locs hP hD hS => ?_)
      have hP : va_P D classes (mW a k th n fr tt cc on (2 + us.length) (q_app (upd (upd row 0 (nI i)) 1 (nI j)) 2 us) (x + ((q_bst (q_lst n fr tt cc on i lst) j).1)) (q_lst n fr tt cc on i lst) ((q_bst (q_lst n fr tt cc on i lst) j).1) ((q_bst (q_lst n fr tt cc on i lst) j).2)) H := hP
      have hD : va_D A (mW a k th n fr tt cc on (2 + us.length) (q_app (upd (upd row 0 (nI i)) 1 (nI j)) 2 us) (x + ((q_bst (q_lst n fr tt cc on i lst) j).1)) (q_lst n fr tt cc on i lst) ((q_bst (q_lst n fr tt cc on i lst) j).1) ((q_bst (q_lst n fr tt cc on i lst) j).2)) := hD
      refine lv_iconst (v := nI 1) hx hb d_M_isBad_56 (by decide) ?_
      refine w_top (y := .int (q_b true)) rfl ?_
      exact hE _ _ _ _ d_M_isBad_57 hP hD hS
    · rw [h1] at h
      exact absurd h (by simp [h2])

set_option maxHeartbeats 4000000 in
set_option maxRecDepth 100000 in
/-- add: not taken -/
theorem c_M_add_n (l : Launch) (D : va_G) (a : Nat → Nat) (k : Nat → ClassId) (th : Int32) (n : Nat) (fr tt : Nat → Nat) (cc : Nat → Int64) (on : Nat → Bool) (rs : Nat) (row : Nat → Int32) (rl : Int64) (lst : Nat → Int64) (bl : Int64) (bs : Int32) (i j : Int32) (x : Int64) (hn : n ≤ 120) (h : q_bad i j x n = true) : Ct l y_M_add b_M_add 5 (some .int) 3 73 D (mT k) [.ref (a 0), .int i, .int j, .long x] (mW a k th n fr tt cc on rs row rl lst bl bs) (mW a k (nI 0) n fr tt cc on rs row rl lst bl bs) (some (.int (-1))) := by
  refine q_enter [(0, .ref (a 0)), (1, .int i), (2, .int j), (3, .long x)] "TimeNetModel" .ireturn [.int (-1)] (by decide) rfl (Nat.le_of_ble_eq_true rfl) rfl (Or.inl ⟨rfl, rfl, _, rfl, rfl⟩) ?_
  intro p e s m args below meth c A ls Q E hK hP hD hS hA hl hE
  obtain ⟨hx, hb, hml, hr, hlk, hown, hT⟩ := E
  refine lv_aload_n hx hb d_M_add_0 rfl (lv_at hl 0 rfl) ?_
  refine lv_iconst (v := nI 0) hx hb d_M_add_1 (by decide) ?_
  refine w_put i_M t_M t_M_ok n_M hx hb hT hown hK hP hD hS 0 rfl rfl 0 (by decide) tb_267 rfl rfl rfl (Nat.le_of_ble_eq_true rfl) d_M_add_2 (fun H locs hP hD hS => ?_)
  have hP : va_P D classes (mW a k (nI 0) n fr tt cc on rs row rl lst bl bs) H := hP
  have hD : va_D A (mW a k (nI 0) n fr tt cc on rs row rl lst bl bs) := hD
  refine lv_iload_n hx hb d_M_add_5 rfl (lv_at hl 1 rfl) ?_
  refine w_callS (v := .int (q_b (q_pt i))) (As := [.int i]) (rest := []) ⟨hx, hb, hml, hown, hT⟩ (c_M_isPoint l i) (w_cwS hT ms_M_isPoint tb_313 ⟨by decide, by decide⟩) rfl rfl hl.1 (Nat.le_of_ble_eq_true rfl) d_M_add_6 ⟨Nat.zero_le _, Nat.zero_le _⟩ ?_
  refine w_ifeqB (tgt := 49) hx hb d_M_add_9 (by decide) (fun h1 => ?_) (fun h1 => ?_)
  · refine lv_iconst (v := (-1)) hx hb d_M_add_49 (by decide) ?_
    exact hE _ _ _ _ d_M_add_50 hP hD hS
  · refine lv_iload_n hx hb d_M_add_12 rfl (lv_at hl 2 rfl) ?_
    refine w_callS (v := .int (q_b (q_pt j))) (As := [.int j]) (rest := []) ⟨hx, hb, hml, hown, hT⟩ (c_M_isPoint l j) (w_cwS hT ms_M_isPoint tb_313 ⟨by decide, by decide⟩) rfl rfl hl.1 (Nat.le_of_ble_eq_true rfl) d_M_add_13 ⟨Nat.zero_le _, Nat.zero_le _⟩ ?_
    refine w_ifeqB (tgt := 49) hx hb d_M_add_16 (by decide) (fun h2 => ?_) (fun h2 => ?_)
    · refine lv_iconst (v := (-1)) hx hb d_M_add_49 (by decide) ?_
      exact hE _ _ _ _ d_M_add_50 hP hD hS
    · refine lv_iload_n hx hb d_M_add_19 rfl (lv_at hl 1 rfl) ?_
      refine lv_iload_n hx hb d_M_add_20 rfl (lv_at hl 2 rfl) ?_
      refine lv_icmp_eq (tgt := 49) hx hb d_M_add_21 (by decide) (fun h3 => ?_) (fun h3 => ?_)
      · refine lv_iconst (v := (-1)) hx hb d_M_add_49 (by decide) ?_
        exact hE _ _ _ _ d_M_add_50 hP hD hS
      · refine lv_lload_n hx hb d_M_add_24 rfl (lv_at hl 3 rfl) ?_
        refine lv_ldc2 (v := (-1000000000000)) hx hb hown (hT _ tb_316) d_M_add_25 ?_
        refine w_lclt (tgt := 49) hx hb d_M_add_28 d_M_add_29 (by decide) (fun h4 => ?_) (fun h4 => ?_)
        · refine lv_iconst (v := (-1)) hx hb d_M_add_49 (by decide) ?_
          exact hE _ _ _ _ d_M_add_50 hP hD hS
        · refine lv_lload_n hx hb d_M_add_32 rfl (lv_at hl 3 rfl) ?_
          refine lv_ldc2 (v := 1000000000000) hx hb hown (hT _ tb_317) d_M_add_33 ?_
          refine w_lcgt (tgt := 49) hx hb d_M_add_36 d_M_add_37 (by decide) (fun h5 => ?_) (fun h5 => ?_)
          · refine lv_iconst (v := (-1)) hx hb d_M_add_49 (by decide) ?_
            exact hE _ _ _ _ d_M_add_50 hP hD hS
          · refine lv_aload_n hx hb d_M_add_40 rfl (lv_at hl 0 rfl) ?_
            refine w_get i_M hx hb hT hown hK hP 0 rfl rfl 1 (by decide) tb_268 rfl d_M_add_41 ?_
            refine lv_bipush (v := nI 120) hx hb d_M_add_44 (by decide) ?_
            refine w_icne (tgt := 51) hx hb (by omega) (by omega) d_M_add_46 (by decide) (fun h6 => ?_) (fun h6 => ?_)
            · exact absurd h (by simp [q_bad, h1, h2, h3, h4, h5, h6])
            · refine lv_iconst (v := (-1)) hx hb d_M_add_49 (by decide) ?_
              exact hE _ _ _ _ d_M_add_50 hP hD hS

set_option maxHeartbeats 4000000 in
set_option maxRecDepth 100000 in
/-- add: refused -/
theorem c_M_add_r (l : Launch) (D : va_G) (a : Nat → Nat) (k : Nat → ClassId) (th : Int32) (n : Nat) (fr tt : Nat → Nat) (cc : Nat → Int64) (on : Nat → Bool) (rs : Nat) (row : Nat → Int32) (rl : Int64) (lst : Nat → Int64) (bl : Int64) (bs : Int32) (i j : Nat) (x : Int64) (hi : i < 20) (hj : j < 20) (hft : ∀ j, j < n → fr j < 20 ∧ tt j < 20) (hn : n ≤ 120) (hij : i ≠ j) (hx1 : ¬ x < (-1000000000000)) (hx2 : ¬ 1000000000000 < x) (hn2 : n < 120) (h : (!(decide ((q_bst (q_lst n fr tt cc on i lst) j).2 < 0)) && decide (x + (q_bst (q_lst n fr tt cc on i lst) j).1 < 0)) = true) (us : List Nat) (hs : (q_bst (q_lst n fr tt cc on i lst) j).2 = nI us.length) (h20 : us.length ≤ 20) (hq : q_wlk n fr tt cc on (q_lst n fr tt cc on i lst) j us) : Ct l y_M_add b_M_add 5 (some .int) 3 73 D (mT k) [.ref (a 0), .int (nI i), .int (nI j), .long x] (mW a k th n fr tt cc on rs row rl lst bl bs) (mW a k (nI 0) n fr tt cc on (2 + us.length) (q_app (upd (upd row 0 (nI i)) 1 (nI j)) 2 us) (x + (q_bst (q_lst n fr tt cc on i lst) j).1) (q_lst n fr tt cc on i lst) ((q_bst (q_lst n fr tt cc on i lst) j).1) ((q_bst (q_lst n fr tt cc on i lst) j).2)) (some (.int (-2))) := by
  refine q_enter [(0, .ref (a 0)), (1, .int (nI i)), (2, .int (nI j)), (3, .long x)] "TimeNetModel" .ireturn [.int (-2)] (by decide) rfl (Nat.le_of_ble_eq_true rfl) rfl (Or.inl ⟨rfl, rfl, _, rfl, rfl⟩) ?_
  intro p e s m args below meth c A ls Q E hK hP hD hS hA hl hE
  obtain ⟨hx, hb, hml, hr, hlk, hown, hT⟩ := E
  refine lv_aload_n hx hb d_M_add_0 rfl (lv_at hl 0 rfl) ?_
  refine lv_iconst (v := nI 0) hx hb d_M_add_1 (by decide) ?_
  refine w_put i_M t_M t_M_ok n_M hx hb hT hown hK hP hD hS 0 rfl rfl 0 (by decide) tb_267 rfl rfl rfl (Nat.le_of_ble_eq_true rfl) d_M_add_2 (fun H locs hP hD hS => ?_)
  have hP : va_P D classes (mW a k (nI 0) n fr tt cc on rs row rl lst bl bs) H := hP
  have hD : va_D A (mW a k (nI 0) n fr tt cc on rs row rl lst bl bs) := hD
  refine lv_iload_n hx hb d_M_add_5 rfl (lv_at hl 1 rfl) ?_
  refine w_callS (v := .int (q_b (q_pt (nI i)))) (As := [.int (nI i)]) (rest := []) ⟨hx, hb, hml, hown, hT⟩ (c_M_isPoint l (nI i)) (w_cwS hT ms_M_isPoint tb_313 ⟨by decide, by decide⟩) rfl rfl hl.1 (Nat.le_of_ble_eq_true rfl) d_M_add_6 ⟨Nat.zero_le _, Nat.zero_le _⟩ ?_
  refine w_ifeqB (tgt := 49) hx hb d_M_add_9 (by decide) (fun h1 => ?_) (fun h1 => ?_)
  · exact absurd h1 (by rw [q_pt_nI hi]; decide)
  · refine lv_iload_n hx hb d_M_add_12 rfl (lv_at hl 2 rfl) ?_
    refine w_callS (v := .int (q_b (q_pt (nI j)))) (As := [.int (nI j)]) (rest := []) ⟨hx, hb, hml, hown, hT⟩ (c_M_isPoint l (nI j)) (w_cwS hT ms_M_isPoint tb_313 ⟨by decide, by decide⟩) rfl rfl hl.1 (Nat.le_of_ble_eq_true rfl) d_M_add_13 ⟨Nat.zero_le _, Nat.zero_le _⟩ ?_
    refine w_ifeqB (tgt := 49) hx hb d_M_add_16 (by decide) (fun h2 => ?_) (fun h2 => ?_)
    · exact absurd h2 (by rw [q_pt_nI hj]; decide)
    · refine lv_iload_n hx hb d_M_add_19 rfl (lv_at hl 1 rfl) ?_
      refine lv_iload_n hx hb d_M_add_20 rfl (lv_at hl 2 rfl) ?_
      refine w_iceq (tgt := 49) hx hb (by omega) (by omega) d_M_add_21 (by decide) (fun h3 => ?_) (fun h3 => ?_)
      · exact absurd h3 hij
      · refine lv_lload_n hx hb d_M_add_24 rfl (lv_at hl 3 rfl) ?_
        refine lv_ldc2 (v := (-1000000000000)) hx hb hown (hT _ tb_316) d_M_add_25 ?_
        refine w_lclt (tgt := 49) hx hb d_M_add_28 d_M_add_29 (by decide) (fun h4 => ?_) (fun h4 => ?_)
        · exact absurd h4 hx1
        · refine lv_lload_n hx hb d_M_add_32 rfl (lv_at hl 3 rfl) ?_
          refine lv_ldc2 (v := 1000000000000) hx hb hown (hT _ tb_317) d_M_add_33 ?_
          refine w_lcgt (tgt := 49) hx hb d_M_add_36 d_M_add_37 (by decide) (fun h5 => ?_) (fun h5 => ?_)
          · exact absurd h5 hx2
          · refine lv_aload_n hx hb d_M_add_40 rfl (lv_at hl 0 rfl) ?_
            refine w_get i_M hx hb hT hown hK hP 0 rfl rfl 1 (by decide) tb_268 rfl d_M_add_41 ?_
            refine lv_bipush (v := nI 120) hx hb d_M_add_44 (by decide) ?_
            refine w_icne (tgt := 51) hx hb (by omega) (by omega) d_M_add_46 (by decide) (fun h6 => ?_) (fun h6 => ?_)
            · refine lv_aload_n hx hb d_M_add_51 rfl (lv_at hl 0 rfl) ?_
              refine lv_iload_n hx hb d_M_add_52 rfl (lv_at hl 1 rfl) ?_
              refine lv_iload_n hx hb d_M_add_53 rfl (lv_at hl 2 rfl) ?_
              refine lv_lload_n hx hb d_M_add_54 rfl (lv_at hl 3 rfl) ?_
              refine w_callV (As := [.int (nI i), .int (nI j), .long x]) (rest := []) ⟨hx, hb, hml, hown, hT⟩ (c_M_isBad_y l D a k (nI 0) n fr tt cc on rs row rl lst bl bs i j x hi hj hft hn h us hs h20 hq) (w_cwV hT ms_M_isBad tb_318 ⟨by decide, by decide⟩) hK hP hD hS hA 0 3 rfl rfl rfl rfl rfl hl.1 (Nat.le_of_ble_eq_true rfl) d_M_add_55 ⟨Nat.zero_le _, Nat.zero_le _⟩ (fun H locs hP hD hS => ?_)
              have hP : va_P D classes (mW a k (nI 0) n fr tt cc on (2 + us.length) (q_app (upd (upd row 0 (nI i)) 1 (nI j)) 2 us) (x + (q_bst (q_lst n fr tt cc on i lst) j).1) (q_lst n fr tt cc on i lst) ((q_bst (q_lst n fr tt cc on i lst) j).1) ((q_bst (q_lst n fr tt cc on i lst) j).2)) H := hP
              have hD : va_D A (mW a k (nI 0) n fr tt cc on (2 + us.length) (q_app (upd (upd row 0 (nI i)) 1 (nI j)) 2 us) (x + (q_bst (q_lst n fr tt cc on i lst) j).1) (q_lst n fr tt cc on i lst) ((q_bst (q_lst n fr tt cc on i lst) j).1) ((q_bst (q_lst n fr tt cc on i lst) j).2)) := hD
              refine w_ifeqB (tgt := 64) hx hb d_M_add_58 (by decide) (fun h7 => ?_) (fun h7 => ?_)
              · exact absurd h7 (by decide)
              · refine lv_bipush (v := (-2)) hx hb d_M_add_61 (by decide) ?_
                exact hE _ _ _ _ d_M_add_63 hP hD hS
            · exact absurd h6 (by omega)

set_option maxHeartbeats 4000000 in
set_option maxRecDepth 100000 in
/-- add: taken -/
theorem c_M_add_y (l : Launch) (D : va_G) (a : Nat → Nat) (k : Nat → ClassId) (th : Int32) (n : Nat) (fr tt : Nat → Nat) (cc : Nat → Int64) (on : Nat → Bool) (rs : Nat) (row : Nat → Int32) (rl : Int64) (lst : Nat → Int64) (bl : Int64) (bs : Int32) (i j : Nat) (x : Int64) (hi : i < 20) (hj : j < 20) (hft : ∀ j, j < n → fr j < 20 ∧ tt j < 20) (hn : n ≤ 120) (hij : i ≠ j) (hx1 : ¬ x < (-1000000000000)) (hx2 : ¬ 1000000000000 < x) (hn2 : n < 120) (h : (!(decide ((q_bst (q_lst n fr tt cc on i lst) j).2 < 0)) && decide (x + (q_bst (q_lst n fr tt cc on i lst) j).1 < 0)) = false) : Ct l y_M_add b_M_add 5 (some .int) 3 73 D (mT k) [.ref (a 0), .int (nI i), .int (nI j), .long x] (mW a k th n fr tt cc on rs row rl lst bl bs) (mW a k (nI 0) (n + 1) (va_up fr n i) (va_up tt n j) (va_up cc n x) (va_up on n true) rs row rl (q_lst n fr tt cc on i lst) ((q_bst (q_lst n fr tt cc on i lst) j).1) ((q_bst (q_lst n fr tt cc on i lst) j).2)) (some (.int (nI n))) := by
  refine q_enter [(0, .ref (a 0)), (1, .int (nI i)), (2, .int (nI j)), (3, .long x)] "TimeNetModel" .ireturn [.int (nI n)] (by decide) rfl (Nat.le_of_ble_eq_true rfl) rfl (Or.inl ⟨rfl, rfl, _, rfl, rfl⟩) ?_
  intro p e s m args below meth c A ls Q E hK hP hD hS hA hl hE
  obtain ⟨hx, hb, hml, hr, hlk, hown, hT⟩ := E
  refine lv_aload_n hx hb d_M_add_0 rfl (lv_at hl 0 rfl) ?_
  refine lv_iconst (v := nI 0) hx hb d_M_add_1 (by decide) ?_
  refine w_put i_M t_M t_M_ok n_M hx hb hT hown hK hP hD hS 0 rfl rfl 0 (by decide) tb_267 rfl rfl rfl (Nat.le_of_ble_eq_true rfl) d_M_add_2 (fun H locs hP hD hS => ?_)
  have hP : va_P D classes (mW a k (nI 0) n fr tt cc on rs row rl lst bl bs) H := hP
  have hD : va_D A (mW a k (nI 0) n fr tt cc on rs row rl lst bl bs) := hD
  refine lv_iload_n hx hb d_M_add_5 rfl (lv_at hl 1 rfl) ?_
  refine w_callS (v := .int (q_b (q_pt (nI i)))) (As := [.int (nI i)]) (rest := []) ⟨hx, hb, hml, hown, hT⟩ (c_M_isPoint l (nI i)) (w_cwS hT ms_M_isPoint tb_313 ⟨by decide, by decide⟩) rfl rfl hl.1 (Nat.le_of_ble_eq_true rfl) d_M_add_6 ⟨Nat.zero_le _, Nat.zero_le _⟩ ?_
  refine w_ifeqB (tgt := 49) hx hb d_M_add_9 (by decide) (fun h1 => ?_) (fun h1 => ?_)
  · exact absurd h1 (by rw [q_pt_nI hi]; decide)
  · refine lv_iload_n hx hb d_M_add_12 rfl (lv_at hl 2 rfl) ?_
    refine w_callS (v := .int (q_b (q_pt (nI j)))) (As := [.int (nI j)]) (rest := []) ⟨hx, hb, hml, hown, hT⟩ (c_M_isPoint l (nI j)) (w_cwS hT ms_M_isPoint tb_313 ⟨by decide, by decide⟩) rfl rfl hl.1 (Nat.le_of_ble_eq_true rfl) d_M_add_13 ⟨Nat.zero_le _, Nat.zero_le _⟩ ?_
    refine w_ifeqB (tgt := 49) hx hb d_M_add_16 (by decide) (fun h2 => ?_) (fun h2 => ?_)
    · exact absurd h2 (by rw [q_pt_nI hj]; decide)
    · refine lv_iload_n hx hb d_M_add_19 rfl (lv_at hl 1 rfl) ?_
      refine lv_iload_n hx hb d_M_add_20 rfl (lv_at hl 2 rfl) ?_
      refine w_iceq (tgt := 49) hx hb (by omega) (by omega) d_M_add_21 (by decide) (fun h3 => ?_) (fun h3 => ?_)
      · exact absurd h3 hij
      · refine lv_lload_n hx hb d_M_add_24 rfl (lv_at hl 3 rfl) ?_
        refine lv_ldc2 (v := (-1000000000000)) hx hb hown (hT _ tb_316) d_M_add_25 ?_
        refine w_lclt (tgt := 49) hx hb d_M_add_28 d_M_add_29 (by decide) (fun h4 => ?_) (fun h4 => ?_)
        · exact absurd h4 hx1
        · refine lv_lload_n hx hb d_M_add_32 rfl (lv_at hl 3 rfl) ?_
          refine lv_ldc2 (v := 1000000000000) hx hb hown (hT _ tb_317) d_M_add_33 ?_
          refine w_lcgt (tgt := 49) hx hb d_M_add_36 d_M_add_37 (by decide) (fun h5 => ?_) (fun h5 => ?_)
          · exact absurd h5 hx2
          · refine lv_aload_n hx hb d_M_add_40 rfl (lv_at hl 0 rfl) ?_
            refine w_get i_M hx hb hT hown hK hP 0 rfl rfl 1 (by decide) tb_268 rfl d_M_add_41 ?_
            refine lv_bipush (v := nI 120) hx hb d_M_add_44 (by decide) ?_
            refine w_icne (tgt := 51) hx hb (by omega) (by omega) d_M_add_46 (by decide) (fun h6 => ?_) (fun h6 => ?_)
            · refine lv_aload_n hx hb d_M_add_51 rfl (lv_at hl 0 rfl) ?_
              refine lv_iload_n hx hb d_M_add_52 rfl (lv_at hl 1 rfl) ?_
              refine lv_iload_n hx hb d_M_add_53 rfl (lv_at hl 2 rfl) ?_
              refine lv_lload_n hx hb d_M_add_54 rfl (lv_at hl 3 rfl) ?_
              refine w_callV (As := [.int (nI i), .int (nI j), .long x]) (rest := []) ⟨hx, hb, hml, hown, hT⟩ (c_M_isBad_n l D a k (nI 0) n fr tt cc on rs row rl lst bl bs i j x hi hj hft hn h) (w_cwV hT ms_M_isBad tb_318 ⟨by decide, by decide⟩) hK hP hD hS hA 0 3 rfl rfl rfl rfl rfl hl.1 (Nat.le_of_ble_eq_true rfl) d_M_add_55 ⟨Nat.zero_le _, Nat.zero_le _⟩ (fun H locs hP hD hS => ?_)
              have hP : va_P D classes (mW a k (nI 0) n fr tt cc on rs row rl (q_lst n fr tt cc on i lst) ((q_bst (q_lst n fr tt cc on i lst) j).1) ((q_bst (q_lst n fr tt cc on i lst) j).2)) H := hP
              have hD : va_D A (mW a k (nI 0) n fr tt cc on rs row rl (q_lst n fr tt cc on i lst) ((q_bst (q_lst n fr tt cc on i lst) j).1) ((q_bst (q_lst n fr tt cc on i lst) j).2)) := hD
              refine w_ifeqB (tgt := 64) hx hb d_M_add_58 (by decide) (fun h7 => ?_) (fun h7 => ?_)
              · refine lv_aload_n hx hb d_M_add_64 rfl (lv_at hl 0 rfl) ?_
                refine w_get i_M hx hb hT hown hK hP 0 rfl rfl 2 (by decide) tb_269 rfl d_M_add_65 ?_
                refine lv_aload_n hx hb d_M_add_68 rfl (lv_at hl 0 rfl) ?_
                refine w_get i_M hx hb hT hown hK hP 0 rfl rfl 1 (by decide) tb_268 rfl d_M_add_69 ?_
                refine lv_iload_n hx hb d_M_add_72 rfl (lv_at hl 1 rfl) ?_
                refine w_iast hx hb hK hP hD hS 1 0 rfl rfl (by omega) (by decide) d_M_add_73 (fun H locs hP hD hS => ?_)
                rw [q_upd_nI] at hP hD
                have hP : va_P D classes (mW a k (nI 0) n (va_up fr n i) tt cc on rs row rl (q_lst n fr tt cc on i lst) ((q_bst (q_lst n fr tt cc on i lst) j).1) ((q_bst (q_lst n fr tt cc on i lst) j).2)) H := hP
                have hD : va_D A (mW a k (nI 0) n (va_up fr n i) tt cc on rs row rl (q_lst n fr tt cc on i lst) ((q_bst (q_lst n fr tt cc on i lst) j).1) ((q_bst (q_lst n fr tt cc on i lst) j).2)) := hD
                refine lv_aload_n hx hb d_M_add_74 rfl (lv_at hl 0 rfl) ?_
                refine w_get i_M hx hb hT hown hK hP 0 rfl rfl 3 (by decide) tb_270 rfl d_M_add_75 ?_
                refine lv_aload_n hx hb d_M_add_78 rfl (lv_at hl 0 rfl) ?_
                refine w_get i_M hx hb hT hown hK hP 0 rfl rfl 1 (by decide) tb_268 rfl d_M_add_79 ?_
                refine lv_iload_n hx hb d_M_add_82 rfl (lv_at hl 2 rfl) ?_
                refine w_iast hx hb hK hP hD hS 2 1 rfl rfl (by omega) (by decide) d_M_add_83 (fun H locs hP hD hS => ?_)
                rw [q_upd_nI] at hP hD
                have hP : va_P D classes (mW a k (nI 0) n (va_up fr n i) (va_up tt n j) cc on rs row rl (q_lst n fr tt cc on i lst) ((q_bst (q_lst n fr tt cc on i lst) j).1) ((q_bst (q_lst n fr tt cc on i lst) j).2)) H := hP
                have hD : va_D A (mW a k (nI 0) n (va_up fr n i) (va_up tt n j) cc on rs row rl (q_lst n fr tt cc on i lst) ((q_bst (q_lst n fr tt cc on i lst) j).1) ((q_bst (q_lst n fr tt cc on i lst) j).2)) := hD
                refine lv_aload_n hx hb d_M_add_84 rfl (lv_at hl 0 rfl) ?_
                refine w_get i_M hx hb hT hown hK hP 0 rfl rfl 4 (by decide) tb_271 rfl d_M_add_85 ?_
                refine lv_aload_n hx hb d_M_add_88 rfl (lv_at hl 0 rfl) ?_
                refine w_get i_M hx hb hT hown hK hP 0 rfl rfl 1 (by decide) tb_268 rfl d_M_add_89 ?_
                refine lv_lload_n hx hb d_M_add_92 rfl (lv_at hl 3 rfl) ?_
                refine w_last hx hb hK hP hD hS 3 2 rfl rfl (by omega) (by decide) d_M_add_93 (fun H locs hP hD hS => ?_)
                have hP : va_P D classes (mW a k (nI 0) n (va_up fr n i) (va_up tt n j) (va_up cc n x) on rs row rl (q_lst n fr tt cc on i lst) ((q_bst (q_lst n fr tt cc on i lst) j).1) ((q_bst (q_lst n fr tt cc on i lst) j).2)) H := hP
                have hD : va_D A (mW a k (nI 0) n (va_up fr n i) (va_up tt n j) (va_up cc n x) on rs row rl (q_lst n fr tt cc on i lst) ((q_bst (q_lst n fr tt cc on i lst) j).1) ((q_bst (q_lst n fr tt cc on i lst) j).2)) := hD
                refine lv_aload_n hx hb d_M_add_94 rfl (lv_at hl 0 rfl) ?_
                refine w_get i_M hx hb hT hown hK hP 0 rfl rfl 5 (by decide) tb_272 rfl d_M_add_95 ?_
                refine lv_aload_n hx hb d_M_add_98 rfl (lv_at hl 0 rfl) ?_
                refine w_get i_M hx hb hT hown hK hP 0 rfl rfl 1 (by decide) tb_268 rfl d_M_add_99 ?_
                refine lv_iconst (v := nI 1) hx hb d_M_add_102 (by decide) ?_
                refine w_top (y := .int (q_b true)) rfl ?_
                refine w_zast hx hb hK hP hD hS 4 3 rfl rfl (by omega) (by decide) d_M_add_103 (fun H locs hP hD hS => ?_)
                rw [q_upd_b] at hP hD
                have hP : va_P D classes (mW a k (nI 0) n (va_up fr n i) (va_up tt n j) (va_up cc n x) (va_up on n true) rs row rl (q_lst n fr tt cc on i lst) ((q_bst (q_lst n fr tt cc on i lst) j).1) ((q_bst (q_lst n fr tt cc on i lst) j).2)) H := hP
                have hD : va_D A (mW a k (nI 0) n (va_up fr n i) (va_up tt n j) (va_up cc n x) (va_up on n true) rs row rl (q_lst n fr tt cc on i lst) ((q_bst (q_lst n fr tt cc on i lst) j).1) ((q_bst (q_lst n fr tt cc on i lst) j).2)) := hD
                refine lv_aload_n hx hb d_M_add_104 rfl (lv_at hl 0 rfl) ?_
                refine lv_dup hx hb d_M_add_105 rfl ?_
                refine w_get i_M hx hb hT hown hK hP 0 rfl rfl 1 (by decide) tb_268 rfl d_M_add_106 ?_
                refine lv_iconst (v := nI 1) hx hb d_M_add_109 (by decide) ?_
                refine w_iadd hx hb d_M_add_110 ?_
                refine w_put i_M t_M t_M_ok n_M hx hb hT hown hK hP hD hS 0 rfl rfl 1 (by decide) tb_268 rfl rfl rfl (Nat.le_of_ble_eq_true rfl) d_M_add_111 (fun H locs hP hD hS => ?_)
                have hP : va_P D classes (mW a k (nI 0) (n + 1) (va_up fr n i) (va_up tt n j) (va_up cc n x) (va_up on n true) rs row rl (q_lst n fr tt cc on i lst) ((q_bst (q_lst n fr tt cc on i lst) j).1) ((q_bst (q_lst n fr tt cc on i lst) j).2)) H := hP
                have hD : va_D A (mW a k (nI 0) (n + 1) (va_up fr n i) (va_up tt n j) (va_up cc n x) (va_up on n true) rs row rl (q_lst n fr tt cc on i lst) ((q_bst (q_lst n fr tt cc on i lst) j).1) ((q_bst (q_lst n fr tt cc on i lst) j).2)) := hD
                refine lv_aload_n hx hb d_M_add_114 rfl (lv_at hl 0 rfl) ?_
                refine w_get i_M hx hb hT hown hK hP 0 rfl rfl 1 (by decide) tb_268 rfl d_M_add_115 ?_
                refine lv_iconst (v := nI 1) hx hb d_M_add_118 (by decide) ?_
                refine w_isub hx hb (by omega) d_M_add_119 ?_
                refine w_top (y := .int (nI n)) (by rw [Nat.add_sub_cancel]) ?_
                exact hE _ _ _ _ d_M_add_120 hP hD hS
              · exact absurd h7 (by decide)
            · exact absurd h6 (by omega)
end
section
set_option maxHeartbeats 4000000 in
set_option maxRecDepth 100000 in
/-- M_off: no -/
theorem c_M_off_n (l : Launch) (D : va_G) (a : Nat → Nat) (k : Nat → ClassId) (th : Int32) (n : Nat) (fr tt : Nat → Nat) (cc : Nat → Int64) (on : Nat → Bool) (rs : Nat) (row : Nat → Int32) (rl : Int64) (lst : Nat → Int64) (bl : Int64) (bs : Int32) (x : Int32) (hn : n ≤ 120) (h : ∀ j, j < n → x = nI j → on j = false) : Ct l y_M_off b_M_off 2 (some .boolean) 1 21 D (mT k) [.ref (a 0), .int x] (mW a k th n fr tt cc on rs row rl lst bl bs) (mW a k (nI 0) n fr tt cc on rs row rl lst bl bs) (some (.int (q_b false))) := by
  refine q_enter [(0, .ref (a 0)), (1, .int x)] "TimeNetModel" .ireturn [.int (q_b false)] (by decide) rfl (Nat.le_of_ble_eq_true rfl) rfl (Or.inr (Or.inl ⟨rfl, rfl, _, rfl, rfl⟩)) ?_
  intro p e s m args below meth c A ls Q E hK hP hD hS hA hl hE
  obtain ⟨hx, hb, hml, hr, hlk, hown, hT⟩ := E
  refine lv_aload_n hx hb d_M_off_0 rfl (lv_at hl 0 rfl) ?_
  refine lv_iconst (v := nI 0) hx hb d_M_off_1 (by decide) ?_
  refine w_put i_M t_M t_M_ok n_M hx hb hT hown hK hP hD hS 0 rfl rfl 0 (by decide) tb_267 rfl rfl rfl (Nat.le_of_ble_eq_true rfl) d_M_off_2 (fun H locs hP hD hS => ?_)
  have hP : va_P D classes (mW a k (nI 0) n fr tt cc on rs row rl lst bl bs) H := hP
  have hD : va_D A (mW a k (nI 0) n fr tt cc on rs row rl lst bl bs) := hD
  refine lv_aload_n hx hb d_M_off_5 rfl (lv_at hl 0 rfl) ?_
  refine lv_iload_n hx hb d_M_off_6 rfl (lv_at hl 1 rfl) ?_
  refine w_callV (As := [.int x]) (rest := []) ⟨hx, hb, hml, hown, hT⟩ (c_M_isThere l D a k (nI 0) n fr tt cc on rs row rl lst bl bs x) (w_cwV hT ms_M_isThere tb_339 ⟨by decide, by decide⟩) hK hP hD hS hA 0 3 rfl rfl rfl rfl rfl hl.1 (Nat.le_of_ble_eq_true rfl) d_M_off_7 ⟨Nat.zero_le _, Nat.zero_le _⟩ (fun H locs hP hD hS => ?_)
  refine w_ifeqB (tgt := 22) hx hb d_M_off_10 (by decide) (fun h1 => ?_) (fun h1 => ?_)
  · refine lv_iconst (v := nI 0) hx hb d_M_off_22 (by decide) ?_
    refine w_top (y := .int (q_b false)) rfl ?_
    exact hE _ _ _ _ d_M_off_23 hP hD hS
  · obtain ⟨j, hjn, rfl⟩ := q_th_of (by omega) h1
    refine lv_aload_n hx hb d_M_off_13 rfl (lv_at hl 0 rfl) ?_
    refine w_get i_M hx hb hT hown hK hP 0 rfl rfl 5 (by decide) tb_272 rfl d_M_off_14 ?_
    refine lv_iload_n hx hb d_M_off_17 rfl (lv_at hl 1 rfl) ?_
    refine w_zald hx hb hK hP 4 3 rfl rfl (by omega) (by decide) d_M_off_18 ?_
    refine w_ifneB (tgt := 24) hx hb d_M_off_19 (by decide) (fun h2 => ?_) (fun h2 => ?_)
    · exact absurd h2 (by rw [h j hjn rfl]; decide)
    · refine lv_iconst (v := nI 0) hx hb d_M_off_22 (by decide) ?_
      refine w_top (y := .int (q_b false)) rfl ?_
      exact hE _ _ _ _ d_M_off_23 hP hD hS

set_option maxHeartbeats 4000000 in
set_option maxRecDepth 100000 in
/-- M_on: no -/
theorem c_M_on_n (l : Launch) (D : va_G) (a : Nat → Nat) (k : Nat → ClassId) (th : Int32) (n : Nat) (fr tt : Nat → Nat) (cc : Nat → Int64) (on : Nat → Bool) (rs : Nat) (row : Nat → Int32) (rl : Int64) (lst : Nat → Int64) (bl : Int64) (bs : Int32) (x : Int32) (hn : n ≤ 120) (h : ∀ j, j < n → x = nI j → on j = true) : Ct l y_M_on b_M_on 2 (some .int) 3 73 D (mT k) [.ref (a 0), .int x] (mW a k th n fr tt cc on rs row rl lst bl bs) (mW a k (nI 0) n fr tt cc on rs row rl lst bl bs) (some (.int (-1))) := by
  refine q_enter [(0, .ref (a 0)), (1, .int x)] "TimeNetModel" .ireturn [.int (-1)] (by decide) rfl (Nat.le_of_ble_eq_true rfl) rfl (Or.inl ⟨rfl, rfl, _, rfl, rfl⟩) ?_
  intro p e s m args below meth c A ls Q E hK hP hD hS hA hl hE
  obtain ⟨hx, hb, hml, hr, hlk, hown, hT⟩ := E
  refine lv_aload_n hx hb d_M_on_0 rfl (lv_at hl 0 rfl) ?_
  refine lv_iconst (v := nI 0) hx hb d_M_on_1 (by decide) ?_
  refine w_put i_M t_M t_M_ok n_M hx hb hT hown hK hP hD hS 0 rfl rfl 0 (by decide) tb_267 rfl rfl rfl (Nat.le_of_ble_eq_true rfl) d_M_on_2 (fun H locs hP hD hS => ?_)
  have hP : va_P D classes (mW a k (nI 0) n fr tt cc on rs row rl lst bl bs) H := hP
  have hD : va_D A (mW a k (nI 0) n fr tt cc on rs row rl lst bl bs) := hD
  refine lv_aload_n hx hb d_M_on_5 rfl (lv_at hl 0 rfl) ?_
  refine lv_iload_n hx hb d_M_on_6 rfl (lv_at hl 1 rfl) ?_
  refine w_callV (As := [.int x]) (rest := []) ⟨hx, hb, hml, hown, hT⟩ (c_M_isThere l D a k (nI 0) n fr tt cc on rs row rl lst bl bs x) (w_cwV hT ms_M_isThere tb_339 ⟨by decide, by decide⟩) hK hP hD hS hA 0 3 rfl rfl rfl rfl rfl hl.1 (Nat.le_of_ble_eq_true rfl) d_M_on_7 ⟨Nat.zero_le _, Nat.zero_le _⟩ (fun H locs hP hD hS => ?_)
  refine w_ifeqB (tgt := 22) hx hb d_M_on_10 (by decide) (fun h1 => ?_) (fun h1 => ?_)
  · refine lv_iconst (v := (-1)) hx hb d_M_on_22 (by decide) ?_
    exact hE _ _ _ _ d_M_on_23 hP hD hS
  · obtain ⟨j, hjn, rfl⟩ := q_th_of (by omega) h1
    refine lv_aload_n hx hb d_M_on_13 rfl (lv_at hl 0 rfl) ?_
    refine w_get i_M hx hb hT hown hK hP 0 rfl rfl 5 (by decide) tb_272 rfl d_M_on_14 ?_
    refine lv_iload_n hx hb d_M_on_17 rfl (lv_at hl 1 rfl) ?_
    refine w_zald hx hb hK hP 4 3 rfl rfl (by omega) (by decide) d_M_on_18 ?_
    refine w_ifeqB (tgt := 24) hx hb d_M_on_19 (by decide) (fun h2 => ?_) (fun h2 => ?_)
    · exact absurd h2 (by rw [h j hjn rfl]; decide)
    · refine lv_iconst (v := (-1)) hx hb d_M_on_22 (by decide) ?_
      exact hE _ _ _ _ d_M_on_23 hP hD hS

set_option maxHeartbeats 4000000 in
set_option maxRecDepth 100000 in
/-- M_slack: no -/
theorem c_M_slack_n (l : Launch) (D : va_G) (a : Nat → Nat) (k : Nat → ClassId) (th : Int32) (n : Nat) (fr tt : Nat → Nat) (cc : Nat → Int64) (on : Nat → Bool) (rs : Nat) (row : Nat → Int32) (rl : Int64) (lst : Nat → Int64) (bl : Int64) (bs : Int32) (x : Int32) (hn : n ≤ 120) (h : ∀ j, j < n → x = nI j → on j = false) : Ct l y_M_slack b_M_slack 2 (some .long) 1 26 D (mT k) [.ref (a 0), .int x] (mW a k th n fr tt cc on rs row rl lst bl bs) (mW a k (nI 0) n fr tt cc on rs row rl lst bl bs) (some (.long (-1))) := by
  refine q_enter [(0, .ref (a 0)), (1, .int x)] "TimeNetModel" .lreturn [.long (-1)] (by decide) rfl (Nat.le_of_ble_eq_true rfl) rfl (Or.inr (Or.inr (Or.inl ⟨rfl, rfl, _, rfl, rfl⟩))) ?_
  intro p e s m args below meth c A ls Q E hK hP hD hS hA hl hE
  obtain ⟨hx, hb, hml, hr, hlk, hown, hT⟩ := E
  refine lv_aload_n hx hb d_M_slack_0 rfl (lv_at hl 0 rfl) ?_
  refine lv_iconst (v := nI 0) hx hb d_M_slack_1 (by decide) ?_
  refine w_put i_M t_M t_M_ok n_M hx hb hT hown hK hP hD hS 0 rfl rfl 0 (by decide) tb_267 rfl rfl rfl (Nat.le_of_ble_eq_true rfl) d_M_slack_2 (fun H locs hP hD hS => ?_)
  have hP : va_P D classes (mW a k (nI 0) n fr tt cc on rs row rl lst bl bs) H := hP
  have hD : va_D A (mW a k (nI 0) n fr tt cc on rs row rl lst bl bs) := hD
  refine lv_aload_n hx hb d_M_slack_5 rfl (lv_at hl 0 rfl) ?_
  refine lv_iload_n hx hb d_M_slack_6 rfl (lv_at hl 1 rfl) ?_
  refine w_callV (As := [.int x]) (rest := []) ⟨hx, hb, hml, hown, hT⟩ (c_M_isThere l D a k (nI 0) n fr tt cc on rs row rl lst bl bs x) (w_cwV hT ms_M_isThere tb_339 ⟨by decide, by decide⟩) hK hP hD hS hA 0 3 rfl rfl rfl rfl rfl hl.1 (Nat.le_of_ble_eq_true rfl) d_M_slack_7 ⟨Nat.zero_le _, Nat.zero_le _⟩ (fun H locs hP hD hS => ?_)
  refine w_ifeqB (tgt := 41) hx hb d_M_slack_10 (by decide) (fun h1 => ?_) (fun h1 => ?_)
  · refine lv_ldc2 (v := (-1)) hx hb hown (hT _ tb_380) d_M_slack_41 ?_
    exact hE _ _ _ _ d_M_slack_44 hP hD hS
  · obtain ⟨j, hjn, rfl⟩ := q_th_of (by omega) h1
    refine lv_aload_n hx hb d_M_slack_13 rfl (lv_at hl 0 rfl) ?_
    refine w_get i_M hx hb hT hown hK hP 0 rfl rfl 5 (by decide) tb_272 rfl d_M_slack_14 ?_
    refine lv_iload_n hx hb d_M_slack_17 rfl (lv_at hl 1 rfl) ?_
    refine w_zald hx hb hK hP 4 3 rfl rfl (by omega) (by decide) d_M_slack_18 ?_
    refine w_ifeqB (tgt := 41) hx hb d_M_slack_19 (by decide) (fun h2 => ?_) (fun h2 => ?_)
    · refine lv_ldc2 (v := (-1)) hx hb hown (hT _ tb_380) d_M_slack_41 ?_
      exact hE _ _ _ _ d_M_slack_44 hP hD hS
    · exact absurd h2 (by rw [h j hjn rfl]; decide)

set_option maxHeartbeats 4000000 in
set_option maxRecDepth 100000 in
/-- off: yes -/
theorem c_M_off_y (l : Launch) (D : va_G) (a : Nat → Nat) (k : Nat → ClassId) (th : Int32) (n : Nat) (fr tt : Nat → Nat) (cc : Nat → Int64) (on : Nat → Bool) (rs : Nat) (row : Nat → Int32) (rl : Int64) (lst : Nat → Int64) (bl : Int64) (bs : Int32) (j : Nat) (hft : ∀ j, j < n → fr j < 20 ∧ tt j < 20) (hn : n ≤ 120) (hjn : j < n) (h : on j = true) : Ct l y_M_off b_M_off 2 (some .boolean) 1 21 D (mT k) [.ref (a 0), .int (nI j)] (mW a k th n fr tt cc on rs row rl lst bl bs) (mW a k (nI 0) n fr tt cc (va_up on j false) rs row rl lst bl bs) (some (.int (q_b true))) := by
  refine q_enter [(0, .ref (a 0)), (1, .int (nI j))] "TimeNetModel" .ireturn [.int (q_b true)] (by decide) rfl (Nat.le_of_ble_eq_true rfl) rfl (Or.inr (Or.inl ⟨rfl, rfl, _, rfl, rfl⟩)) ?_
  intro p e s m args below meth c A ls Q E hK hP hD hS hA hl hE
  obtain ⟨hx, hb, hml, hr, hlk, hown, hT⟩ := E
  refine lv_aload_n hx hb d_M_off_0 rfl (lv_at hl 0 rfl) ?_
  refine lv_iconst (v := nI 0) hx hb d_M_off_1 (by decide) ?_
  refine w_put i_M t_M t_M_ok n_M hx hb hT hown hK hP hD hS 0 rfl rfl 0 (by decide) tb_267 rfl rfl rfl (Nat.le_of_ble_eq_true rfl) d_M_off_2 (fun H locs hP hD hS => ?_)
  have hP : va_P D classes (mW a k (nI 0) n fr tt cc on rs row rl lst bl bs) H := hP
  have hD : va_D A (mW a k (nI 0) n fr tt cc on rs row rl lst bl bs) := hD
  refine lv_aload_n hx hb d_M_off_5 rfl (lv_at hl 0 rfl) ?_
  refine lv_iload_n hx hb d_M_off_6 rfl (lv_at hl 1 rfl) ?_
  refine w_callV (As := [.int (nI j)]) (rest := []) ⟨hx, hb, hml, hown, hT⟩ (c_M_isThere l D a k (nI 0) n fr tt cc on rs row rl lst bl bs (nI j)) (w_cwV hT ms_M_isThere tb_339 ⟨by decide, by decide⟩) hK hP hD hS hA 0 3 rfl rfl rfl rfl rfl hl.1 (Nat.le_of_ble_eq_true rfl) d_M_off_7 ⟨Nat.zero_le _, Nat.zero_le _⟩ (fun H locs hP hD hS => ?_)
  refine w_ifeqB (tgt := 22) hx hb d_M_off_10 (by decide) (fun h1 => ?_) (fun h1 => ?_)
  · exact absurd h1 (by rw [q_th_nI hjn (by omega)]; decide)
  · refine lv_aload_n hx hb d_M_off_13 rfl (lv_at hl 0 rfl) ?_
    refine w_get i_M hx hb hT hown hK hP 0 rfl rfl 5 (by decide) tb_272 rfl d_M_off_14 ?_
    refine lv_iload_n hx hb d_M_off_17 rfl (lv_at hl 1 rfl) ?_
    refine w_zald hx hb hK hP 4 3 rfl rfl (by omega) (by decide) d_M_off_18 ?_
    refine w_ifneB (tgt := 24) hx hb d_M_off_19 (by decide) (fun h2 => ?_) (fun h2 => ?_)
    · refine lv_aload_n hx hb d_M_off_24 rfl (lv_at hl 0 rfl) ?_
      refine w_get i_M hx hb hT hown hK hP 0 rfl rfl 5 (by decide) tb_272 rfl d_M_off_25 ?_
      refine lv_iload_n hx hb d_M_off_28 rfl (lv_at hl 1 rfl) ?_
      refine lv_iconst (v := nI 0) hx hb d_M_off_29 (by decide) ?_
      refine w_top (y := .int (q_b false)) rfl ?_
      refine w_zast hx hb hK hP hD hS 4 3 rfl rfl (by omega) (by decide) d_M_off_30 (fun H locs hP hD hS => ?_)
      rw [q_upd_b] at hP hD
      have hP : va_P D classes (mW a k (nI 0) n fr tt cc (va_up on j false) rs row rl lst bl bs) H := hP
      have hD : va_D A (mW a k (nI 0) n fr tt cc (va_up on j false) rs row rl lst bl bs) := hD
      refine lv_iconst (v := nI 1) hx hb d_M_off_31 (by decide) ?_
      refine w_top (y := .int (q_b true)) rfl ?_
      exact hE _ _ _ _ d_M_off_32 hP hD hS
    · exact absurd h2 (by rw [h]; decide)

set_option maxHeartbeats 4000000 in
set_option maxRecDepth 100000 in
/-- on: refused -/
theorem c_M_on_r (l : Launch) (D : va_G) (a : Nat → Nat) (k : Nat → ClassId) (th : Int32) (n : Nat) (fr tt : Nat → Nat) (cc : Nat → Int64) (on : Nat → Bool) (rs : Nat) (row : Nat → Int32) (rl : Int64) (lst : Nat → Int64) (bl : Int64) (bs : Int32) (j : Nat) (hft : ∀ j, j < n → fr j < 20 ∧ tt j < 20) (hn : n ≤ 120) (hjn : j < n) (h : on j = false) (hrf : (!(decide ((q_bst (q_lst n fr tt cc on (fr j) lst) (tt j)).2 < 0)) && decide (cc j + (q_bst (q_lst n fr tt cc on (fr j) lst) (tt j)).1 < 0)) = true) (us : List Nat) (hs : (q_bst (q_lst n fr tt cc on (fr j) lst) (tt j)).2 = nI us.length) (h20 : us.length ≤ 20) (hq : q_wlk n fr tt cc on (q_lst n fr tt cc on (fr j) lst) (tt j) us) : Ct l y_M_on b_M_on 2 (some .int) 3 73 D (mT k) [.ref (a 0), .int (nI j)] (mW a k th n fr tt cc on rs row rl lst bl bs) (mW a k (nI 0) n fr tt cc on (2 + us.length) (q_app (upd (upd row 0 (nI (fr j))) 1 (nI (tt j))) 2 us) (cc j + (q_bst (q_lst n fr tt cc on (fr j) lst) (tt j)).1) (q_lst n fr tt cc on (fr j) lst) ((q_bst (q_lst n fr tt cc on (fr j) lst) (tt j)).1) ((q_bst (q_lst n fr tt cc on (fr j) lst) (tt j)).2)) (some (.int (-2))) := by
  refine q_enter [(0, .ref (a 0)), (1, .int (nI j))] "TimeNetModel" .ireturn [.int (-2)] (by decide) rfl (Nat.le_of_ble_eq_true rfl) rfl (Or.inl ⟨rfl, rfl, _, rfl, rfl⟩) ?_
  intro p e s m args below meth c A ls Q E hK hP hD hS hA hl hE
  obtain ⟨hx, hb, hml, hr, hlk, hown, hT⟩ := E
  refine lv_aload_n hx hb d_M_on_0 rfl (lv_at hl 0 rfl) ?_
  refine lv_iconst (v := nI 0) hx hb d_M_on_1 (by decide) ?_
  refine w_put i_M t_M t_M_ok n_M hx hb hT hown hK hP hD hS 0 rfl rfl 0 (by decide) tb_267 rfl rfl rfl (Nat.le_of_ble_eq_true rfl) d_M_on_2 (fun H locs hP hD hS => ?_)
  have hP : va_P D classes (mW a k (nI 0) n fr tt cc on rs row rl lst bl bs) H := hP
  have hD : va_D A (mW a k (nI 0) n fr tt cc on rs row rl lst bl bs) := hD
  refine lv_aload_n hx hb d_M_on_5 rfl (lv_at hl 0 rfl) ?_
  refine lv_iload_n hx hb d_M_on_6 rfl (lv_at hl 1 rfl) ?_
  refine w_callV (As := [.int (nI j)]) (rest := []) ⟨hx, hb, hml, hown, hT⟩ (c_M_isThere l D a k (nI 0) n fr tt cc on rs row rl lst bl bs (nI j)) (w_cwV hT ms_M_isThere tb_339 ⟨by decide, by decide⟩) hK hP hD hS hA 0 3 rfl rfl rfl rfl rfl hl.1 (Nat.le_of_ble_eq_true rfl) d_M_on_7 ⟨Nat.zero_le _, Nat.zero_le _⟩ (fun H locs hP hD hS => ?_)
  refine w_ifeqB (tgt := 22) hx hb d_M_on_10 (by decide) (fun h1 => ?_) (fun h1 => ?_)
  · exact absurd h1 (by rw [q_th_nI hjn (by omega)]; decide)
  · refine lv_aload_n hx hb d_M_on_13 rfl (lv_at hl 0 rfl) ?_
    refine w_get i_M hx hb hT hown hK hP 0 rfl rfl 5 (by decide) tb_272 rfl d_M_on_14 ?_
    refine lv_iload_n hx hb d_M_on_17 rfl (lv_at hl 1 rfl) ?_
    refine w_zald hx hb hK hP 4 3 rfl rfl (by omega) (by decide) d_M_on_18 ?_
    refine w_ifeqB (tgt := 24) hx hb d_M_on_19 (by decide) (fun h2 => ?_) (fun h2 => ?_)
    · refine lv_aload_n hx hb d_M_on_24 rfl (lv_at hl 0 rfl) ?_
      refine lv_aload_n hx hb d_M_on_25 rfl (lv_at hl 0 rfl) ?_
      refine w_get i_M hx hb hT hown hK hP 0 rfl rfl 2 (by decide) tb_269 rfl d_M_on_26 ?_
      refine lv_iload_n hx hb d_M_on_29 rfl (lv_at hl 1 rfl) ?_
      refine w_iald hx hb hK hP 1 0 rfl rfl (by omega) (by decide) d_M_on_30 ?_
      refine lv_aload_n hx hb d_M_on_31 rfl (lv_at hl 0 rfl) ?_
      refine w_get i_M hx hb hT hown hK hP 0 rfl rfl 3 (by decide) tb_270 rfl d_M_on_32 ?_
      refine lv_iload_n hx hb d_M_on_35 rfl (lv_at hl 1 rfl) ?_
      refine w_iald hx hb hK hP 2 1 rfl rfl (by omega) (by decide) d_M_on_36 ?_
      refine lv_aload_n hx hb d_M_on_37 rfl (lv_at hl 0 rfl) ?_
      refine w_get i_M hx hb hT hown hK hP 0 rfl rfl 4 (by decide) tb_271 rfl d_M_on_38 ?_
      refine lv_iload_n hx hb d_M_on_41 rfl (lv_at hl 1 rfl) ?_
      refine w_lald hx hb hK hP 3 2 rfl rfl (by omega) (by decide) d_M_on_42 ?_
      refine w_callV (As := [.int (nI (fr j)), .int (nI (tt j)), .long (cc j)]) (rest := []) ⟨hx, hb, hml, hown, hT⟩ (c_M_isBad_y l D a k (nI 0) n fr tt cc on rs row rl lst bl bs (fr j) (tt j) (cc j) (hft j hjn).1 (hft j hjn).2 hft hn hrf us hs h20 hq) (w_cwV hT ms_M_isBad tb_318 ⟨by decide, by decide⟩) hK hP hD hS hA 0 3 rfl rfl rfl rfl rfl hl.1 (Nat.le_of_ble_eq_true rfl) d_M_on_43 ⟨Nat.zero_le _, Nat.zero_le _⟩ (fun H locs hP hD hS => ?_)
      have hP : va_P D classes (mW a k (nI 0) n fr tt cc on (2 + us.length) (q_app (upd (upd row 0 (nI (fr j))) 1 (nI (tt j))) 2 us) (cc j + (q_bst (q_lst n fr tt cc on (fr j) lst) (tt j)).1) (q_lst n fr tt cc on (fr j) lst) ((q_bst (q_lst n fr tt cc on (fr j) lst) (tt j)).1) ((q_bst (q_lst n fr tt cc on (fr j) lst) (tt j)).2)) H := hP
      have hD : va_D A (mW a k (nI 0) n fr tt cc on (2 + us.length) (q_app (upd (upd row 0 (nI (fr j))) 1 (nI (tt j))) 2 us) (cc j + (q_bst (q_lst n fr tt cc on (fr j) lst) (tt j)).1) (q_lst n fr tt cc on (fr j) lst) ((q_bst (q_lst n fr tt cc on (fr j) lst) (tt j)).1) ((q_bst (q_lst n fr tt cc on (fr j) lst) (tt j)).2)) := hD
      refine w_ifeqB (tgt := 52) hx hb d_M_on_46 (by decide) (fun h7 => ?_) (fun h7 => ?_)
      · exact absurd h7 (by decide)
      · refine lv_bipush (v := (-2)) hx hb d_M_on_49 (by decide) ?_
        exact hE _ _ _ _ d_M_on_51 hP hD hS
    · exact absurd h2 (by rw [h]; decide)

set_option maxHeartbeats 4000000 in
set_option maxRecDepth 100000 in
/-- on: yes -/
theorem c_M_on_y (l : Launch) (D : va_G) (a : Nat → Nat) (k : Nat → ClassId) (th : Int32) (n : Nat) (fr tt : Nat → Nat) (cc : Nat → Int64) (on : Nat → Bool) (rs : Nat) (row : Nat → Int32) (rl : Int64) (lst : Nat → Int64) (bl : Int64) (bs : Int32) (j : Nat) (hft : ∀ j, j < n → fr j < 20 ∧ tt j < 20) (hn : n ≤ 120) (hjn : j < n) (h : on j = false) (hrf : (!(decide ((q_bst (q_lst n fr tt cc on (fr j) lst) (tt j)).2 < 0)) && decide (cc j + (q_bst (q_lst n fr tt cc on (fr j) lst) (tt j)).1 < 0)) = false) : Ct l y_M_on b_M_on 2 (some .int) 3 73 D (mT k) [.ref (a 0), .int (nI j)] (mW a k th n fr tt cc on rs row rl lst bl bs) (mW a k (nI 0) n fr tt cc (va_up on j true) rs row rl (q_lst n fr tt cc on (fr j) lst) ((q_bst (q_lst n fr tt cc on (fr j) lst) (tt j)).1) ((q_bst (q_lst n fr tt cc on (fr j) lst) (tt j)).2)) (some (.int (nI j))) := by
  refine q_enter [(0, .ref (a 0)), (1, .int (nI j))] "TimeNetModel" .ireturn [.int (nI j)] (by decide) rfl (Nat.le_of_ble_eq_true rfl) rfl (Or.inl ⟨rfl, rfl, _, rfl, rfl⟩) ?_
  intro p e s m args below meth c A ls Q E hK hP hD hS hA hl hE
  obtain ⟨hx, hb, hml, hr, hlk, hown, hT⟩ := E
  refine lv_aload_n hx hb d_M_on_0 rfl (lv_at hl 0 rfl) ?_
  refine lv_iconst (v := nI 0) hx hb d_M_on_1 (by decide) ?_
  refine w_put i_M t_M t_M_ok n_M hx hb hT hown hK hP hD hS 0 rfl rfl 0 (by decide) tb_267 rfl rfl rfl (Nat.le_of_ble_eq_true rfl) d_M_on_2 (fun H locs hP hD hS => ?_)
  have hP : va_P D classes (mW a k (nI 0) n fr tt cc on rs row rl lst bl bs) H := hP
  have hD : va_D A (mW a k (nI 0) n fr tt cc on rs row rl lst bl bs) := hD
  refine lv_aload_n hx hb d_M_on_5 rfl (lv_at hl 0 rfl) ?_
  refine lv_iload_n hx hb d_M_on_6 rfl (lv_at hl 1 rfl) ?_
  refine w_callV (As := [.int (nI j)]) (rest := []) ⟨hx, hb, hml, hown, hT⟩ (c_M_isThere l D a k (nI 0) n fr tt cc on rs row rl lst bl bs (nI j)) (w_cwV hT ms_M_isThere tb_339 ⟨by decide, by decide⟩) hK hP hD hS hA 0 3 rfl rfl rfl rfl rfl hl.1 (Nat.le_of_ble_eq_true rfl) d_M_on_7 ⟨Nat.zero_le _, Nat.zero_le _⟩ (fun H locs hP hD hS => ?_)
  refine w_ifeqB (tgt := 22) hx hb d_M_on_10 (by decide) (fun h1 => ?_) (fun h1 => ?_)
  · exact absurd h1 (by rw [q_th_nI hjn (by omega)]; decide)
  · refine lv_aload_n hx hb d_M_on_13 rfl (lv_at hl 0 rfl) ?_
    refine w_get i_M hx hb hT hown hK hP 0 rfl rfl 5 (by decide) tb_272 rfl d_M_on_14 ?_
    refine lv_iload_n hx hb d_M_on_17 rfl (lv_at hl 1 rfl) ?_
    refine w_zald hx hb hK hP 4 3 rfl rfl (by omega) (by decide) d_M_on_18 ?_
    refine w_ifeqB (tgt := 24) hx hb d_M_on_19 (by decide) (fun h2 => ?_) (fun h2 => ?_)
    · refine lv_aload_n hx hb d_M_on_24 rfl (lv_at hl 0 rfl) ?_
      refine lv_aload_n hx hb d_M_on_25 rfl (lv_at hl 0 rfl) ?_
      refine w_get i_M hx hb hT hown hK hP 0 rfl rfl 2 (by decide) tb_269 rfl d_M_on_26 ?_
      refine lv_iload_n hx hb d_M_on_29 rfl (lv_at hl 1 rfl) ?_
      refine w_iald hx hb hK hP 1 0 rfl rfl (by omega) (by decide) d_M_on_30 ?_
      refine lv_aload_n hx hb d_M_on_31 rfl (lv_at hl 0 rfl) ?_
      refine w_get i_M hx hb hT hown hK hP 0 rfl rfl 3 (by decide) tb_270 rfl d_M_on_32 ?_
      refine lv_iload_n hx hb d_M_on_35 rfl (lv_at hl 1 rfl) ?_
      refine w_iald hx hb hK hP 2 1 rfl rfl (by omega) (by decide) d_M_on_36 ?_
      refine lv_aload_n hx hb d_M_on_37 rfl (lv_at hl 0 rfl) ?_
      refine w_get i_M hx hb hT hown hK hP 0 rfl rfl 4 (by decide) tb_271 rfl d_M_on_38 ?_
      refine lv_iload_n hx hb d_M_on_41 rfl (lv_at hl 1 rfl) ?_
      refine w_lald hx hb hK hP 3 2 rfl rfl (by omega) (by decide) d_M_on_42 ?_
      refine w_callV (As := [.int (nI (fr j)), .int (nI (tt j)), .long (cc j)]) (rest := []) ⟨hx, hb, hml, hown, hT⟩ (c_M_isBad_n l D a k (nI 0) n fr tt cc on rs row rl lst bl bs (fr j) (tt j) (cc j) (hft j hjn).1 (hft j hjn).2 hft hn hrf) (w_cwV hT ms_M_isBad tb_318 ⟨by decide, by decide⟩) hK hP hD hS hA 0 3 rfl rfl rfl rfl rfl hl.1 (Nat.le_of_ble_eq_true rfl) d_M_on_43 ⟨Nat.zero_le _, Nat.zero_le _⟩ (fun H locs hP hD hS => ?_)
      have hP : va_P D classes (mW a k (nI 0) n fr tt cc on rs row rl (q_lst n fr tt cc on (fr j) lst) ((q_bst (q_lst n fr tt cc on (fr j) lst) (tt j)).1) ((q_bst (q_lst n fr tt cc on (fr j) lst) (tt j)).2)) H := hP
      have hD : va_D A (mW a k (nI 0) n fr tt cc on rs row rl (q_lst n fr tt cc on (fr j) lst) ((q_bst (q_lst n fr tt cc on (fr j) lst) (tt j)).1) ((q_bst (q_lst n fr tt cc on (fr j) lst) (tt j)).2)) := hD
      refine w_ifeqB (tgt := 52) hx hb d_M_on_46 (by decide) (fun h7 => ?_) (fun h7 => ?_)
      · refine lv_aload_n hx hb d_M_on_52 rfl (lv_at hl 0 rfl) ?_
        refine w_get i_M hx hb hT hown hK hP 0 rfl rfl 5 (by decide) tb_272 rfl d_M_on_53 ?_
        refine lv_iload_n hx hb d_M_on_56 rfl (lv_at hl 1 rfl) ?_
        refine lv_iconst (v := nI 1) hx hb d_M_on_57 (by decide) ?_
        refine w_top (y := .int (q_b true)) rfl ?_
        refine w_zast hx hb hK hP hD hS 4 3 rfl rfl (by omega) (by decide) d_M_on_58 (fun H locs hP hD hS => ?_)
        rw [q_upd_b] at hP hD
        have hP : va_P D classes (mW a k (nI 0) n fr tt cc (va_up on j true) rs row rl (q_lst n fr tt cc on (fr j) lst) ((q_bst (q_lst n fr tt cc on (fr j) lst) (tt j)).1) ((q_bst (q_lst n fr tt cc on (fr j) lst) (tt j)).2)) H := hP
        have hD : va_D A (mW a k (nI 0) n fr tt cc (va_up on j true) rs row rl (q_lst n fr tt cc on (fr j) lst) ((q_bst (q_lst n fr tt cc on (fr j) lst) (tt j)).1) ((q_bst (q_lst n fr tt cc on (fr j) lst) (tt j)).2)) := hD
        refine lv_iload_n hx hb d_M_on_59 rfl (lv_at hl 1 rfl) ?_
        exact hE _ _ _ _ d_M_on_60 hP hD hS
      · exact absurd h7 (by decide)
    · exact absurd h2 (by rw [h]; decide)

set_option maxHeartbeats 4000000 in
set_option maxRecDepth 100000 in
/-- slack: yes -/
theorem c_M_slack_y (l : Launch) (D : va_G) (a : Nat → Nat) (k : Nat → ClassId) (th : Int32) (n : Nat) (fr tt : Nat → Nat) (cc : Nat → Int64) (on : Nat → Bool) (rs : Nat) (row : Nat → Int32) (rl : Int64) (lst : Nat → Int64) (bl : Int64) (bs : Int32) (j : Nat) (hft : ∀ j, j < n → fr j < 20 ∧ tt j < 20) (hn : n ≤ 120) (hjn : j < n) (h : on j = true) (hb0 : ¬ (q_bst (q_lst n fr tt cc on (tt j) lst) (fr j)).2 < 0) : Ct l y_M_slack b_M_slack 2 (some .long) 1 26 D (mT k) [.ref (a 0), .int (nI j)] (mW a k th n fr tt cc on rs row rl lst bl bs) (mW a k (nI 0) n fr tt cc on rs row rl (q_lst n fr tt cc on (tt j) lst) ((q_bst (q_lst n fr tt cc on (tt j) lst) (fr j)).1) ((q_bst (q_lst n fr tt cc on (tt j) lst) (fr j)).2)) (some (.long (cc j - (q_bst (q_lst n fr tt cc on (tt j) lst) (fr j)).1))) := by
  refine q_enter [(0, .ref (a 0)), (1, .int (nI j))] "TimeNetModel" .lreturn [.long (cc j - (q_bst (q_lst n fr tt cc on (tt j) lst) (fr j)).1)] (by decide) rfl (Nat.le_of_ble_eq_true rfl) rfl (Or.inr (Or.inr (Or.inl ⟨rfl, rfl, _, rfl, rfl⟩))) ?_
  intro p e s m args below meth c A ls Q E hK hP hD hS hA hl hE
  obtain ⟨hx, hb, hml, hr, hlk, hown, hT⟩ := E
  refine lv_aload_n hx hb d_M_slack_0 rfl (lv_at hl 0 rfl) ?_
  refine lv_iconst (v := nI 0) hx hb d_M_slack_1 (by decide) ?_
  refine w_put i_M t_M t_M_ok n_M hx hb hT hown hK hP hD hS 0 rfl rfl 0 (by decide) tb_267 rfl rfl rfl (Nat.le_of_ble_eq_true rfl) d_M_slack_2 (fun H locs hP hD hS => ?_)
  have hP : va_P D classes (mW a k (nI 0) n fr tt cc on rs row rl lst bl bs) H := hP
  have hD : va_D A (mW a k (nI 0) n fr tt cc on rs row rl lst bl bs) := hD
  refine lv_aload_n hx hb d_M_slack_5 rfl (lv_at hl 0 rfl) ?_
  refine lv_iload_n hx hb d_M_slack_6 rfl (lv_at hl 1 rfl) ?_
  refine w_callV (As := [.int (nI j)]) (rest := []) ⟨hx, hb, hml, hown, hT⟩ (c_M_isThere l D a k (nI 0) n fr tt cc on rs row rl lst bl bs (nI j)) (w_cwV hT ms_M_isThere tb_339 ⟨by decide, by decide⟩) hK hP hD hS hA 0 3 rfl rfl rfl rfl rfl hl.1 (Nat.le_of_ble_eq_true rfl) d_M_slack_7 ⟨Nat.zero_le _, Nat.zero_le _⟩ (fun H locs hP hD hS => ?_)
  refine w_ifeqB (tgt := 41) hx hb d_M_slack_10 (by decide) (fun h1 => ?_) (fun h1 => ?_)
  · exact absurd h1 (by rw [q_th_nI hjn (by omega)]; decide)
  · refine lv_aload_n hx hb d_M_slack_13 rfl (lv_at hl 0 rfl) ?_
    refine w_get i_M hx hb hT hown hK hP 0 rfl rfl 5 (by decide) tb_272 rfl d_M_slack_14 ?_
    refine lv_iload_n hx hb d_M_slack_17 rfl (lv_at hl 1 rfl) ?_
    refine w_zald hx hb hK hP 4 3 rfl rfl (by omega) (by decide) d_M_slack_18 ?_
    refine w_ifeqB (tgt := 41) hx hb d_M_slack_19 (by decide) (fun h2 => ?_) (fun h2 => ?_)
    · exact absurd h2 (by rw [h]; decide)
    · refine lv_aload_n hx hb d_M_slack_22 rfl (lv_at hl 0 rfl) ?_
      refine lv_aload_n hx hb d_M_slack_23 rfl (lv_at hl 0 rfl) ?_
      refine w_get i_M hx hb hT hown hK hP 0 rfl rfl 2 (by decide) tb_269 rfl d_M_slack_24 ?_
      refine lv_iload_n hx hb d_M_slack_27 rfl (lv_at hl 1 rfl) ?_
      refine w_iald hx hb hK hP 1 0 rfl rfl (by omega) (by decide) d_M_slack_28 ?_
      refine lv_aload_n hx hb d_M_slack_29 rfl (lv_at hl 0 rfl) ?_
      refine w_get i_M hx hb hT hown hK hP 0 rfl rfl 3 (by decide) tb_270 rfl d_M_slack_30 ?_
      refine lv_iload_n hx hb d_M_slack_33 rfl (lv_at hl 1 rfl) ?_
      refine w_iald hx hb hK hP 2 1 rfl rfl (by omega) (by decide) d_M_slack_34 ?_
      refine w_callV (As := [.int (nI (fr j)), .int (nI (tt j))]) (rest := []) ⟨hx, hb, hml, hown, hT⟩ (c_M_best l D a k (nI 0) n fr tt cc on rs row rl lst bl bs (fr j) (tt j) (hft j hjn).1 (hft j hjn).2 hft hn) (w_cwV hT ms_M_best tb_322 ⟨by decide, by decide⟩) hK hP hD hS hA 0 3 rfl rfl rfl rfl rfl hl.1 (Nat.le_of_ble_eq_true rfl) d_M_slack_35 ⟨Nat.zero_le _, Nat.zero_le _⟩ (fun H locs hP hD hS => ?_)
      have hP : va_P D classes (mW a k (nI 0) n fr tt cc on rs row rl (q_lst n fr tt cc on (tt j) lst) ((q_bst (q_lst n fr tt cc on (tt j) lst) (fr j)).1) ((q_bst (q_lst n fr tt cc on (tt j) lst) (fr j)).2)) H := hP
      have hD : va_D A (mW a k (nI 0) n fr tt cc on rs row rl (q_lst n fr tt cc on (tt j) lst) ((q_bst (q_lst n fr tt cc on (tt j) lst) (fr j)).1) ((q_bst (q_lst n fr tt cc on (tt j) lst) (fr j)).2)) := hD
      refine w_ifneB (tgt := 45) hx hb d_M_slack_38 (by decide) (fun h7 => ?_) (fun h7 => ?_)
      · refine lv_aload_n hx hb d_M_slack_45 rfl (lv_at hl 0 rfl) ?_
        refine w_get i_M hx hb hT hown hK hP 0 rfl rfl 4 (by decide) tb_271 rfl d_M_slack_46 ?_
        refine lv_iload_n hx hb d_M_slack_49 rfl (lv_at hl 1 rfl) ?_
        refine w_lald hx hb hK hP 3 2 rfl rfl (by omega) (by decide) d_M_slack_50 ?_
        refine lv_aload_n hx hb d_M_slack_51 rfl (lv_at hl 0 rfl) ?_
        refine w_get i_M hx hb hT hown hK hP 0 rfl rfl 10 (by decide) tb_277 rfl d_M_slack_52 ?_
        refine lv_lsub hx hb d_M_slack_55 ?_
        exact hE _ _ _ _ d_M_slack_56 hP hD hS
      · exact absurd h7 (by simp [hb0])
end
section
set_option maxHeartbeats 4000000 in
set_option maxRecDepth 100000 in
/-- row -/
theorem c_M_row (l : Launch) (D : va_G) (a : Nat → Nat) (k : Nat → ClassId) (th : Int32) (n : Nat) (fr tt : Nat → Nat) (cc : Nat → Int64) (on : Nat → Bool) (rs : Nat) (row : Nat → Int32) (rl : Int64) (lst : Nat → Int64) (bl : Int64) (bs : Int32)  : Ct l y_M_row b_M_row 1 (some .int) 0 0 D (mT k) [.ref (a 0)] (mW a k th n fr tt cc on rs row rl lst bl bs) (mW a k (nI 0) n fr tt cc on rs row rl lst bl bs) (some (.int (nI rs))) := by
  refine q_enter [(0, .ref (a 0))] "TimeNetModel" .ireturn [.int (nI rs)] (by decide) rfl (Nat.le_of_ble_eq_true rfl) rfl (Or.inl ⟨rfl, rfl, _, rfl, rfl⟩) ?_
  intro p e s m args below meth c A ls Q E hK hP hD hS hA hl hE
  obtain ⟨hx, hb, hml, hr, hlk, hown, hT⟩ := E
  refine lv_aload_n hx hb d_M_row_0 rfl (lv_at hl 0 rfl) ?_
  refine lv_iconst (v := nI 0) hx hb d_M_row_1 (by decide) ?_
  refine w_put i_M t_M t_M_ok n_M hx hb hT hown hK hP hD hS 0 rfl rfl 0 (by decide) tb_267 rfl rfl rfl (Nat.le_of_ble_eq_true rfl) d_M_row_2 (fun H locs hP hD hS => ?_)
  have hP : va_P D classes (mW a k (nI 0) n fr tt cc on rs row rl lst bl bs) H := hP
  have hD : va_D A (mW a k (nI 0) n fr tt cc on rs row rl lst bl bs) := hD
  refine lv_aload_n hx hb d_M_row_5 rfl (lv_at hl 0 rfl) ?_
  refine w_get i_M hx hb hT hown hK hP 0 rfl rfl 6 (by decide) tb_273 rfl d_M_row_6 ?_
  exact hE _ _ _ _ d_M_row_9 hP hD hS

set_option maxHeartbeats 4000000 in
set_option maxRecDepth 100000 in
/-- length -/
theorem c_M_length (l : Launch) (D : va_G) (a : Nat → Nat) (k : Nat → ClassId) (th : Int32) (n : Nat) (fr tt : Nat → Nat) (cc : Nat → Int64) (on : Nat → Bool) (rs : Nat) (row : Nat → Int32) (rl : Int64) (lst : Nat → Int64) (bl : Int64) (bs : Int32) (hrs : rs ≤ 24) : Ct l y_M_length b_M_length 1 (some .long) 0 0 D (mT k) [.ref (a 0)] (mW a k th n fr tt cc on rs row rl lst bl bs) (mW a k (nI 0) n fr tt cc on rs row rl lst bl bs) (some (.long (if rs = 0 then 0 else rl))) := by
  refine q_enter [(0, .ref (a 0))] "TimeNetModel" .lreturn [.long (if rs = 0 then 0 else rl)] (by decide) rfl (Nat.le_of_ble_eq_true rfl) rfl (Or.inr (Or.inr (Or.inl ⟨rfl, rfl, _, rfl, rfl⟩))) ?_
  intro p e s m args below meth c A ls Q E hK hP hD hS hA hl hE
  obtain ⟨hx, hb, hml, hr, hlk, hown, hT⟩ := E
  refine lv_aload_n hx hb d_M_length_0 rfl (lv_at hl 0 rfl) ?_
  refine lv_iconst (v := nI 0) hx hb d_M_length_1 (by decide) ?_
  refine w_put i_M t_M t_M_ok n_M hx hb hT hown hK hP hD hS 0 rfl rfl 0 (by decide) tb_267 rfl rfl rfl (Nat.le_of_ble_eq_true rfl) d_M_length_2 (fun H locs hP hD hS => ?_)
  have hP : va_P D classes (mW a k (nI 0) n fr tt cc on rs row rl lst bl bs) H := hP
  have hD : va_D A (mW a k (nI 0) n fr tt cc on rs row rl lst bl bs) := hD
  refine lv_aload_n hx hb d_M_length_5 rfl (lv_at hl 0 rfl) ?_
  refine w_get i_M hx hb hT hown hK hP 0 rfl rfl 6 (by decide) tb_273 rfl d_M_length_6 ?_
  refine w_ifne0 (tgt := 16) hx hb (by omega) d_M_length_9 (by decide) (fun h1 => ?_) (fun h1 => ?_)
  · refine lv_aload_n hx hb d_M_length_16 rfl (lv_at hl 0 rfl) ?_
    refine w_get i_M hx hb hT hown hK hP 0 rfl rfl 8 (by decide) tb_275 rfl d_M_length_17 ?_
    refine w_top (y := .long (if rs = 0 then 0 else rl)) (by rw [if_neg h1]) ?_
    exact hE _ _ _ _ d_M_length_20 hP hD hS
  · refine lv_lconst (v := 0) hx hb d_M_length_12 (by decide) ?_
    refine lv_goto (tgt := 20) hx hb d_M_length_13 (by decide) ?_
    refine w_top (y := .long (if rs = 0 then 0 else rl)) (by rw [if_pos h1]) ?_
    exact hE _ _ _ _ d_M_length_20 hP hD hS

set_option maxHeartbeats 4000000 in
set_option maxRecDepth 100000 in
/-- rowAt: no -/
theorem c_M_rowAt_n (l : Launch) (D : va_G) (a : Nat → Nat) (k : Nat → ClassId) (th : Int32) (n : Nat) (fr tt : Nat → Nat) (cc : Nat → Int64) (on : Nat → Bool) (rs : Nat) (row : Nat → Int32) (rl : Int64) (lst : Nat → Int64) (bl : Int64) (bs : Int32) (x : Int32) (hrs : rs ≤ 24) (h : ∀ j, j < rs → x ≠ nI j) : Ct l y_M_rowAt b_M_rowAt 2 (some .int) 0 0 D (mT k) [.ref (a 0), .int x] (mW a k th n fr tt cc on rs row rl lst bl bs) (mW a k (nI 0) n fr tt cc on rs row rl lst bl bs) (some (.int (-1))) := by
  refine q_enter [(0, .ref (a 0)), (1, .int x)] "TimeNetModel" .ireturn [.int (-1)] (by decide) rfl (Nat.le_of_ble_eq_true rfl) rfl (Or.inl ⟨rfl, rfl, _, rfl, rfl⟩) ?_
  intro p e s m args below meth c A ls Q E hK hP hD hS hA hl hE
  obtain ⟨hx, hb, hml, hr, hlk, hown, hT⟩ := E
  refine lv_aload_n hx hb d_M_rowAt_0 rfl (lv_at hl 0 rfl) ?_
  refine lv_iconst (v := nI 0) hx hb d_M_rowAt_1 (by decide) ?_
  refine w_put i_M t_M t_M_ok n_M hx hb hT hown hK hP hD hS 0 rfl rfl 0 (by decide) tb_267 rfl rfl rfl (Nat.le_of_ble_eq_true rfl) d_M_rowAt_2 (fun H locs hP hD hS => ?_)
  have hP : va_P D classes (mW a k (nI 0) n fr tt cc on rs row rl lst bl bs) H := hP
  have hD : va_D A (mW a k (nI 0) n fr tt cc on rs row rl lst bl bs) := hD
  refine lv_iload_n hx hb d_M_rowAt_5 rfl (lv_at hl 1 rfl) ?_
  refine lv_if_lt (tgt := 26) hx hb d_M_rowAt_6 (by decide) (fun h1 => ?_) (fun h1 => ?_)
  · refine lv_iconst (v := (-1)) hx hb d_M_rowAt_26 (by decide) ?_
    exact hE _ _ _ _ d_M_rowAt_27 hP hD hS
  · refine lv_iload_n hx hb d_M_rowAt_9 rfl (lv_at hl 1 rfl) ?_
    refine lv_aload_n hx hb d_M_rowAt_10 rfl (lv_at hl 0 rfl) ?_
    refine w_get i_M hx hb hT hown hK hP 0 rfl rfl 6 (by decide) tb_273 rfl d_M_rowAt_11 ?_
    refine lv_icmp_ge (tgt := 26) hx hb d_M_rowAt_14 (by decide) (fun h2 => ?_) (fun h2 => ?_)
    · refine lv_iconst (v := (-1)) hx hb d_M_rowAt_26 (by decide) ?_
      exact hE _ _ _ _ d_M_rowAt_27 hP hD hS
    · exfalso
      rcases pk_ix x (n := rs) (by omega) with h9 | h9 | ⟨j, h8, h9⟩
      · exact h1 h9
      · exact h2 h9
      · exact h j h8 h9

set_option maxHeartbeats 4000000 in
set_option maxRecDepth 100000 in
/-- rowAt: yes -/
theorem c_M_rowAt_y (l : Launch) (D : va_G) (a : Nat → Nat) (k : Nat → ClassId) (th : Int32) (n : Nat) (fr tt : Nat → Nat) (cc : Nat → Int64) (on : Nat → Bool) (rs : Nat) (row : Nat → Int32) (rl : Int64) (lst : Nat → Int64) (bl : Int64) (bs : Int32) (j : Nat) (hrs : rs ≤ 24) (hj : j < rs) : Ct l y_M_rowAt b_M_rowAt 2 (some .int) 0 0 D (mT k) [.ref (a 0), .int (nI j)] (mW a k th n fr tt cc on rs row rl lst bl bs) (mW a k (nI 0) n fr tt cc on rs row rl lst bl bs) (some (.int (row j))) := by
  refine q_enter [(0, .ref (a 0)), (1, .int (nI j))] "TimeNetModel" .ireturn [.int (row j)] (by decide) rfl (Nat.le_of_ble_eq_true rfl) rfl (Or.inl ⟨rfl, rfl, _, rfl, rfl⟩) ?_
  intro p e s m args below meth c A ls Q E hK hP hD hS hA hl hE
  obtain ⟨hx, hb, hml, hr, hlk, hown, hT⟩ := E
  refine lv_aload_n hx hb d_M_rowAt_0 rfl (lv_at hl 0 rfl) ?_
  refine lv_iconst (v := nI 0) hx hb d_M_rowAt_1 (by decide) ?_
  refine w_put i_M t_M t_M_ok n_M hx hb hT hown hK hP hD hS 0 rfl rfl 0 (by decide) tb_267 rfl rfl rfl (Nat.le_of_ble_eq_true rfl) d_M_rowAt_2 (fun H locs hP hD hS => ?_)
  have hP : va_P D classes (mW a k (nI 0) n fr tt cc on rs row rl lst bl bs) H := hP
  have hD : va_D A (mW a k (nI 0) n fr tt cc on rs row rl lst bl bs) := hD
  refine lv_iload_n hx hb d_M_rowAt_5 rfl (lv_at hl 1 rfl) ?_
  refine lv_if_lt (tgt := 26) hx hb d_M_rowAt_6 (by decide) (fun h1 => ?_) (fun h1 => ?_)
  · exact absurd h1 (nI_pos (by omega))
  · refine lv_iload_n hx hb d_M_rowAt_9 rfl (lv_at hl 1 rfl) ?_
    refine lv_aload_n hx hb d_M_rowAt_10 rfl (lv_at hl 0 rfl) ?_
    refine w_get i_M hx hb hT hown hK hP 0 rfl rfl 6 (by decide) tb_273 rfl d_M_rowAt_11 ?_
    refine w_icge (tgt := 26) hx hb (by omega) (by omega) d_M_rowAt_14 (by decide) (fun h2 => ?_) (fun h2 => ?_)
    · exact absurd h2 (by omega)
    · refine lv_aload_n hx hb d_M_rowAt_17 rfl (lv_at hl 0 rfl) ?_
      refine w_get i_M hx hb hT hown hK hP 0 rfl rfl 7 (by decide) tb_274 rfl d_M_rowAt_18 ?_
      refine lv_iload_n hx hb d_M_rowAt_21 rfl (lv_at hl 1 rfl) ?_
      refine w_iald hx hb hK hP 5 4 rfl rfl (by omega) (by decide) d_M_rowAt_22 ?_
      refine lv_goto (tgt := 27) hx hb d_M_rowAt_23 (by decide) ?_
      exact hE _ _ _ _ d_M_rowAt_27 hP hD hS

set_option maxHeartbeats 4000000 in
set_option maxRecDepth 100000 in
/-- alive -/
theorem c_M_alive (l : Launch) (D : va_G) (a : Nat → Nat) (k : Nat → ClassId) (th : Int32) (n : Nat) (fr tt : Nat → Nat) (cc : Nat → Int64) (on : Nat → Bool) (rs : Nat) (row : Nat → Int32) (rl : Int64) (lst : Nat → Int64) (bl : Int64) (bs : Int32) (hn : n ≤ 120) : Ct l y_M_alive b_M_alive 3 (some .int) 0 0 D (mT k) [.ref (a 0)] (mW a k th n fr tt cc on rs row rl lst bl bs) (mW a k (nI 0) n fr tt cc on rs row rl lst bl bs) (some (.int (nI (q_cnt on n)))) := by
  refine q_enter [(0, .ref (a 0))] "TimeNetModel" .ireturn [.int (nI (q_cnt on n))] (by decide) rfl (Nat.le_of_ble_eq_true rfl) rfl (Or.inl ⟨rfl, rfl, _, rfl, rfl⟩) ?_
  intro p e s m args below meth c A ls Q E hK hP hD hS hA hl hE
  obtain ⟨hx, hb, hml, hr, hlk, hown, hT⟩ := E
  refine lv_aload_n hx hb d_M_alive_0 rfl (lv_at hl 0 rfl) ?_
  refine lv_iconst (v := nI 0) hx hb d_M_alive_1 (by decide) ?_
  refine w_put i_M t_M t_M_ok n_M hx hb hT hown hK hP hD hS 0 rfl rfl 0 (by decide) tb_267 rfl rfl rfl (Nat.le_of_ble_eq_true rfl) d_M_alive_2 (fun H locs hP hD hS => ?_)
  have hP : va_P D classes (mW a k (nI 0) n fr tt cc on rs row rl lst bl bs) H := hP
  have hD : va_D A (mW a k (nI 0) n fr tt cc on rs row rl lst bl bs) := hD
  refine lv_iconst (v := nI 0) hx hb d_M_alive_5 (by decide) ?_
  refine lv_istore_n (lv' := [(1, .int (nI 0)), (0, .ref (a 0))]) hx hb d_M_alive_6 rfl hl (by decide) rfl (fun ls hl => ?_)
  refine lv_iconst (v := nI 0) hx hb d_M_alive_7 (by decide) ?_
  refine lv_istore_n (lv' := [(2, .int (nI 0)), (1, .int (nI 0)), (0, .ref (a 0))]) hx hb d_M_alive_8 rfl hl (by decide) rfl (fun ls hl => ?_)
  have loop : ∀ (d z : Nat), z ≤ n → n + 1 ≤ z + d → ∀ (H : Heap) (locs : List Loc) (ls : Array Slot), va_P D classes (mW a k (nI 0) n fr tt cc on rs row rl lst bl bs) H → va_D A (mW a k (nI 0) n fr tt cc on rs row rl lst bl bs) → va_S A s.heap H locs → lv_has ls 3 [(2, .int (nI z)), (1, .int (nI (q_cnt on z))), (0, .ref (a 0))] → W p l e (q_rm 0 0) s m args below meth c H locs 0 0 Q (F0 m 9 ls []) := by
    intro d
    induction d with
    | zero => intro z h1 h2; exact absurd h2 (by omega)
    | succ d ih =>
      intro z hi_z hd_z H locs ls hP hD hS hl
      refine lv_iload_n hx hb d_M_alive_9 rfl (lv_at hl 0 rfl) ?_
      refine lv_aload_n hx hb d_M_alive_10 rfl (lv_at hl 2 rfl) ?_
      refine w_get i_M hx hb hT hown hK hP 0 rfl rfl 1 (by decide) tb_268 rfl d_M_alive_11 ?_
      refine w_icge (tgt := 40) hx hb (by omega) (by omega) d_M_alive_14 (by decide) (fun h3 => ?_) (fun h3 => ?_)
      · have h4 : z = n := by omega
        refine lv_iload_n hx hb d_M_alive_40 rfl (lv_at hl 1 rfl) ?_
        refine w_top (y := .int (nI (q_cnt on n))) (by rw [h4]) ?_
        exact hE _ _ _ _ d_M_alive_41 hP hD hS
      · refine lv_iload_n hx hb d_M_alive_17 rfl (lv_at hl 1 rfl) ?_
        refine lv_aload_n hx hb d_M_alive_18 rfl (lv_at hl 2 rfl) ?_
        refine w_get i_M hx hb hT hown hK hP 0 rfl rfl 5 (by decide) tb_272 rfl d_M_alive_19 ?_
        refine lv_iload_n hx hb d_M_alive_22 rfl (lv_at hl 0 rfl) ?_
        refine w_zald hx hb hK hP 4 3 rfl rfl (by omega) (by decide) d_M_alive_23 ?_
        refine w_ifeqB (tgt := 31) hx hb d_M_alive_24 (by decide) (fun h5 => ?_) (fun h5 => ?_)
        · refine lv_iconst (v := nI 0) hx hb d_M_alive_31 (by decide) ?_
          refine w_iadd hx hb d_M_alive_32 ?_
          refine w_top (y := .int (nI (q_cnt on (z + 1)))) (by rw [show q_cnt on (z + 1) = q_cnt on z + 0 by simp [q_cnt, h5]]) ?_
          refine lv_istore_n (lv' := [(1, .int (nI (q_cnt on (z + 1)))), (2, .int (nI z)), (0, .ref (a 0))]) hx hb d_M_alive_33 rfl hl (by decide) rfl (fun ls hl => ?_)
          refine lv_iinc (v := nI (z + 1)) (lv' := [(2, .int (nI (z + 1))), (1, .int (nI (q_cnt on (z + 1)))), (0, .ref (a 0))]) hx hb d_M_alive_34 hl (k := 1) rfl (q_ii _) (by decide) rfl (fun ls hl => ?_)
          refine lv_goto (tgt := 9) hx hb d_M_alive_37 (by decide) ?_
          exact ih (z + 1) (by omega) (by omega) H locs ls hP hD hS (lv_sub hl [0, 1, 2] rfl)
        · refine lv_iconst (v := nI 1) hx hb d_M_alive_27 (by decide) ?_
          refine lv_goto (tgt := 32) hx hb d_M_alive_28 (by decide) ?_
          refine w_iadd hx hb d_M_alive_32 ?_
          refine w_top (y := .int (nI (q_cnt on (z + 1)))) (by rw [show q_cnt on (z + 1) = q_cnt on z + 1 by simp [q_cnt, h5]]) ?_
          refine lv_istore_n (lv' := [(1, .int (nI (q_cnt on (z + 1)))), (2, .int (nI z)), (0, .ref (a 0))]) hx hb d_M_alive_33 rfl hl (by decide) rfl (fun ls hl => ?_)
          refine lv_iinc (v := nI (z + 1)) (lv' := [(2, .int (nI (z + 1))), (1, .int (nI (q_cnt on (z + 1)))), (0, .ref (a 0))]) hx hb d_M_alive_34 hl (k := 1) rfl (q_ii _) (by decide) rfl (fun ls hl => ?_)
          refine lv_goto (tgt := 9) hx hb d_M_alive_37 (by decide) ?_
          exact ih (z + 1) (by omega) (by omega) H locs ls hP hD hS (lv_sub hl [0, 1, 2] rfl)
  exact loop (n + 1) 0 (by omega) (by omega) H locs ls hP hD hS (lv_sub hl [0, 1, 2] rfl)

set_option maxHeartbeats 4000000 in
set_option maxRecDepth 100000 in
/-- bound: thrown -/
theorem c_M_bound_n (l : Launch) (D : va_G) (a : Nat → Nat) (k : Nat → ClassId) (th : Int32) (n : Nat) (fr tt : Nat → Nat) (cc : Nat → Int64) (on : Nat → Bool) (rs : Nat) (row : Nat → Int32) (rl : Int64) (lst : Nat → Int64) (bl : Int64) (bs : Int32) (i j : Int32) (h : (q_pt i && q_pt j) = false) : Ct l y_M_bound b_M_bound 3 (some .long) 1 26 D (mT k) [.ref (a 0), .int i, .int j] (mW a k th n fr tt cc on rs row rl lst bl bs) (mW a k (nI 1) n fr tt cc on rs row rl lst bl bs) (some (.long 0)) := by
  refine q_enter [(0, .ref (a 0)), (1, .int i), (2, .int j)] "TimeNetModel" .lreturn [.long 0] (by decide) rfl (Nat.le_of_ble_eq_true rfl) rfl (Or.inr (Or.inr (Or.inl ⟨rfl, rfl, _, rfl, rfl⟩))) ?_
  intro p e s m args below meth c A ls Q E hK hP hD hS hA hl hE
  obtain ⟨hx, hb, hml, hr, hlk, hown, hT⟩ := E
  refine lv_aload_n hx hb d_M_bound_0 rfl (lv_at hl 0 rfl) ?_
  refine lv_iload_n hx hb d_M_bound_1 rfl (lv_at hl 1 rfl) ?_
  refine w_callS (v := .int (q_b (q_pt i))) (As := [.int i]) (rest := [.ref (a 0)]) ⟨hx, hb, hml, hown, hT⟩ (c_M_isPoint l i) (w_cwS hT ms_M_isPoint tb_313 ⟨by decide, by decide⟩) rfl rfl hl.1 (Nat.le_of_ble_eq_true rfl) d_M_bound_2 ⟨Nat.zero_le _, Nat.zero_le _⟩ ?_
  refine w_ifeqB (tgt := 19) hx hb d_M_bound_5 (by decide) (fun h1 => ?_) (fun h1 => ?_)
  · refine lv_iconst (v := nI 1) hx hb d_M_bound_19 (by decide) ?_
    refine w_put i_M t_M t_M_ok n_M hx hb hT hown hK hP hD hS 0 rfl rfl 0 (by decide) tb_267 rfl rfl rfl (Nat.le_of_ble_eq_true rfl) d_M_bound_20 (fun H locs hP hD hS => ?_)
    have hP : va_P D classes (mW a k (nI 1) n fr tt cc on rs row rl lst bl bs) H := hP
    have hD : va_D A (mW a k (nI 1) n fr tt cc on rs row rl lst bl bs) := hD
    refine lv_aload_n hx hb d_M_bound_23 rfl (lv_at hl 0 rfl) ?_
    refine w_get i_M hx hb hT hown hK hP 0 rfl rfl 0 (by decide) tb_267 rfl d_M_bound_24 ?_
    refine w_ifle (tgt := 32) hx hb (by decide) d_M_bound_27 (by decide) (fun h8 => ?_) (fun h8 => ?_)
    · exact absurd h8 (by decide)
    · refine lv_lconst (v := 0) hx hb d_M_bound_30 (by decide) ?_
      exact hE _ _ _ _ d_M_bound_31 hP hD hS
  · refine lv_iload_n hx hb d_M_bound_8 rfl (lv_at hl 2 rfl) ?_
    refine w_callS (v := .int (q_b (q_pt j))) (As := [.int j]) (rest := [.ref (a 0)]) ⟨hx, hb, hml, hown, hT⟩ (c_M_isPoint l j) (w_cwS hT ms_M_isPoint tb_313 ⟨by decide, by decide⟩) rfl rfl hl.1 (Nat.le_of_ble_eq_true rfl) d_M_bound_9 ⟨Nat.zero_le _, Nat.zero_le _⟩ ?_
    refine w_ifeqB (tgt := 19) hx hb d_M_bound_12 (by decide) (fun h2 => ?_) (fun h2 => ?_)
    · refine lv_iconst (v := nI 1) hx hb d_M_bound_19 (by decide) ?_
      refine w_put i_M t_M t_M_ok n_M hx hb hT hown hK hP hD hS 0 rfl rfl 0 (by decide) tb_267 rfl rfl rfl (Nat.le_of_ble_eq_true rfl) d_M_bound_20 (fun H locs hP hD hS => ?_)
      have hP : va_P D classes (mW a k (nI 1) n fr tt cc on rs row rl lst bl bs) H := hP
      have hD : va_D A (mW a k (nI 1) n fr tt cc on rs row rl lst bl bs) := hD
      refine lv_aload_n hx hb d_M_bound_23 rfl (lv_at hl 0 rfl) ?_
      refine w_get i_M hx hb hT hown hK hP 0 rfl rfl 0 (by decide) tb_267 rfl d_M_bound_24 ?_
      refine w_ifle (tgt := 32) hx hb (by decide) d_M_bound_27 (by decide) (fun h8 => ?_) (fun h8 => ?_)
      · exact absurd h8 (by decide)
      · refine lv_lconst (v := 0) hx hb d_M_bound_30 (by decide) ?_
        exact hE _ _ _ _ d_M_bound_31 hP hD hS
    · exact absurd h (by simp [h1, h2])

set_option maxHeartbeats 4000000 in
set_option maxRecDepth 100000 in
/-- bound -/
theorem c_M_bound_y (l : Launch) (D : va_G) (a : Nat → Nat) (k : Nat → ClassId) (th : Int32) (n : Nat) (fr tt : Nat → Nat) (cc : Nat → Int64) (on : Nat → Bool) (rs : Nat) (row : Nat → Int32) (rl : Int64) (lst : Nat → Int64) (bl : Int64) (bs : Int32) (i j : Nat) (hi : i < 20) (hj : j < 20) (hft : ∀ j, j < n → fr j < 20 ∧ tt j < 20) (hn : n ≤ 120) : Ct l y_M_bound b_M_bound 3 (some .long) 1 26 D (mT k) [.ref (a 0), .int (nI i), .int (nI j)] (mW a k th n fr tt cc on rs row rl lst bl bs) (mW a k (nI 0) n fr tt cc on rs row rl (q_lst n fr tt cc on j lst) ((q_bst (q_lst n fr tt cc on j lst) i).1) ((q_bst (q_lst n fr tt cc on j lst) i).2)) (some (.long (if (q_bst (q_lst n fr tt cc on j lst) i).2 < 0 then q_nev else (q_bst (q_lst n fr tt cc on j lst) i).1))) := by
  refine q_enter [(0, .ref (a 0)), (1, .int (nI i)), (2, .int (nI j))] "TimeNetModel" .lreturn [.long (if (q_bst (q_lst n fr tt cc on j lst) i).2 < 0 then q_nev else (q_bst (q_lst n fr tt cc on j lst) i).1)] (by decide) rfl (Nat.le_of_ble_eq_true rfl) rfl (Or.inr (Or.inr (Or.inl ⟨rfl, rfl, _, rfl, rfl⟩))) ?_
  intro p e s m args below meth c A ls Q E hK hP hD hS hA hl hE
  obtain ⟨hx, hb, hml, hr, hlk, hown, hT⟩ := E
  refine lv_aload_n hx hb d_M_bound_0 rfl (lv_at hl 0 rfl) ?_
  refine lv_iload_n hx hb d_M_bound_1 rfl (lv_at hl 1 rfl) ?_
  refine w_callS (v := .int (q_b (q_pt (nI i)))) (As := [.int (nI i)]) (rest := [.ref (a 0)]) ⟨hx, hb, hml, hown, hT⟩ (c_M_isPoint l (nI i)) (w_cwS hT ms_M_isPoint tb_313 ⟨by decide, by decide⟩) rfl rfl hl.1 (Nat.le_of_ble_eq_true rfl) d_M_bound_2 ⟨Nat.zero_le _, Nat.zero_le _⟩ ?_
  refine w_ifeqB (tgt := 19) hx hb d_M_bound_5 (by decide) (fun h1 => ?_) (fun h1 => ?_)
  · exact absurd h1 (by rw [q_pt_nI hi]; decide)
  · refine lv_iload_n hx hb d_M_bound_8 rfl (lv_at hl 2 rfl) ?_
    refine w_callS (v := .int (q_b (q_pt (nI j)))) (As := [.int (nI j)]) (rest := [.ref (a 0)]) ⟨hx, hb, hml, hown, hT⟩ (c_M_isPoint l (nI j)) (w_cwS hT ms_M_isPoint tb_313 ⟨by decide, by decide⟩) rfl rfl hl.1 (Nat.le_of_ble_eq_true rfl) d_M_bound_9 ⟨Nat.zero_le _, Nat.zero_le _⟩ ?_
    refine w_ifeqB (tgt := 19) hx hb d_M_bound_12 (by decide) (fun h2 => ?_) (fun h2 => ?_)
    · exact absurd h2 (by rw [q_pt_nI hj]; decide)
    · refine lv_iconst (v := nI 0) hx hb d_M_bound_15 (by decide) ?_
      refine lv_goto (tgt := 20) hx hb d_M_bound_16 (by decide) ?_
      refine w_put i_M t_M t_M_ok n_M hx hb hT hown hK hP hD hS 0 rfl rfl 0 (by decide) tb_267 rfl rfl rfl (Nat.le_of_ble_eq_true rfl) d_M_bound_20 (fun H locs hP hD hS => ?_)
      have hP : va_P D classes (mW a k (nI 0) n fr tt cc on rs row rl lst bl bs) H := hP
      have hD : va_D A (mW a k (nI 0) n fr tt cc on rs row rl lst bl bs) := hD
      refine lv_aload_n hx hb d_M_bound_23 rfl (lv_at hl 0 rfl) ?_
      refine w_get i_M hx hb hT hown hK hP 0 rfl rfl 0 (by decide) tb_267 rfl d_M_bound_24 ?_
      refine w_ifle (tgt := 32) hx hb (by decide) d_M_bound_27 (by decide) (fun h3 => ?_) (fun h3 => ?_)
      · refine lv_aload_n hx hb d_M_bound_32 rfl (lv_at hl 0 rfl) ?_
        refine lv_iload_n hx hb d_M_bound_33 rfl (lv_at hl 1 rfl) ?_
        refine lv_iload_n hx hb d_M_bound_34 rfl (lv_at hl 2 rfl) ?_
        refine w_callV (As := [.int (nI i), .int (nI j)]) (rest := []) ⟨hx, hb, hml, hown, hT⟩ (c_M_best l D a k (nI 0) n fr tt cc on rs row rl lst bl bs i j hi hj hft hn) (w_cwV hT ms_M_best tb_322 ⟨by decide, by decide⟩) hK hP hD hS hA 0 3 rfl rfl rfl rfl rfl hl.1 (Nat.le_of_ble_eq_true rfl) d_M_bound_35 ⟨Nat.zero_le _, Nat.zero_le _⟩ (fun H locs hP hD hS => ?_)
        have hP : va_P D classes (mW a k (nI 0) n fr tt cc on rs row rl (q_lst n fr tt cc on j lst) ((q_bst (q_lst n fr tt cc on j lst) i).1) ((q_bst (q_lst n fr tt cc on j lst) i).2)) H := hP
        have hD : va_D A (mW a k (nI 0) n fr tt cc on rs row rl (q_lst n fr tt cc on j lst) ((q_bst (q_lst n fr tt cc on j lst) i).1) ((q_bst (q_lst n fr tt cc on j lst) i).2)) := hD
        refine w_ifeqB (tgt := 48) hx hb d_M_bound_38 (by decide) (fun h4 => ?_) (fun h4 => ?_)
        · refine lv_ldc2 (v := q_nev) hx hb hown (hT _ tb_326) d_M_bound_48 ?_
          refine w_top (y := .long (if (q_bst (q_lst n fr tt cc on j lst) i).2 < 0 then q_nev else (q_bst (q_lst n fr tt cc on j lst) i).1)) (by rw [if_pos (by simpa using h4)]) ?_
          exact hE _ _ _ _ d_M_bound_51 hP hD hS
        · refine lv_aload_n hx hb d_M_bound_41 rfl (lv_at hl 0 rfl) ?_
          refine w_get i_M hx hb hT hown hK hP 0 rfl rfl 10 (by decide) tb_277 rfl d_M_bound_42 ?_
          refine lv_goto (tgt := 51) hx hb d_M_bound_45 (by decide) ?_
          refine w_top (y := .long (if (q_bst (q_lst n fr tt cc on j lst) i).2 < 0 then q_nev else (q_bst (q_lst n fr tt cc on j lst) i).1)) (by rw [if_neg (by simpa using h4)]) ?_
          exact hE _ _ _ _ d_M_bound_51 hP hD hS
      · exact absurd h3 (by decide)

set_option maxHeartbeats 4000000 in
set_option maxRecDepth 100000 in
/-- earliest: thrown -/
theorem c_M_earliest_n (l : Launch) (D : va_G) (a : Nat → Nat) (k : Nat → ClassId) (th : Int32) (n : Nat) (fr tt : Nat → Nat) (cc : Nat → Int64) (on : Nat → Bool) (rs : Nat) (row : Nat → Int32) (rl : Int64) (lst : Nat → Int64) (bl : Int64) (bs : Int32) (i : Int32) (h : q_pt i = false) : Ct l y_M_earliest b_M_earliest 2 (some .long) 1 26 D (mT k) [.ref (a 0), .int i] (mW a k th n fr tt cc on rs row rl lst bl bs) (mW a k (nI 1) n fr tt cc on rs row rl lst bl bs) (some (.long 0)) := by
  refine q_enter [(0, .ref (a 0)), (1, .int i)] "TimeNetModel" .lreturn [.long 0] (by decide) rfl (Nat.le_of_ble_eq_true rfl) rfl (Or.inr (Or.inr (Or.inl ⟨rfl, rfl, _, rfl, rfl⟩))) ?_
  intro p e s m args below meth c A ls Q E hK hP hD hS hA hl hE
  obtain ⟨hx, hb, hml, hr, hlk, hown, hT⟩ := E
  refine lv_aload_n hx hb d_M_earliest_0 rfl (lv_at hl 0 rfl) ?_
  refine lv_iload_n hx hb d_M_earliest_1 rfl (lv_at hl 1 rfl) ?_
  refine w_callS (v := .int (q_b (q_pt i))) (As := [.int i]) (rest := [.ref (a 0)]) ⟨hx, hb, hml, hown, hT⟩ (c_M_isPoint l i) (w_cwS hT ms_M_isPoint tb_313 ⟨by decide, by decide⟩) rfl rfl hl.1 (Nat.le_of_ble_eq_true rfl) d_M_earliest_2 ⟨Nat.zero_le _, Nat.zero_le _⟩ ?_
  refine w_ifeqB (tgt := 12) hx hb d_M_earliest_5 (by decide) (fun h1 => ?_) (fun h1 => ?_)
  · refine lv_iconst (v := nI 1) hx hb d_M_earliest_12 (by decide) ?_
    refine w_put i_M t_M t_M_ok n_M hx hb hT hown hK hP hD hS 0 rfl rfl 0 (by decide) tb_267 rfl rfl rfl (Nat.le_of_ble_eq_true rfl) d_M_earliest_13 (fun H locs hP hD hS => ?_)
    have hP : va_P D classes (mW a k (nI 1) n fr tt cc on rs row rl lst bl bs) H := hP
    have hD : va_D A (mW a k (nI 1) n fr tt cc on rs row rl lst bl bs) := hD
    refine lv_aload_n hx hb d_M_earliest_16 rfl (lv_at hl 0 rfl) ?_
    refine w_get i_M hx hb hT hown hK hP 0 rfl rfl 0 (by decide) tb_267 rfl d_M_earliest_17 ?_
    refine w_ifle (tgt := 25) hx hb (by decide) d_M_earliest_20 (by decide) (fun h8 => ?_) (fun h8 => ?_)
    · exact absurd h8 (by decide)
    · refine lv_lconst (v := 0) hx hb d_M_earliest_23 (by decide) ?_
      exact hE _ _ _ _ d_M_earliest_24 hP hD hS
  · exact absurd h (by simp [h1])

set_option maxHeartbeats 4000000 in
set_option maxRecDepth 100000 in
/-- earliest -/
theorem c_M_earliest_y (l : Launch) (D : va_G) (a : Nat → Nat) (k : Nat → ClassId) (th : Int32) (n : Nat) (fr tt : Nat → Nat) (cc : Nat → Int64) (on : Nat → Bool) (rs : Nat) (row : Nat → Int32) (rl : Int64) (lst : Nat → Int64) (bl : Int64) (bs : Int32) (i : Nat) (hi : i < 20) (hft : ∀ j, j < n → fr j < 20 ∧ tt j < 20) (hn : n ≤ 120) : Ct l y_M_earliest b_M_earliest 2 (some .long) 1 26 D (mT k) [.ref (a 0), .int (nI i)] (mW a k th n fr tt cc on rs row rl lst bl bs) (mW a k (nI 0) n fr tt cc on rs row rl (q_lst n fr tt cc on 0 lst) ((q_bst (q_lst n fr tt cc on 0 lst) i).1) ((q_bst (q_lst n fr tt cc on 0 lst) i).2)) (some (.long (if (q_bst (q_lst n fr tt cc on 0 lst) i).2 < 0 then (-9223372036854775808) else -(q_bst (q_lst n fr tt cc on 0 lst) i).1))) := by
  refine q_enter [(0, .ref (a 0)), (1, .int (nI i))] "TimeNetModel" .lreturn [.long (if (q_bst (q_lst n fr tt cc on 0 lst) i).2 < 0 then (-9223372036854775808) else -(q_bst (q_lst n fr tt cc on 0 lst) i).1)] (by decide) rfl (Nat.le_of_ble_eq_true rfl) rfl (Or.inr (Or.inr (Or.inl ⟨rfl, rfl, _, rfl, rfl⟩))) ?_
  intro p e s m args below meth c A ls Q E hK hP hD hS hA hl hE
  obtain ⟨hx, hb, hml, hr, hlk, hown, hT⟩ := E
  refine lv_aload_n hx hb d_M_earliest_0 rfl (lv_at hl 0 rfl) ?_
  refine lv_iload_n hx hb d_M_earliest_1 rfl (lv_at hl 1 rfl) ?_
  refine w_callS (v := .int (q_b (q_pt (nI i)))) (As := [.int (nI i)]) (rest := [.ref (a 0)]) ⟨hx, hb, hml, hown, hT⟩ (c_M_isPoint l (nI i)) (w_cwS hT ms_M_isPoint tb_313 ⟨by decide, by decide⟩) rfl rfl hl.1 (Nat.le_of_ble_eq_true rfl) d_M_earliest_2 ⟨Nat.zero_le _, Nat.zero_le _⟩ ?_
  refine w_ifeqB (tgt := 12) hx hb d_M_earliest_5 (by decide) (fun h1 => ?_) (fun h1 => ?_)
  · exact absurd h1 (by rw [q_pt_nI hi]; decide)
  · refine lv_iconst (v := nI 0) hx hb d_M_earliest_8 (by decide) ?_
    refine lv_goto (tgt := 13) hx hb d_M_earliest_9 (by decide) ?_
    refine w_put i_M t_M t_M_ok n_M hx hb hT hown hK hP hD hS 0 rfl rfl 0 (by decide) tb_267 rfl rfl rfl (Nat.le_of_ble_eq_true rfl) d_M_earliest_13 (fun H locs hP hD hS => ?_)
    have hP : va_P D classes (mW a k (nI 0) n fr tt cc on rs row rl lst bl bs) H := hP
    have hD : va_D A (mW a k (nI 0) n fr tt cc on rs row rl lst bl bs) := hD
    refine lv_aload_n hx hb d_M_earliest_16 rfl (lv_at hl 0 rfl) ?_
    refine w_get i_M hx hb hT hown hK hP 0 rfl rfl 0 (by decide) tb_267 rfl d_M_earliest_17 ?_
    refine w_ifle (tgt := 25) hx hb (by decide) d_M_earliest_20 (by decide) (fun h3 => ?_) (fun h3 => ?_)
    · refine lv_aload_n hx hb d_M_earliest_25 rfl (lv_at hl 0 rfl) ?_
      refine lv_iload_n hx hb d_M_earliest_26 rfl (lv_at hl 1 rfl) ?_
      refine lv_iconst (v := nI 0) hx hb d_M_earliest_27 (by decide) ?_
      refine w_callV (As := [.int (nI i), .int (nI 0)]) (rest := []) ⟨hx, hb, hml, hown, hT⟩ (c_M_best l D a k (nI 0) n fr tt cc on rs row rl lst bl bs i 0 hi (by decide) hft hn) (w_cwV hT ms_M_best tb_322 ⟨by decide, by decide⟩) hK hP hD hS hA 0 3 rfl rfl rfl rfl rfl hl.1 (Nat.le_of_ble_eq_true rfl) d_M_earliest_28 ⟨Nat.zero_le _, Nat.zero_le _⟩ (fun H locs hP hD hS => ?_)
      have hP : va_P D classes (mW a k (nI 0) n fr tt cc on rs row rl (q_lst n fr tt cc on 0 lst) ((q_bst (q_lst n fr tt cc on 0 lst) i).1) ((q_bst (q_lst n fr tt cc on 0 lst) i).2)) H := hP
      have hD : va_D A (mW a k (nI 0) n fr tt cc on rs row rl (q_lst n fr tt cc on 0 lst) ((q_bst (q_lst n fr tt cc on 0 lst) i).1) ((q_bst (q_lst n fr tt cc on 0 lst) i).2)) := hD
      refine w_ifeqB (tgt := 42) hx hb d_M_earliest_31 (by decide) (fun h4 => ?_) (fun h4 => ?_)
      · refine lv_ldc2 (v := (-9223372036854775808)) hx hb hown (hT _ tb_375) d_M_earliest_42 ?_
        refine w_top (y := .long (if (q_bst (q_lst n fr tt cc on 0 lst) i).2 < 0 then (-9223372036854775808) else -(q_bst (q_lst n fr tt cc on 0 lst) i).1)) (by rw [if_pos (by simpa using h4)]) ?_
        exact hE _ _ _ _ d_M_earliest_45 hP hD hS
      · refine lv_aload_n hx hb d_M_earliest_34 rfl (lv_at hl 0 rfl) ?_
        refine w_get i_M hx hb hT hown hK hP 0 rfl rfl 10 (by decide) tb_277 rfl d_M_earliest_35 ?_
        refine lv_lneg hx hb d_M_earliest_38 ?_
        refine lv_goto (tgt := 45) hx hb d_M_earliest_39 (by decide) ?_
        refine w_top (y := .long (if (q_bst (q_lst n fr tt cc on 0 lst) i).2 < 0 then (-9223372036854775808) else -(q_bst (q_lst n fr tt cc on 0 lst) i).1)) (by rw [if_neg (by simpa using h4)]) ?_
        exact hE _ _ _ _ d_M_earliest_45 hP hD hS
    · exact absurd h3 (by decide)

set_option maxHeartbeats 4000000 in
set_option maxRecDepth 100000 in
/-- steps: no points -/
theorem c_M_steps_n (l : Launch) (D : va_G) (a : Nat → Nat) (k : Nat → ClassId) (th : Int32) (n : Nat) (fr tt : Nat → Nat) (cc : Nat → Int64) (on : Nat → Bool) (rs : Nat) (row : Nat → Int32) (rl : Int64) (lst : Nat → Int64) (bl : Int64) (bs : Int32) (i j : Int32) (h : (q_pt i && q_pt j) = false) : Ct l y_M_steps b_M_steps 3 (some .int) 1 26 D (mT k) [.ref (a 0), .int i, .int j] (mW a k th n fr tt cc on rs row rl lst bl bs) (mW a k (nI 0) n fr tt cc on rs row rl lst bl bs) (some (.int (-1))) := by
  refine q_enter [(0, .ref (a 0)), (1, .int i), (2, .int j)] "TimeNetModel" .ireturn [.int (-1)] (by decide) rfl (Nat.le_of_ble_eq_true rfl) rfl (Or.inl ⟨rfl, rfl, _, rfl, rfl⟩) ?_
  intro p e s m args below meth c A ls Q E hK hP hD hS hA hl hE
  obtain ⟨hx, hb, hml, hr, hlk, hown, hT⟩ := E
  refine lv_aload_n hx hb d_M_steps_0 rfl (lv_at hl 0 rfl) ?_
  refine lv_iconst (v := nI 0) hx hb d_M_steps_1 (by decide) ?_
  refine w_put i_M t_M t_M_ok n_M hx hb hT hown hK hP hD hS 0 rfl rfl 0 (by decide) tb_267 rfl rfl rfl (Nat.le_of_ble_eq_true rfl) d_M_steps_2 (fun H locs hP hD hS => ?_)
  have hP : va_P D classes (mW a k (nI 0) n fr tt cc on rs row rl lst bl bs) H := hP
  have hD : va_D A (mW a k (nI 0) n fr tt cc on rs row rl lst bl bs) := hD
  refine lv_iload_n hx hb d_M_steps_5 rfl (lv_at hl 1 rfl) ?_
  refine w_callS (v := .int (q_b (q_pt i))) (As := [.int i]) (rest := []) ⟨hx, hb, hml, hown, hT⟩ (c_M_isPoint l i) (w_cwS hT ms_M_isPoint tb_313 ⟨by decide, by decide⟩) rfl rfl hl.1 (Nat.le_of_ble_eq_true rfl) d_M_steps_6 ⟨Nat.zero_le _, Nat.zero_le _⟩ ?_
  refine w_ifeqB (tgt := 35) hx hb d_M_steps_9 (by decide) (fun h1 => ?_) (fun h1 => ?_)
  · refine lv_iconst (v := (-1)) hx hb d_M_steps_35 (by decide) ?_
    exact hE _ _ _ _ d_M_steps_36 hP hD hS
  · refine lv_iload_n hx hb d_M_steps_12 rfl (lv_at hl 2 rfl) ?_
    refine w_callS (v := .int (q_b (q_pt j))) (As := [.int j]) (rest := []) ⟨hx, hb, hml, hown, hT⟩ (c_M_isPoint l j) (w_cwS hT ms_M_isPoint tb_313 ⟨by decide, by decide⟩) rfl rfl hl.1 (Nat.le_of_ble_eq_true rfl) d_M_steps_13 ⟨Nat.zero_le _, Nat.zero_le _⟩ ?_
    refine w_ifeqB (tgt := 35) hx hb d_M_steps_16 (by decide) (fun h2 => ?_) (fun h2 => ?_)
    · refine lv_iconst (v := (-1)) hx hb d_M_steps_35 (by decide) ?_
      exact hE _ _ _ _ d_M_steps_36 hP hD hS
    · exact absurd h (by simp [h1, h2])

set_option maxHeartbeats 4000000 in
set_option maxRecDepth 100000 in
/-- steps -/
theorem c_M_steps_y (l : Launch) (D : va_G) (a : Nat → Nat) (k : Nat → ClassId) (th : Int32) (n : Nat) (fr tt : Nat → Nat) (cc : Nat → Int64) (on : Nat → Bool) (rs : Nat) (row : Nat → Int32) (rl : Int64) (lst : Nat → Int64) (bl : Int64) (bs : Int32) (i j : Nat) (hi : i < 20) (hj : j < 20) (hft : ∀ j, j < n → fr j < 20 ∧ tt j < 20) (hn : n ≤ 120) : Ct l y_M_steps b_M_steps 3 (some .int) 1 26 D (mT k) [.ref (a 0), .int (nI i), .int (nI j)] (mW a k th n fr tt cc on rs row rl lst bl bs) (mW a k (nI 0) n fr tt cc on rs row rl (q_lst n fr tt cc on j lst) ((q_bst (q_lst n fr tt cc on j lst) i).1) ((q_bst (q_lst n fr tt cc on j lst) i).2)) (some (.int (if (q_bst (q_lst n fr tt cc on j lst) i).2 < 0 then (-1) else (q_bst (q_lst n fr tt cc on j lst) i).2))) := by
  refine q_enter [(0, .ref (a 0)), (1, .int (nI i)), (2, .int (nI j))] "TimeNetModel" .ireturn [.int (if (q_bst (q_lst n fr tt cc on j lst) i).2 < 0 then (-1) else (q_bst (q_lst n fr tt cc on j lst) i).2)] (by decide) rfl (Nat.le_of_ble_eq_true rfl) rfl (Or.inl ⟨rfl, rfl, _, rfl, rfl⟩) ?_
  intro p e s m args below meth c A ls Q E hK hP hD hS hA hl hE
  obtain ⟨hx, hb, hml, hr, hlk, hown, hT⟩ := E
  refine lv_aload_n hx hb d_M_steps_0 rfl (lv_at hl 0 rfl) ?_
  refine lv_iconst (v := nI 0) hx hb d_M_steps_1 (by decide) ?_
  refine w_put i_M t_M t_M_ok n_M hx hb hT hown hK hP hD hS 0 rfl rfl 0 (by decide) tb_267 rfl rfl rfl (Nat.le_of_ble_eq_true rfl) d_M_steps_2 (fun H locs hP hD hS => ?_)
  have hP : va_P D classes (mW a k (nI 0) n fr tt cc on rs row rl lst bl bs) H := hP
  have hD : va_D A (mW a k (nI 0) n fr tt cc on rs row rl lst bl bs) := hD
  refine lv_iload_n hx hb d_M_steps_5 rfl (lv_at hl 1 rfl) ?_
  refine w_callS (v := .int (q_b (q_pt (nI i)))) (As := [.int (nI i)]) (rest := []) ⟨hx, hb, hml, hown, hT⟩ (c_M_isPoint l (nI i)) (w_cwS hT ms_M_isPoint tb_313 ⟨by decide, by decide⟩) rfl rfl hl.1 (Nat.le_of_ble_eq_true rfl) d_M_steps_6 ⟨Nat.zero_le _, Nat.zero_le _⟩ ?_
  refine w_ifeqB (tgt := 35) hx hb d_M_steps_9 (by decide) (fun h1 => ?_) (fun h1 => ?_)
  · exact absurd h1 (by rw [q_pt_nI hi]; decide)
  · refine lv_iload_n hx hb d_M_steps_12 rfl (lv_at hl 2 rfl) ?_
    refine w_callS (v := .int (q_b (q_pt (nI j)))) (As := [.int (nI j)]) (rest := []) ⟨hx, hb, hml, hown, hT⟩ (c_M_isPoint l (nI j)) (w_cwS hT ms_M_isPoint tb_313 ⟨by decide, by decide⟩) rfl rfl hl.1 (Nat.le_of_ble_eq_true rfl) d_M_steps_13 ⟨Nat.zero_le _, Nat.zero_le _⟩ ?_
    refine w_ifeqB (tgt := 35) hx hb d_M_steps_16 (by decide) (fun h2 => ?_) (fun h2 => ?_)
    · exact absurd h2 (by rw [q_pt_nI hj]; decide)
    · refine lv_aload_n hx hb d_M_steps_19 rfl (lv_at hl 0 rfl) ?_
      refine lv_iload_n hx hb d_M_steps_20 rfl (lv_at hl 1 rfl) ?_
      refine lv_iload_n hx hb d_M_steps_21 rfl (lv_at hl 2 rfl) ?_
      refine w_callV (As := [.int (nI i), .int (nI j)]) (rest := []) ⟨hx, hb, hml, hown, hT⟩ (c_M_best l D a k (nI 0) n fr tt cc on rs row rl lst bl bs i j hi hj hft hn) (w_cwV hT ms_M_best tb_322 ⟨by decide, by decide⟩) hK hP hD hS hA 0 3 rfl rfl rfl rfl rfl hl.1 (Nat.le_of_ble_eq_true rfl) d_M_steps_22 ⟨Nat.zero_le _, Nat.zero_le _⟩ (fun H locs hP hD hS => ?_)
      have hP : va_P D classes (mW a k (nI 0) n fr tt cc on rs row rl (q_lst n fr tt cc on j lst) ((q_bst (q_lst n fr tt cc on j lst) i).1) ((q_bst (q_lst n fr tt cc on j lst) i).2)) H := hP
      have hD : va_D A (mW a k (nI 0) n fr tt cc on rs row rl (q_lst n fr tt cc on j lst) ((q_bst (q_lst n fr tt cc on j lst) i).1) ((q_bst (q_lst n fr tt cc on j lst) i).2)) := hD
      refine w_ifeqB (tgt := 35) hx hb d_M_steps_25 (by decide) (fun h3 => ?_) (fun h3 => ?_)
      · refine lv_iconst (v := (-1)) hx hb d_M_steps_35 (by decide) ?_
        refine w_top (y := .int (if (q_bst (q_lst n fr tt cc on j lst) i).2 < 0 then (-1) else (q_bst (q_lst n fr tt cc on j lst) i).2)) (by rw [if_pos (by simpa using h3)]) ?_
        exact hE _ _ _ _ d_M_steps_36 hP hD hS
      · refine lv_aload_n hx hb d_M_steps_28 rfl (lv_at hl 0 rfl) ?_
        refine w_get i_M hx hb hT hown hK hP 0 rfl rfl 11 (by decide) tb_278 rfl d_M_steps_29 ?_
        refine lv_goto (tgt := 36) hx hb d_M_steps_32 (by decide) ?_
        refine w_top (y := .int (if (q_bst (q_lst n fr tt cc on j lst) i).2 < 0 then (-1) else (q_bst (q_lst n fr tt cc on j lst) i).2)) (by rw [if_neg (by simpa using h3)]) ?_
        exact hE _ _ _ _ d_M_steps_36 hP hD hS

set_option maxHeartbeats 4000000 in
set_option maxRecDepth 100000 in
/-- path: no points -/
theorem c_M_path_n (l : Launch) (D : va_G) (a : Nat → Nat) (k : Nat → ClassId) (th : Int32) (n : Nat) (fr tt : Nat → Nat) (cc : Nat → Int64) (on : Nat → Bool) (rs : Nat) (row : Nat → Int32) (rl : Int64) (lst : Nat → Int64) (bl : Int64) (bs : Int32) (i j : Int32) (h : (q_pt i && q_pt j) = false) : Ct l y_M_path b_M_path 3 (some .int) 2 49 D (mT k) [.ref (a 0), .int i, .int j] (mW a k th n fr tt cc on rs row rl lst bl bs) (mW a k (nI 0) n fr tt cc on rs row rl lst bl bs) (some (.int (-1))) := by
  refine q_enter [(0, .ref (a 0)), (1, .int i), (2, .int j)] "TimeNetModel" .ireturn [.int (-1)] (by decide) rfl (Nat.le_of_ble_eq_true rfl) rfl (Or.inl ⟨rfl, rfl, _, rfl, rfl⟩) ?_
  intro p e s m args below meth c A ls Q E hK hP hD hS hA hl hE
  obtain ⟨hx, hb, hml, hr, hlk, hown, hT⟩ := E
  refine lv_aload_n hx hb d_M_path_0 rfl (lv_at hl 0 rfl) ?_
  refine lv_iconst (v := nI 0) hx hb d_M_path_1 (by decide) ?_
  refine w_put i_M t_M t_M_ok n_M hx hb hT hown hK hP hD hS 0 rfl rfl 0 (by decide) tb_267 rfl rfl rfl (Nat.le_of_ble_eq_true rfl) d_M_path_2 (fun H locs hP hD hS => ?_)
  have hP : va_P D classes (mW a k (nI 0) n fr tt cc on rs row rl lst bl bs) H := hP
  have hD : va_D A (mW a k (nI 0) n fr tt cc on rs row rl lst bl bs) := hD
  refine lv_iload_n hx hb d_M_path_5 rfl (lv_at hl 1 rfl) ?_
  refine w_callS (v := .int (q_b (q_pt i))) (As := [.int i]) (rest := []) ⟨hx, hb, hml, hown, hT⟩ (c_M_isPoint l i) (w_cwS hT ms_M_isPoint tb_313 ⟨by decide, by decide⟩) rfl rfl hl.1 (Nat.le_of_ble_eq_true rfl) d_M_path_6 ⟨Nat.zero_le _, Nat.zero_le _⟩ ?_
  refine w_ifeqB (tgt := 28) hx hb d_M_path_9 (by decide) (fun h1 => ?_) (fun h1 => ?_)
  · refine lv_iconst (v := (-1)) hx hb d_M_path_28 (by decide) ?_
    exact hE _ _ _ _ d_M_path_29 hP hD hS
  · refine lv_iload_n hx hb d_M_path_12 rfl (lv_at hl 2 rfl) ?_
    refine w_callS (v := .int (q_b (q_pt j))) (As := [.int j]) (rest := []) ⟨hx, hb, hml, hown, hT⟩ (c_M_isPoint l j) (w_cwS hT ms_M_isPoint tb_313 ⟨by decide, by decide⟩) rfl rfl hl.1 (Nat.le_of_ble_eq_true rfl) d_M_path_13 ⟨Nat.zero_le _, Nat.zero_le _⟩ ?_
    refine w_ifeqB (tgt := 28) hx hb d_M_path_16 (by decide) (fun h2 => ?_) (fun h2 => ?_)
    · refine lv_iconst (v := (-1)) hx hb d_M_path_28 (by decide) ?_
      exact hE _ _ _ _ d_M_path_29 hP hD hS
    · exact absurd h (by simp [h1, h2])

set_option maxHeartbeats 4000000 in
set_option maxRecDepth 100000 in
/-- path: none -/
theorem c_M_path_f (l : Launch) (D : va_G) (a : Nat → Nat) (k : Nat → ClassId) (th : Int32) (n : Nat) (fr tt : Nat → Nat) (cc : Nat → Int64) (on : Nat → Bool) (rs : Nat) (row : Nat → Int32) (rl : Int64) (lst : Nat → Int64) (bl : Int64) (bs : Int32) (i j : Nat) (hi : i < 20) (hj : j < 20) (hft : ∀ j, j < n → fr j < 20 ∧ tt j < 20) (hn : n ≤ 120) (h : (q_bst (q_lst n fr tt cc on j lst) i).2 < 0) : Ct l y_M_path b_M_path 3 (some .int) 2 49 D (mT k) [.ref (a 0), .int (nI i), .int (nI j)] (mW a k th n fr tt cc on rs row rl lst bl bs) (mW a k (nI 0) n fr tt cc on rs row rl (q_lst n fr tt cc on j lst) ((q_bst (q_lst n fr tt cc on j lst) i).1) ((q_bst (q_lst n fr tt cc on j lst) i).2)) (some (.int (-1))) := by
  refine q_enter [(0, .ref (a 0)), (1, .int (nI i)), (2, .int (nI j))] "TimeNetModel" .ireturn [.int (-1)] (by decide) rfl (Nat.le_of_ble_eq_true rfl) rfl (Or.inl ⟨rfl, rfl, _, rfl, rfl⟩) ?_
  intro p e s m args below meth c A ls Q E hK hP hD hS hA hl hE
  obtain ⟨hx, hb, hml, hr, hlk, hown, hT⟩ := E
  refine lv_aload_n hx hb d_M_path_0 rfl (lv_at hl 0 rfl) ?_
  refine lv_iconst (v := nI 0) hx hb d_M_path_1 (by decide) ?_
  refine w_put i_M t_M t_M_ok n_M hx hb hT hown hK hP hD hS 0 rfl rfl 0 (by decide) tb_267 rfl rfl rfl (Nat.le_of_ble_eq_true rfl) d_M_path_2 (fun H locs hP hD hS => ?_)
  have hP : va_P D classes (mW a k (nI 0) n fr tt cc on rs row rl lst bl bs) H := hP
  have hD : va_D A (mW a k (nI 0) n fr tt cc on rs row rl lst bl bs) := hD
  refine lv_iload_n hx hb d_M_path_5 rfl (lv_at hl 1 rfl) ?_
  refine w_callS (v := .int (q_b (q_pt (nI i)))) (As := [.int (nI i)]) (rest := []) ⟨hx, hb, hml, hown, hT⟩ (c_M_isPoint l (nI i)) (w_cwS hT ms_M_isPoint tb_313 ⟨by decide, by decide⟩) rfl rfl hl.1 (Nat.le_of_ble_eq_true rfl) d_M_path_6 ⟨Nat.zero_le _, Nat.zero_le _⟩ ?_
  refine w_ifeqB (tgt := 28) hx hb d_M_path_9 (by decide) (fun h1 => ?_) (fun h1 => ?_)
  · exact absurd h1 (by rw [q_pt_nI hi]; decide)
  · refine lv_iload_n hx hb d_M_path_12 rfl (lv_at hl 2 rfl) ?_
    refine w_callS (v := .int (q_b (q_pt (nI j)))) (As := [.int (nI j)]) (rest := []) ⟨hx, hb, hml, hown, hT⟩ (c_M_isPoint l (nI j)) (w_cwS hT ms_M_isPoint tb_313 ⟨by decide, by decide⟩) rfl rfl hl.1 (Nat.le_of_ble_eq_true rfl) d_M_path_13 ⟨Nat.zero_le _, Nat.zero_le _⟩ ?_
    refine w_ifeqB (tgt := 28) hx hb d_M_path_16 (by decide) (fun h2 => ?_) (fun h2 => ?_)
    · exact absurd h2 (by rw [q_pt_nI hj]; decide)
    · refine lv_aload_n hx hb d_M_path_19 rfl (lv_at hl 0 rfl) ?_
      refine lv_iload_n hx hb d_M_path_20 rfl (lv_at hl 1 rfl) ?_
      refine lv_iload_n hx hb d_M_path_21 rfl (lv_at hl 2 rfl) ?_
      refine w_callV (As := [.int (nI i), .int (nI j)]) (rest := []) ⟨hx, hb, hml, hown, hT⟩ (c_M_best l D a k (nI 0) n fr tt cc on rs row rl lst bl bs i j hi hj hft hn) (w_cwV hT ms_M_best tb_322 ⟨by decide, by decide⟩) hK hP hD hS hA 0 3 rfl rfl rfl rfl rfl hl.1 (Nat.le_of_ble_eq_true rfl) d_M_path_22 ⟨Nat.zero_le _, Nat.zero_le _⟩ (fun H locs hP hD hS => ?_)
      have hP : va_P D classes (mW a k (nI 0) n fr tt cc on rs row rl (q_lst n fr tt cc on j lst) ((q_bst (q_lst n fr tt cc on j lst) i).1) ((q_bst (q_lst n fr tt cc on j lst) i).2)) H := hP
      have hD : va_D A (mW a k (nI 0) n fr tt cc on rs row rl (q_lst n fr tt cc on j lst) ((q_bst (q_lst n fr tt cc on j lst) i).1) ((q_bst (q_lst n fr tt cc on j lst) i).2)) := hD
      refine w_ifneB (tgt := 30) hx hb d_M_path_25 (by decide) (fun h3 => ?_) (fun h3 => ?_)
      · exact absurd h3 (by simp [h])
      · refine lv_iconst (v := (-1)) hx hb d_M_path_28 (by decide) ?_
        exact hE _ _ _ _ d_M_path_29 hP hD hS

set_option maxHeartbeats 4000000 in
set_option maxRecDepth 100000 in
/-- path -/
theorem c_M_path_y (l : Launch) (D : va_G) (a : Nat → Nat) (k : Nat → ClassId) (th : Int32) (n : Nat) (fr tt : Nat → Nat) (cc : Nat → Int64) (on : Nat → Bool) (rs : Nat) (row : Nat → Int32) (rl : Int64) (lst : Nat → Int64) (bl : Int64) (bs : Int32) (i j : Nat) (hi : i < 20) (hj : j < 20) (hft : ∀ j, j < n → fr j < 20 ∧ tt j < 20) (hn : n ≤ 120) (us : List Nat) (hs : (q_bst (q_lst n fr tt cc on j lst) i).2 = nI us.length) (h20 : us.length ≤ 20) (hq : q_wlk n fr tt cc on (q_lst n fr tt cc on j lst) i us) : Ct l y_M_path b_M_path 3 (some .int) 2 49 D (mT k) [.ref (a 0), .int (nI i), .int (nI j)] (mW a k th n fr tt cc on rs row rl lst bl bs) (mW a k (nI 0) n fr tt cc on (1 + us.length) (q_app (upd row 0 (nI i)) 1 us) ((q_bst (q_lst n fr tt cc on j lst) i).1) (q_lst n fr tt cc on j lst) ((q_bst (q_lst n fr tt cc on j lst) i).1) ((q_bst (q_lst n fr tt cc on j lst) i).2)) (some (.int (nI (1 + us.length)))) := by
  refine q_enter [(0, .ref (a 0)), (1, .int (nI i)), (2, .int (nI j))] "TimeNetModel" .ireturn [.int (nI (1 + us.length))] (by decide) rfl (Nat.le_of_ble_eq_true rfl) rfl (Or.inl ⟨rfl, rfl, _, rfl, rfl⟩) ?_
  intro p e s m args below meth c A ls Q E hK hP hD hS hA hl hE
  obtain ⟨hx, hb, hml, hr, hlk, hown, hT⟩ := E
  refine lv_aload_n hx hb d_M_path_0 rfl (lv_at hl 0 rfl) ?_
  refine lv_iconst (v := nI 0) hx hb d_M_path_1 (by decide) ?_
  refine w_put i_M t_M t_M_ok n_M hx hb hT hown hK hP hD hS 0 rfl rfl 0 (by decide) tb_267 rfl rfl rfl (Nat.le_of_ble_eq_true rfl) d_M_path_2 (fun H locs hP hD hS => ?_)
  have hP : va_P D classes (mW a k (nI 0) n fr tt cc on rs row rl lst bl bs) H := hP
  have hD : va_D A (mW a k (nI 0) n fr tt cc on rs row rl lst bl bs) := hD
  refine lv_iload_n hx hb d_M_path_5 rfl (lv_at hl 1 rfl) ?_
  refine w_callS (v := .int (q_b (q_pt (nI i)))) (As := [.int (nI i)]) (rest := []) ⟨hx, hb, hml, hown, hT⟩ (c_M_isPoint l (nI i)) (w_cwS hT ms_M_isPoint tb_313 ⟨by decide, by decide⟩) rfl rfl hl.1 (Nat.le_of_ble_eq_true rfl) d_M_path_6 ⟨Nat.zero_le _, Nat.zero_le _⟩ ?_
  refine w_ifeqB (tgt := 28) hx hb d_M_path_9 (by decide) (fun h1 => ?_) (fun h1 => ?_)
  · exact absurd h1 (by rw [q_pt_nI hi]; decide)
  · refine lv_iload_n hx hb d_M_path_12 rfl (lv_at hl 2 rfl) ?_
    refine w_callS (v := .int (q_b (q_pt (nI j)))) (As := [.int (nI j)]) (rest := []) ⟨hx, hb, hml, hown, hT⟩ (c_M_isPoint l (nI j)) (w_cwS hT ms_M_isPoint tb_313 ⟨by decide, by decide⟩) rfl rfl hl.1 (Nat.le_of_ble_eq_true rfl) d_M_path_13 ⟨Nat.zero_le _, Nat.zero_le _⟩ ?_
    refine w_ifeqB (tgt := 28) hx hb d_M_path_16 (by decide) (fun h2 => ?_) (fun h2 => ?_)
    · exact absurd h2 (by rw [q_pt_nI hj]; decide)
    · refine lv_aload_n hx hb d_M_path_19 rfl (lv_at hl 0 rfl) ?_
      refine lv_iload_n hx hb d_M_path_20 rfl (lv_at hl 1 rfl) ?_
      refine lv_iload_n hx hb d_M_path_21 rfl (lv_at hl 2 rfl) ?_
      refine w_callV (As := [.int (nI i), .int (nI j)]) (rest := []) ⟨hx, hb, hml, hown, hT⟩ (c_M_best l D a k (nI 0) n fr tt cc on rs row rl lst bl bs i j hi hj hft hn) (w_cwV hT ms_M_best tb_322 ⟨by decide, by decide⟩) hK hP hD hS hA 0 3 rfl rfl rfl rfl rfl hl.1 (Nat.le_of_ble_eq_true rfl) d_M_path_22 ⟨Nat.zero_le _, Nat.zero_le _⟩ (fun H locs hP hD hS => ?_)
      have hP : va_P D classes (mW a k (nI 0) n fr tt cc on rs row rl (q_lst n fr tt cc on j lst) ((q_bst (q_lst n fr tt cc on j lst) i).1) ((q_bst (q_lst n fr tt cc on j lst) i).2)) H := hP
      have hD : va_D A (mW a k (nI 0) n fr tt cc on rs row rl (q_lst n fr tt cc on j lst) ((q_bst (q_lst n fr tt cc on j lst) i).1) ((q_bst (q_lst n fr tt cc on j lst) i).2)) := hD
      refine w_ifneB (tgt := 30) hx hb d_M_path_25 (by decide) (fun h3 => ?_) (fun h3 => ?_)
      · refine lv_aload_n hx hb d_M_path_30 rfl (lv_at hl 0 rfl) ?_
        refine w_get i_M hx hb hT hown hK hP 0 rfl rfl 7 (by decide) tb_274 rfl d_M_path_31 ?_
        refine lv_iconst (v := nI 0) hx hb d_M_path_34 (by decide) ?_
        refine lv_iload_n hx hb d_M_path_35 rfl (lv_at hl 1 rfl) ?_
        refine w_iast hx hb hK hP hD hS 5 4 rfl rfl (by omega) (by decide) d_M_path_36 (fun H locs hP hD hS => ?_)
        have hP : va_P D classes (mW a k (nI 0) n fr tt cc on rs (upd row 0 (nI i)) rl (q_lst n fr tt cc on j lst) ((q_bst (q_lst n fr tt cc on j lst) i).1) ((q_bst (q_lst n fr tt cc on j lst) i).2)) H := hP
        have hD : va_D A (mW a k (nI 0) n fr tt cc on rs (upd row 0 (nI i)) rl (q_lst n fr tt cc on j lst) ((q_bst (q_lst n fr tt cc on j lst) i).1) ((q_bst (q_lst n fr tt cc on j lst) i).2)) := hD
        refine lv_aload_n hx hb d_M_path_37 rfl (lv_at hl 0 rfl) ?_
        refine lv_iconst (v := nI 1) hx hb d_M_path_38 (by decide) ?_
        refine w_put i_M t_M t_M_ok n_M hx hb hT hown hK hP hD hS 0 rfl rfl 6 (by decide) tb_273 rfl rfl rfl (Nat.le_of_ble_eq_true rfl) d_M_path_39 (fun H locs hP hD hS => ?_)
        have hP : va_P D classes (mW a k (nI 0) n fr tt cc on 1 (upd row 0 (nI i)) rl (q_lst n fr tt cc on j lst) ((q_bst (q_lst n fr tt cc on j lst) i).1) ((q_bst (q_lst n fr tt cc on j lst) i).2)) H := hP
        have hD : va_D A (mW a k (nI 0) n fr tt cc on 1 (upd row 0 (nI i)) rl (q_lst n fr tt cc on j lst) ((q_bst (q_lst n fr tt cc on j lst) i).1) ((q_bst (q_lst n fr tt cc on j lst) i).2)) := hD
        refine lv_aload_n hx hb d_M_path_42 rfl (lv_at hl 0 rfl) ?_
        refine lv_iload_n hx hb d_M_path_43 rfl (lv_at hl 1 rfl) ?_
        refine w_callN (As := [.int (nI i)]) (rest := []) ⟨hx, hb, hml, hown, hT⟩ (c_M_walk l D a k (nI 0) n fr tt cc on 1 (upd row 0 (nI i)) rl (q_lst n fr tt cc on j lst) ((q_bst (q_lst n fr tt cc on j lst) i).1) ((q_bst (q_lst n fr tt cc on j lst) i).2) i hi hft hn us hs h20 hq (by omega)) (w_cwV hT ms_M_walk tb_327 ⟨by decide, by decide⟩) hK hP hD hS hA 0 3 rfl rfl rfl rfl rfl hl.1 (Nat.le_of_ble_eq_true rfl) d_M_path_44 ⟨Nat.zero_le _, Nat.zero_le _⟩ (fun H locs hP hD hS => ?_)
        have hP : va_P D classes (mW a k (nI 0) n fr tt cc on (1 + us.length) (q_app (upd row 0 (nI i)) 1 us) rl (q_lst n fr tt cc on j lst) ((q_bst (q_lst n fr tt cc on j lst) i).1) ((q_bst (q_lst n fr tt cc on j lst) i).2)) H := hP
        have hD : va_D A (mW a k (nI 0) n fr tt cc on (1 + us.length) (q_app (upd row 0 (nI i)) 1 us) rl (q_lst n fr tt cc on j lst) ((q_bst (q_lst n fr tt cc on j lst) i).1) ((q_bst (q_lst n fr tt cc on j lst) i).2)) := hD
        refine lv_aload_n hx hb d_M_path_47 rfl (lv_at hl 0 rfl) ?_
        refine lv_aload_n hx hb d_M_path_48 rfl (lv_at hl 0 rfl) ?_
        refine w_get i_M hx hb hT hown hK hP 0 rfl rfl 10 (by decide) tb_277 rfl d_M_path_49 ?_
        refine w_put i_M t_M t_M_ok n_M hx hb hT hown hK hP hD hS 0 rfl rfl 8 (by decide) tb_275 rfl rfl rfl (Nat.le_of_ble_eq_true rfl) d_M_path_52 (fun H locs hP hD hS => ?_)
        have hP : va_P D classes (mW a k (nI 0) n fr tt cc on (1 + us.length) (q_app (upd row 0 (nI i)) 1 us) ((q_bst (q_lst n fr tt cc on j lst) i).1) (q_lst n fr tt cc on j lst) ((q_bst (q_lst n fr tt cc on j lst) i).1) ((q_bst (q_lst n fr tt cc on j lst) i).2)) H := hP
        have hD : va_D A (mW a k (nI 0) n fr tt cc on (1 + us.length) (q_app (upd row 0 (nI i)) 1 us) ((q_bst (q_lst n fr tt cc on j lst) i).1) (q_lst n fr tt cc on j lst) ((q_bst (q_lst n fr tt cc on j lst) i).1) ((q_bst (q_lst n fr tt cc on j lst) i).2)) := hD
        refine lv_aload_n hx hb d_M_path_55 rfl (lv_at hl 0 rfl) ?_
        refine w_get i_M hx hb hT hown hK hP 0 rfl rfl 6 (by decide) tb_273 rfl d_M_path_56 ?_
        exact hE _ _ _ _ d_M_path_59 hP hD hS
      · exact absurd h3 (by rw [hs]; simp [nI_pos' (n := us.length) (by omega)])
end
section
/-! PLAIN LAW 1: walks in a graph of weighted edges; a closed matrix of keys (1000 * length + steps) -/
def g_W (Ed : Nat → Nat → Int → Prop) : Nat → Nat → Nat → Int → Prop
  | 0, i, j, l => i = j ∧ l = 0
  | s + 1, i, j, l => ∃ v c, Ed i v c ∧ g_W Ed s v j (l - c)
theorem g_W_mono {Ed Ed' : Nat → Nat → Int → Prop} (h : ∀ u v c, Ed u v c → Ed' u v c) : ∀ (s i j : Nat) (l : Int), g_W Ed s i j l → g_W Ed' s i j l
  | 0, _, _, _, w => w
  | s + 1, i, j, l, ⟨v, c, e, w⟩ => ⟨v, c, h _ _ _ e, g_W_mono h s v j (l - c) w⟩
theorem g_W_app {Ed : Nat → Nat → Int → Prop} {s2 x y : Nat} {l2 : Int} (w2 : g_W Ed s2 x y l2) : ∀ (s1 i : Nat) (l1 : Int), g_W Ed s1 i x l1 → g_W Ed (s1 + s2) i y (l1 + l2) := by
  intro s1
  induction s1 with
  | zero =>
    intro i l1 ⟨h1, h2⟩
    subst h1 h2
    rw [Nat.zero_add, Int.zero_add]
    exact w2
  | succ s1 ih =>
    intro i l1 ⟨v, c, e, w⟩
    rw [Nat.succ_add]
    refine ⟨v, c, e, ?_⟩
    have := ih v (l1 - c) w
    rw [show l1 + l2 - c = l1 - c + l2 by omega]
    exact this
theorem g_W_one {Ed : Nat → Nat → Int → Prop} {u v : Nat} {c : Int} (e : Ed u v c) : g_W Ed 1 u v c := ⟨v, c, e, rfl, by omega⟩
def g_EV (Ed : Nat → Nat → Int → Prop) : Prop := ∀ u v c, Ed u v c → u < 20 ∧ v < 20 ∧ -1000000000000 ≤ c ∧ c ≤ 1000000000000
theorem g_W_bd {Ed : Nat → Nat → Int → Prop} (h : g_EV Ed) : ∀ (s i j : Nat) (l : Int), g_W Ed s i j l → -((s : Int) * 1000000000000) ≤ l ∧ l ≤ (s : Int) * 1000000000000
  | 0, _, _, _, ⟨_, h2⟩ => by subst h2; simp
  | s + 1, i, j, l, ⟨v, c, e, w⟩ => by
    have h1 := g_W_bd h s v j (l - c) w
    have h2 := h _ _ _ e
    constructor <;> (push_cast; omega)
/-- closed: the diagonal is 0, every edge is relaxed -/
def g_cl (Ed : Nat → Nat → Int → Prop) (F : Nat → Nat → Prop) (K : Nat → Nat → Int) : Prop :=
  (∀ j, j < 20 → F j j ∧ K j j = 0) ∧ ∀ u v c, Ed u v c → ∀ y, y < 20 → F v y → F u y ∧ K u y ≤ 1000 * c + 1 + K v y
theorem g_lb {Ed : Nat → Nat → Int → Prop} {F : Nat → Nat → Prop} {K : Nat → Nat → Int} (h : g_cl Ed F K) : ∀ (s i x : Nat) (l : Int), g_W Ed s i x l → ∀ y, y < 20 → F x y → F i y ∧ K i y ≤ 1000 * l + s + K x y
  | 0, _, _, _, ⟨h1, h2⟩, y, _, hf => by subst h1 h2; exact ⟨hf, by omega⟩
  | s + 1, i, x, l, ⟨v, c, e, w⟩, y, hy, hf => by
    obtain ⟨h1, h2⟩ := g_lb h s v x (l - c) w y hy hf
    obtain ⟨h3, h4⟩ := h.2 _ _ _ e y hy h1
    exact ⟨h3, by push_cast; omega⟩
theorem g_lb0 {Ed : Nat → Nat → Int → Prop} {F : Nat → Nat → Prop} {K : Nat → Nat → Int} (h : g_cl Ed F K) {s i j : Nat} {l : Int} (hj : j < 20) (w : g_W Ed s i j l) : F i j ∧ K i j ≤ 1000 * l + s := by
  obtain ⟨h1, h2⟩ := h.1 j hj
  obtain ⟨h3, h4⟩ := g_lb h s i j l w j hj h1
  exact ⟨h3, by omega⟩
/-- the best walk's rest is best -/
theorem g_sub {Ed : Nat → Nat → Int → Prop} {F : Nat → Nat → Prop} {K : Nat → Nat → Int} (h : g_cl Ed F K) {s i j : Nat} {l : Int} (hj : j < 20) (hk : K i j = 1000 * l + (s + 1 : Nat)) (w : g_W Ed (s + 1) i j l) : ∃ v c, Ed i v c ∧ F v j ∧ K v j = 1000 * (l - c) + s ∧ g_W Ed s v j (l - c) := by
  obtain ⟨v, c, e, w⟩ := w
  obtain ⟨h1, h2⟩ := g_lb0 h hj w
  obtain ⟨-, h4⟩ := h.2 _ _ _ e j hj h1
  exact ⟨v, c, e, h1, by push_cast at hk; omega, w⟩
theorem g_chain {Ed : Nat → Nat → Int → Prop} {F : Nat → Nat → Prop} {K : Nat → Nat → Int} (h : g_cl Ed F K) (hE : g_EV Ed) {j : Nat} (hj : j < 20) : ∀ (s i : Nat) (l : Int), i < 20 → K i j = 1000 * l + s → g_W Ed s i j l → ∀ t : Nat, t ≤ s → ∃ u, u < 20 ∧ ∃ l' : Int, K u j = 1000 * l' + t := by
  intro s
  induction s with
  | zero =>
    intro i l hi hk _ t ht
    obtain rfl : t = 0 := by omega
    exact ⟨i, hi, l, hk⟩
  | succ s ih =>
    intro i l hi hk w t ht
    by_cases h9 : t = s + 1
    · subst h9
      exact ⟨i, hi, l, hk⟩
    · obtain ⟨v, c, e, -, h2, h3⟩ := g_sub h hj hk w
      exact ih v (l - c) (hE _ _ _ e).2.1 h2 h3 t (by omega)
theorem g_pigeon : ∀ (s N : Nat) (f : Nat → Nat), (∀ t, t ≤ s → ∃ u, u < N ∧ f u = t) → s + 1 ≤ N := by
  intro s
  induction s with
  | zero =>
    intro N f h
    obtain ⟨u, hu, -⟩ := h 0 (Nat.le_refl 0)
    omega
  | succ s ih =>
    intro N f h
    obtain ⟨u0, hu0, hf0⟩ := h (s + 1) (Nat.le_refl _)
    have := ih (N - 1) (fun u => if u = u0 then f (N - 1) else f u) (fun t ht => by
      obtain ⟨u, hu, hf⟩ := h t (by omega)
      have hne : u ≠ u0 := fun q => by rw [q, hf0] at hf; omega
      by_cases hl : u = N - 1
      · refine ⟨u0, by omega, ?_⟩
        simp only [if_pos]
        rw [← hl]; exact hf
      · exact ⟨u, by omega, by simp only [if_neg hne]; exact hf⟩)
    omega
theorem g_ph {Ed : Nat → Nat → Int → Prop} {F : Nat → Nat → Prop} {K : Nat → Nat → Int} (h : g_cl Ed F K) (hE : g_EV Ed) {s i j : Nat} {l : Int} (hi : i < 20) (hj : j < 20) (hk : K i j = 1000 * l + s) (hs : s < 1000) (w : g_W Ed s i j l) : s ≤ 19 := by
  have := g_pigeon s 20 (fun u => (K u j % 1000).toNat) (fun t ht => by
    obtain ⟨u, hu, l', hl⟩ := g_chain h hE hj s i l hi hk w t ht
    refine ⟨u, hu, ?_⟩
    show (K u j % 1000).toNat = t
    rw [hl]
    omega)
  omega
/-- an edge more -/
theorem g_add {Ed Ed' : Nat → Nat → Int → Prop} {F F' : Nat → Nat → Prop} {K K' : Nat → Nat → Int} (h : g_cl Ed F K) {f t : Nat} {x : Int} (hf : f < 20) (ht : t < 20)
    (hE : ∀ u v c, Ed' u v c → Ed u v c ∨ (u = f ∧ v = t ∧ c = x)) (hEV : g_EV Ed)
    (htri : ∀ i j, i < 20 → j < 20 → F i j → ∀ y, y < 20 → F j y → F i y ∧ K i y ≤ K i j + K j y)
    (hc : F t f → 0 ≤ K t f + 1000 * x)
    (h1 : ∀ i j, i < 20 → j < 20 → F i j → F' i j ∧ K' i j ≤ K i j)
    (h2 : ∀ i j, i < 20 → j < 20 → F i f → F t j → F' i j ∧ K' i j ≤ K i f + (1000 * x + 1) + K t j)
    (h3 : ∀ i j, i < 20 → j < 20 → F' i j → (F i j ∧ K' i j = K i j) ∨ (F i f ∧ F t j ∧ K' i j = K i f + (1000 * x + 1) + K t j)) : g_cl Ed' F' K' := by
  refine ⟨fun j hj => ?_, fun u v c e y hy hv => ?_⟩
  · obtain ⟨d1, d2⟩ := h.1 j hj
    obtain ⟨e1, e2⟩ := h1 j j hj hj d1
    refine ⟨e1, ?_⟩
    rcases h3 j j hj hj e1 with ⟨-, q⟩ | ⟨q1, q2, q3⟩
    · omega
    · obtain ⟨r1, r2⟩ := htri t j ht hj q2 f hf q1
      have := hc r1
      omega
  · rcases hE u v c e with e | ⟨rfl, rfl, rfl⟩
    · have hu := (hEV _ _ _ e).1
      have hv2 := (hEV _ _ _ e).2.1
      rcases h3 v y hv2 hy hv with ⟨q1, q2⟩ | ⟨q1, q2, q3⟩
      · obtain ⟨r1, r2⟩ := h.2 _ _ _ e y hy q1
        obtain ⟨r3, r4⟩ := h1 u y hu hy r1
        exact ⟨r3, by omega⟩
      · obtain ⟨r1, r2⟩ := h.2 _ _ _ e f hf q1
        obtain ⟨r3, r4⟩ := h2 u y hu hy r1 q2
        exact ⟨r3, by omega⟩
    · obtain ⟨d1, d2⟩ := h.1 u hf
      rcases h3 v y ht hy hv with ⟨q1, q2⟩ | ⟨q1, q2, q3⟩
      · obtain ⟨r3, r4⟩ := h2 u y hf hy d1 q1
        exact ⟨r3, by omega⟩
      · obtain ⟨r3, r4⟩ := h2 u y hf hy d1 q2
        have := hc q1
        exact ⟨r3, by omega⟩
/-- an edge more that makes nothing better -/
theorem g_add0 {Ed Ed' : Nat → Nat → Int → Prop} {F : Nat → Nat → Prop} {K : Nat → Nat → Int} (h : g_cl Ed F K) {f t : Nat} {x : Int} (hf : f < 20) (ht : t < 20)
    (hE : ∀ u v c, Ed' u v c → Ed u v c ∨ (u = f ∧ v = t ∧ c = x))
    (htri : ∀ i j, i < 20 → j < 20 → F i j → ∀ y, y < 20 → F j y → F i y ∧ K i y ≤ K i j + K j y) (h1 : F f t) (h2 : K f t ≤ 1000 * x + 1) : g_cl Ed' F K := by
  refine ⟨h.1, fun u v c e y hy hv => ?_⟩
  rcases hE u v c e with e | ⟨rfl, rfl, rfl⟩
  · exact h.2 _ _ _ e y hy hv
  · obtain ⟨r1, r2⟩ := htri u v hf ht h1 y hy hv
    exact ⟨r1, by omega⟩
end
section
/-! PLAIN LAW 2: the arrays length and steps as such a matrix; Paths.add -/
theorem q_nev_toInt : q_nev.toInt = 9223372036854775807 := by decide
def g_f (len : Nat → Int64) (i j : Nat) : Prop := len (20 * i + j) ≠ q_nev
def g_k (len : Nat → Int64) (stp : Nat → Int32) (i j : Nat) : Int := 1000 * (len (20 * i + j)).toInt + (stp (20 * i + j)).toInt
/-- closed, and each entry is the length and the steps of a walk -/
def g_DI (Ed : Nat → Nat → Int → Prop) (d : q_LS) : Prop := g_cl Ed (g_f d.1) (g_k d.1 d.2) ∧ ∀ i j, i < 20 → j < 20 → g_f d.1 i j → ∃ s : Nat, s ≤ 19 ∧ d.2 (20 * i + j) = nI s ∧ g_W Ed s i j (d.1 (20 * i + j)).toInt
theorem q_has_iff {len : Nat → Int64} {i j : Nat} : q_has len i j = true ↔ g_f len i j := by simp [q_has, g_f]
theorem q_has_f {len : Nat → Int64} {i j : Nat} : q_has len i j = false ↔ ¬ g_f len i j := by simp [q_has, g_f]
theorem q_bet_iff {len : Nat → Int64} {stp : Nat → Int32} {a : Nat} {l : Int64} {s : Int32} : q_bet len stp a l s = true ↔ (l.toInt < (len a).toInt ∨ (l.toInt = (len a).toInt ∧ s.toInt < (stp a).toInt)) := by
  simp [q_bet, Int64.lt_iff_toInt_lt, Int32.lt_iff_toInt_lt, ← Int64.toInt_inj]
theorem g_fb {Ed : Nat → Nat → Int → Prop} {d : q_LS} (h : g_DI Ed d) (hE : g_EV Ed) {i j : Nat} (hi : i < 20) (hj : j < 20) (hf : g_f d.1 i j) : ∃ s : Nat, s ≤ 19 ∧ d.2 (20 * i + j) = nI s ∧ (d.2 (20 * i + j)).toInt = s ∧ g_k d.1 d.2 i j = 1000 * (d.1 (20 * i + j)).toInt + s ∧ g_W Ed s i j (d.1 (20 * i + j)).toInt ∧ -19000000000000 ≤ (d.1 (20 * i + j)).toInt ∧ (d.1 (20 * i + j)).toInt ≤ 19000000000000 := by
  obtain ⟨s, hs, h1, h2⟩ := h.2 i j hi hj hf
  have h3 : (d.2 (20 * i + j)).toInt = s := by rw [h1]; exact nI_toInt (by omega)
  have h4 := g_W_bd hE s i j _ h2
  exact ⟨s, hs, h1, h3, by rw [g_k, h3], h2, by omega, by omega⟩
theorem g_tri {Ed : Nat → Nat → Int → Prop} {d : q_LS} (h : g_DI Ed d) (hE : g_EV Ed) : ∀ i j, i < 20 → j < 20 → g_f d.1 i j → ∀ y, y < 20 → g_f d.1 j y → g_f d.1 i y ∧ g_k d.1 d.2 i y ≤ g_k d.1 d.2 i j + g_k d.1 d.2 j y := by
  intro i j hi hj hf y hy hg
  obtain ⟨s, -, -, -, h4, h5, -⟩ := g_fb h hE hi hj hf
  obtain ⟨r1, r2⟩ := g_lb h.1 s i j _ h5 y hy hg
  exact ⟨r1, by rw [h4]; exact r2⟩
/-- what Paths.add does, entry by entry -/
def g_T (o : q_LS) (f t : Nat) (X : Int64) (i j : Nat) : Bool := q_has o.1 i f && (q_has o.1 t j && q_bet o.1 o.2 (20 * i + j) (o.1 (20 * i + f) + X + o.1 (20 * t + j)) (o.2 (20 * i + f) + nI 1 + o.2 (20 * t + j)))
def g_N (o : q_LS) (f t : Nat) (X : Int64) (i j : Nat) : Int64 × Int32 := if g_T o f t X i j = true then (o.1 (20 * i + f) + X + o.1 (20 * t + j), o.2 (20 * i + f) + nI 1 + o.2 (20 * t + j)) else (o.1 (20 * i + j), o.2 (20 * i + j))
def g_Pt (o : q_LS) (f t : Nat) (X : Int64) (i0 j0 : Nat) (d : q_LS) : Prop := ∀ i j, i < 20 → j < 20 → (d.1 (20 * i + j), d.2 (20 * i + j)) = if i < i0 ∨ (i = i0 ∧ j < j0) then g_N o f t X i j else (o.1 (20 * i + j), o.2 (20 * i + j))
theorem g_inner {o : q_LS} {f t : Nat} {X : Int64} (ht : t < 20) (S2 : ∀ j, j < 20 → g_T o f t X t j = false) {i0 : Nat} (hi0 : i0 < 20) (hh : q_has o.1 i0 f = true) (d : q_LS) (h0 : g_Pt o f t X i0 0 d) : ∀ j0, j0 ≤ 20 → g_Pt o f t X i0 j0 (q_it (q_pJ i0 t (o.1 (20 * i0 + f) + X) (o.2 (20 * i0 + f) + nI 1)) j0 d) := by
  intro j0
  induction j0 with
  | zero => intro _; exact h0
  | succ j0 ih =>
    intro hj
    have hp := ih (by omega)
    rw [q_it]
    generalize q_it (q_pJ i0 t (o.1 (20 * i0 + f) + X) (o.2 (20 * i0 + f) + nI 1)) j0 d = g at hp ⊢
    have e1 : g.1 (20 * t + j0) = o.1 (20 * t + j0) ∧ g.2 (20 * t + j0) = o.2 (20 * t + j0) := by
      have h9 := hp t j0 ht (by omega)
      rw [g_N, S2 j0 (by omega)] at h9
      simp at h9
      exact h9
    have e2 : g.1 (20 * i0 + j0) = o.1 (20 * i0 + j0) ∧ g.2 (20 * i0 + j0) = o.2 (20 * i0 + j0) := by
      have h9 := hp i0 j0 hi0 (by omega)
      rw [if_neg (by omega)] at h9
      simp at h9
      exact h9
    -- what is wanted where nothing is written
    have same : g_T o f t X i0 j0 = false → g_Pt o f t X i0 (j0 + 1) g := by
      intro hT i j hi hj2
      by_cases hij : i = i0 ∧ j = j0
      · obtain ⟨rfl, rfl⟩ := hij
        rw [if_pos (Or.inr ⟨rfl, by omega⟩), g_N, hT, e2.1, e2.2]
        simp
      · rw [hp i j hi hj2]
        by_cases hc : i < i0 ∨ (i = i0 ∧ j < j0)
        · rw [if_pos hc, if_pos (by omega)]
        · rw [if_neg hc, if_neg (by omega)]
    rw [q_pJ]
    have hb : q_bet g.1 g.2 (20 * i0 + j0) (o.1 (20 * i0 + f) + X + g.1 (20 * t + j0)) (o.2 (20 * i0 + f) + nI 1 + g.2 (20 * t + j0)) = q_bet o.1 o.2 (20 * i0 + j0) (o.1 (20 * i0 + f) + X + o.1 (20 * t + j0)) (o.2 (20 * i0 + f) + nI 1 + o.2 (20 * t + j0)) := by
      rw [e1.1, e1.2, q_bet, q_bet, e2.1, e2.2]
    have hh2 : q_has g.1 t j0 = q_has o.1 t j0 := by rw [q_has, q_has, e1.1]
    rw [hh2, hb]
    by_cases c1 : q_has o.1 t j0 = false
    · rw [if_pos c1]
      exact same (by simp [g_T, c1])
    · rw [if_neg c1]
      by_cases c2 : q_bet o.1 o.2 (20 * i0 + j0) (o.1 (20 * i0 + f) + X + o.1 (20 * t + j0)) (o.2 (20 * i0 + f) + nI 1 + o.2 (20 * t + j0)) = false
      · rw [if_pos c2]
        exact same (by simp [g_T, c2])
      · rw [if_neg c2]
        have hT : g_T o f t X i0 j0 = true := by
          simp only [Bool.not_eq_false] at c1 c2
          simp [g_T, hh, c1, c2]
        intro i j hi hj2
        by_cases hij : i = i0 ∧ j = j0
        · obtain ⟨rfl, rfl⟩ := hij
          show (vp_updL g.1 _ _ (20 * i + j), upd g.2 _ _ (20 * i + j)) = _
          rw [if_pos (Or.inr ⟨rfl, by omega⟩), g_N, if_pos hT, pk_uLs, pk_us, e1.1, e1.2]
        · have hne : 20 * i + j ≠ 20 * i0 + j0 := by omega
          show (vp_updL g.1 _ _ (20 * i + j), upd g.2 _ _ (20 * i + j)) = _
          rw [pk_uLn hne, pk_un hne, hp i j hi hj2]
          by_cases hc : i < i0 ∨ (i = i0 ∧ j < j0)
          · rw [if_pos hc, if_pos (by omega)]
          · rw [if_neg hc, if_neg (by omega)]
theorem g_outer {o : q_LS} {f t : Nat} {X : Int64} (hf : f < 20) (ht : t < 20) (S2 : ∀ j, j < 20 → g_T o f t X t j = false) : ∀ i0, i0 ≤ 20 → g_Pt o f t X i0 0 (q_it (q_pI f t X) i0 o) := by
  intro i0
  induction i0 with
  | zero => intro _ i j hi hj; rw [if_neg (by omega)]; rfl
  | succ i0 ih =>
    intro hi0
    have hp := ih (by omega)
    rw [q_it]
    generalize q_it (q_pI f t X) i0 o = g at hp ⊢
    have e1 : g.1 (20 * i0 + f) = o.1 (20 * i0 + f) ∧ g.2 (20 * i0 + f) = o.2 (20 * i0 + f) := by
      have h9 := hp i0 f (by omega) hf
      rw [if_neg (by omega)] at h9
      simp at h9
      exact h9
    rw [q_pI, show q_has g.1 i0 f = q_has o.1 i0 f by rw [q_has, q_has, e1.1], e1.1, e1.2]
    by_cases c1 : q_has o.1 i0 f = false
    · rw [if_pos c1]
      intro i j hi hj
      rw [hp i j hi hj]
      by_cases hc : i < i0 ∨ (i = i0 ∧ j < 0)
      · rw [if_pos hc, if_pos (by omega)]
      · rw [if_neg hc]
        by_cases hii : i = i0
        · subst hii
          rw [if_pos (by omega), g_N, show g_T o f t X i j = false by simp [g_T, c1]]
          simp
        · rw [if_neg (by omega)]
    · rw [if_neg c1]
      have h9 := g_inner ht S2 (show i0 < 20 by omega) (by simpa using c1) g hp 20 (Nat.le_refl 20)
      intro i j hi hj
      rw [h9 i j hi hj]
      by_cases hc : i < i0 ∨ (i = i0 ∧ j < 20)
      · rw [if_pos hc, if_pos (by omega)]
      · rw [if_neg hc, if_neg (by omega)]
end
section
set_option maxHeartbeats 4000000 in
theorem g_pA {Ed Ed' : Nat → Nat → Int → Prop} {o : q_LS} (h : g_DI Ed o) (hE : g_EV Ed) {f t : Nat} {X : Int64} (hf : f < 20) (ht : t < 20) (hX1 : -1000000000000 ≤ X.toInt) (hX2 : X.toInt ≤ 1000000000000) (hc : g_f o.1 t f → 0 ≤ (o.1 (20 * t + f)).toInt + X.toInt) (hE' : ∀ u v c, Ed' u v c ↔ Ed u v c ∨ (u = f ∧ v = t ∧ c = X.toInt)) : g_DI Ed' (q_pA f t X o) := by
  have hEV' : g_EV Ed' := fun u v c e => by
    rcases (hE' u v c).mp e with e | ⟨rfl, rfl, rfl⟩
    · exact hE _ _ _ e
    · exact ⟨hf, ht, hX1, hX2⟩
  have mono : ∀ u v c, Ed u v c → Ed' u v c := fun u v c e => (hE' u v c).mpr (Or.inl e)
  have hnew : Ed' f t X.toInt := (hE' _ _ _).mpr (Or.inr ⟨rfl, rfl, rfl⟩)
  have htri := g_tri h hE
  have hcK : g_f o.1 t f → 0 ≤ g_k o.1 o.2 t f + 1000 * X.toInt := fun hq => by
    obtain ⟨s, -, -, -, h4, -⟩ := g_fb h hE ht hf hq
    have := hc hq
    omega
  have nw : ∀ i j, i < 20 → j < 20 → g_f o.1 i f → g_f o.1 t j → ∃ s1 s2 : Nat, s1 ≤ 19 ∧ s2 ≤ 19 ∧ o.2 (20 * i + f) + nI 1 + o.2 (20 * t + j) = nI (s1 + 1 + s2) ∧ (o.2 (20 * i + f) + nI 1 + o.2 (20 * t + j)).toInt = s1 + 1 + s2 ∧ 1000 * (o.1 (20 * i + f) + X + o.1 (20 * t + j)).toInt + (s1 + 1 + s2) = g_k o.1 o.2 i f + (1000 * X.toInt + 1) + g_k o.1 o.2 t j ∧ g_W Ed' (s1 + 1 + s2) i j (o.1 (20 * i + f) + X + o.1 (20 * t + j)).toInt ∧ (o.1 (20 * i + f) + X + o.1 (20 * t + j)).toInt < 9223372036854775807 := by
    intro i j hi hj h1 h2
    obtain ⟨s1, a1, a2, a3, a4, a5, a6, a7⟩ := g_fb h hE hi hf h1
    obtain ⟨s2, b1, b2, b3, b4, b5, b6, b7⟩ := g_fb h hE ht hj h2
    have e1 : (o.1 (20 * i + f) + X).toInt = (o.1 (20 * i + f)).toInt + X.toInt := Jvm.Kit.i64_add (by omega) (by omega)
    have e2 : (o.1 (20 * i + f) + X + o.1 (20 * t + j)).toInt = (o.1 (20 * i + f)).toInt + X.toInt + (o.1 (20 * t + j)).toInt := by
      rw [Jvm.Kit.i64_add (by omega) (by omega), e1]
    have e3 : o.2 (20 * i + f) + nI 1 + o.2 (20 * t + j) = nI (s1 + 1 + s2) := by rw [a2, b2, nI_add, nI_add]
    refine ⟨s1, s2, a1, b1, e3, by rw [e3, nI_toInt (by omega)]; push_cast; rfl, by rw [e2, a4, b4]; omega, ?_, by rw [e2]; omega⟩
    have w := g_W_app (g_W_app (g_W_mono mono _ _ _ _ b5) 1 f X.toInt (g_W_one hnew)) s1 i _ (g_W_mono mono _ _ _ _ a5)
    rw [e2, Nat.add_assoc, Int.add_assoc]
    exact w
  have hT : ∀ i j, i < 20 → j < 20 → (g_T o f t X i j = true ↔ (g_f o.1 i f ∧ g_f o.1 t j ∧ (g_f o.1 i j → g_k o.1 o.2 i f + (1000 * X.toInt + 1) + g_k o.1 o.2 t j < g_k o.1 o.2 i j))) := by
    intro i j hi hj
    simp only [g_T, Bool.and_eq_true, q_has_iff, q_bet_iff]
    refine ⟨fun ⟨h1, h2, h3⟩ => ⟨h1, h2, fun h4 => ?_⟩, fun ⟨h1, h2, h3⟩ => ⟨h1, h2, ?_⟩⟩
    · obtain ⟨s1, s2, a1, a2, a3, a4, a5, a6, a7⟩ := nw i j hi hj h1 h2
      obtain ⟨s, b1, b2, b3, b4, b5, b6⟩ := g_fb h hE hi hj h4
      rw [a4, b3] at h3
      rw [← a5, b4]
      omega
    · obtain ⟨s1, s2, a1, a2, a3, a4, a5, a6, a7⟩ := nw i j hi hj h1 h2
      rw [a4]
      by_cases h4 : g_f o.1 i j
      · obtain ⟨s, b1, b2, b3, b4, b5, b6⟩ := g_fb h hE hi hj h4
        have h5 := h3 h4
        rw [← a5, b4] at h5
        rw [b3]
        omega
      · have h5 : o.1 (20 * i + j) = q_nev := by simpa [g_f] using h4
        rw [h5, q_nev_toInt]
        omega
  have S2 : ∀ j, j < 20 → g_T o f t X t j = false := by
    intro j hj
    cases hq : g_T o f t X t j with
    | false => rfl
    | true =>
      obtain ⟨h1, h2, h3⟩ := (hT t j ht hj).mp hq
      have := h3 h2
      have := hcK h1
      omega
  rw [q_pA]
  by_cases hb : q_bet o.1 o.2 (20 * f + t) X (nI 1) = false
  · rw [if_pos hb]
    have hb2 : ¬ (X.toInt < (o.1 (20 * f + t)).toInt ∨ (X.toInt = (o.1 (20 * f + t)).toInt ∧ (nI 1).toInt < (o.2 (20 * f + t)).toInt)) := fun q => by
      rw [← q_bet_iff] at q
      rw [q] at hb
      cases hb
    have h1n : (nI 1).toInt = 1 := by decide
    rw [h1n] at hb2
    have h1 : g_f o.1 f t := fun q => hb2 (Or.inl (by rw [q, q_nev_toInt]; omega))
    obtain ⟨s, b1, b2, b3, b4, b5, b6⟩ := g_fb h hE hf ht h1
    rw [b3] at hb2
    refine ⟨g_add0 h.1 hf ht (fun u v c e => (hE' u v c).mp e) htri h1 (by rw [b4]; omega), fun i j hi hj hq => ?_⟩
    obtain ⟨s, c1, c2, c3⟩ := h.2 i j hi hj hq
    exact ⟨s, c1, c2, g_W_mono mono _ _ _ _ c3⟩
  · rw [if_neg hb]
    have hp := g_outer hf ht S2 20 (Nat.le_refl 20)
    generalize q_it (q_pI f t X) 20 o = d at hp ⊢
    have dT : ∀ i j, i < 20 → j < 20 → g_T o f t X i j = true → d.1 (20 * i + j) = o.1 (20 * i + f) + X + o.1 (20 * t + j) ∧ d.2 (20 * i + j) = o.2 (20 * i + f) + nI 1 + o.2 (20 * t + j) := fun i j hi hj hq => by
      have h9 := hp i j hi hj
      rw [if_pos (Or.inl hi), g_N, if_pos hq] at h9
      simpa using h9
    have dF : ∀ i j, i < 20 → j < 20 → g_T o f t X i j = false → d.1 (20 * i + j) = o.1 (20 * i + j) ∧ d.2 (20 * i + j) = o.2 (20 * i + j) := fun i j hi hj hq => by
      have h9 := hp i j hi hj
      rw [if_pos (Or.inl hi), g_N, hq] at h9
      simpa using h9
    -- the new entry's key
    have kT : ∀ i j, i < 20 → j < 20 → g_T o f t X i j = true → g_f d.1 i j ∧ g_k d.1 d.2 i j = g_k o.1 o.2 i f + (1000 * X.toInt + 1) + g_k o.1 o.2 t j ∧ ∃ s : Nat, s ≤ 39 ∧ d.2 (20 * i + j) = nI s ∧ g_k d.1 d.2 i j = 1000 * (d.1 (20 * i + j)).toInt + s ∧ g_W Ed' s i j (d.1 (20 * i + j)).toInt := fun i j hi hj hq => by
      obtain ⟨h1, h2, h3⟩ := (hT i j hi hj).mp hq
      obtain ⟨s1, s2, a1, a2, a3, a4, a5, a6, a7⟩ := nw i j hi hj h1 h2
      obtain ⟨e1, e2⟩ := dT i j hi hj hq
      have k1 : g_k d.1 d.2 i j = 1000 * (d.1 (20 * i + j)).toInt + ((s1 + 1 + s2 : Nat) : Int) := by
        rw [g_k, e2, a4]
        push_cast
        rfl
      refine ⟨fun q => ?_, ?_, s1 + 1 + s2, by omega, by rw [e2, a3], k1, by rw [e1]; exact a6⟩
      · rw [e1] at q
        rw [q, q_nev_toInt] at a7
        omega
      · rw [k1, e1, ← a5]
        push_cast
        omega
    have kF : ∀ i j, i < 20 → j < 20 → g_T o f t X i j = false → (g_f d.1 i j ↔ g_f o.1 i j) ∧ g_k d.1 d.2 i j = g_k o.1 o.2 i j := fun i j hi hj hq => by
      obtain ⟨e1, e2⟩ := dF i j hi hj hq
      exact ⟨by rw [g_f, g_f, e1], by rw [g_k, g_k, e1, e2]⟩
    have hcl : g_cl Ed' (g_f d.1) (g_k d.1 d.2) := by
      refine g_add h.1 hf ht (fun u v c e => (hE' u v c).mp e) hE htri hcK (fun i j hi hj h1 => ?_) (fun i j hi hj h1 h2 => ?_) (fun i j hi hj h1 => ?_)
      · cases hq : g_T o f t X i j with
        | false =>
          obtain ⟨k1, k2⟩ := kF i j hi hj hq
          exact ⟨k1.mpr h1, by rw [k2]; omega⟩
        | true =>
          obtain ⟨k1, k2, -⟩ := kT i j hi hj hq
          have := ((hT i j hi hj).mp hq).2.2 h1
          exact ⟨k1, by rw [k2]; omega⟩
      · cases hq : g_T o f t X i j with
        | false =>
          obtain ⟨k1, k2⟩ := kF i j hi hj hq
          have h9 : ¬ (g_f o.1 i j → g_k o.1 o.2 i f + (1000 * X.toInt + 1) + g_k o.1 o.2 t j < g_k o.1 o.2 i j) := fun q => by
            have := (hT i j hi hj).mpr ⟨h1, h2, q⟩
            rw [hq] at this
            cases this
          have h8 : g_f o.1 i j := Classical.byContradiction fun q => h9 (fun q2 => absurd q2 q)
          have h7 : ¬ g_k o.1 o.2 i f + (1000 * X.toInt + 1) + g_k o.1 o.2 t j < g_k o.1 o.2 i j := fun q => h9 (fun _ => q)
          exact ⟨k1.mpr h8, by rw [k2]; omega⟩
        | true =>
          obtain ⟨k1, k2, -⟩ := kT i j hi hj hq
          exact ⟨k1, by rw [k2]; omega⟩
      · cases hq : g_T o f t X i j with
        | false =>
          obtain ⟨k1, k2⟩ := kF i j hi hj hq
          exact Or.inl ⟨k1.mp h1, k2⟩
        | true =>
          obtain ⟨k1, k2, -⟩ := kT i j hi hj hq
          obtain ⟨q1, q2, -⟩ := (hT i j hi hj).mp hq
          exact Or.inr ⟨q1, q2, k2⟩
    refine ⟨hcl, fun i j hi hj h1 => ?_⟩
    cases hq : g_T o f t X i j with
    | false =>
      obtain ⟨k1, k2⟩ := kF i j hi hj hq
      obtain ⟨e1, e2⟩ := dF i j hi hj hq
      obtain ⟨s, c1, c2, c3⟩ := h.2 i j hi hj (k1.mp h1)
      exact ⟨s, c1, by rw [e2]; exact c2, by rw [e1]; exact g_W_mono mono _ _ _ _ c3⟩
    | true =>
      obtain ⟨k1, k2, s, c1, c2, c3, c4⟩ := kT i j hi hj hq
      exact ⟨s, g_ph hcl hEV' hi hj c3 (by omega) c4, c2, c4⟩
end
section
/-! PLAIN LAW 3: direct; the constraints' graph; takes, anew -/
def g_ed (n : Nat) (fr tt : Nat → Nat) (cc : Nat → Int64) (on : Nat → Bool) (u v : Nat) (c : Int) : Prop := ∃ k, k < n ∧ on k = true ∧ fr k = u ∧ tt k = v ∧ (cc k).toInt = c
def g_Dr (Ed : Nat → Nat → Int → Prop) (dir : Nat → Int64) : Prop := ∀ u v, u < 20 → v < 20 → (dir (20 * u + v) ≠ q_nev → Ed u v (dir (20 * u + v)).toInt) ∧ ∀ c, Ed u v c → dir (20 * u + v) ≠ q_nev ∧ (dir (20 * u + v)).toInt ≤ c
theorem g_NN {Ed : Nat → Nat → Int → Prop} {F : Nat → Nat → Prop} {K : Nat → Nat → Int} (h : g_cl Ed F K) {s v : Nat} {l : Int} (hv : v < 20) (hs : s < 1000) (w : g_W Ed s v v l) : 0 ≤ l := by
  have h1 := (g_lb0 h hv w).2
  have h2 := (h.1 v hv).2
  omega
theorem q_min_toInt (x y : Int64) : (q_min x y).toInt = if y.toInt < x.toInt then y.toInt else x.toInt := by
  rw [q_min]
  by_cases h : y < x
  · rw [if_pos h, if_pos (Int64.lt_iff_toInt_lt.mp h)]
  · rw [if_neg h, if_neg (fun q => h (Int64.lt_iff_toInt_lt.mpr q))]
theorem q_nev_le (x : Int64) : x.toInt ≤ 9223372036854775807 := by
  have := x.toInt_lt
  omega
theorem q_ne_nev {x : Int64} (h : x.toInt < 9223372036854775807) : x ≠ q_nev := fun q => by
  rw [q, q_nev_toInt] at h
  omega
theorem q_nev_lt {x : Int64} (h : x ≠ q_nev) : x.toInt < 9223372036854775807 := by
  have h1 := q_nev_le x
  rcases Int.lt_or_eq_of_le h1 with h2 | h2
  · exact h2
  · exact absurd (Int64.toInt_inj.mp (by rw [h2, q_nev_toInt])) h
theorem g_tk {Ed Ed' : Nat → Nat → Int → Prop} {d : q_DL} (hd : g_Dr Ed d.1) (h : g_DI Ed d.2) (hE : g_EV Ed) {f t : Nat} {X : Int64} (hf : f < 20) (ht : t < 20) (hX1 : -1000000000000 ≤ X.toInt) (hX2 : X.toInt ≤ 1000000000000) (hc : g_f d.2.1 t f → 0 ≤ (d.2.1 (20 * t + f)).toInt + X.toInt) (hE' : ∀ u v c, Ed' u v c ↔ Ed u v c ∨ (u = f ∧ v = t ∧ c = X.toInt)) : g_Dr Ed' (q_tk f t X d).1 ∧ g_DI Ed' (q_tk f t X d).2 := by
  refine ⟨fun u v hu hv => ?_, g_pA h hE hf ht hX1 hX2 hc hE'⟩
  obtain ⟨h1, h2⟩ := hd u v hu hv
  show (vp_updL d.1 (20 * f + t) (q_min (d.1 (20 * f + t)) X) (20 * u + v) ≠ q_nev → _) ∧ _
  by_cases huv : u = f ∧ v = t
  · obtain ⟨rfl, rfl⟩ := huv
    have e1 : (q_tk u v X d).1 (20 * u + v) = q_min (d.1 (20 * u + v)) X := pk_uLs
    have e2 := q_min_toInt (d.1 (20 * u + v)) X
    rw [pk_uLs]
    refine ⟨fun hq => ?_, fun c e => ?_⟩
    · rw [e1, e2]
      by_cases hx : X.toInt < (d.1 (20 * u + v)).toInt
      · rw [if_pos hx]
        exact (hE' _ _ _).mpr (Or.inr ⟨rfl, rfl, rfl⟩)
      · rw [if_neg hx]
        exact (hE' _ _ _).mpr (Or.inl (h1 (q_ne_nev (by omega))))
    · rw [e1]
      have h3 : (q_min (d.1 (20 * u + v)) X).toInt ≤ X.toInt := by
        rw [e2]
        by_cases hx : X.toInt < (d.1 (20 * u + v)).toInt
        · rw [if_pos hx]; omega
        · rw [if_neg hx]; omega
      have h4 : (q_min (d.1 (20 * u + v)) X).toInt ≤ (d.1 (20 * u + v)).toInt := by
        rw [e2]
        by_cases hx : X.toInt < (d.1 (20 * u + v)).toInt
        · rw [if_pos hx]; omega
        · rw [if_neg hx]; omega
      refine ⟨q_ne_nev (by omega), ?_⟩
      rcases (hE' _ _ _).mp e with e | ⟨-, -, rfl⟩
      · have := (h2 c e).2
        omega
      · exact h3
  · have hne : 20 * u + v ≠ 20 * f + t := by omega
    have e1 : (q_tk f t X d).1 (20 * u + v) = d.1 (20 * u + v) := pk_uLn hne
    rw [pk_uLn hne, e1]
    refine ⟨fun hq => (hE' _ _ _).mpr (Or.inl (h1 hq)), fun c e => ?_⟩
    rcases (hE' _ _ _).mp e with e | ⟨q1, q2, -⟩
    · exact h2 c e
    · exact absurd ⟨q1, q2⟩ huv
theorem q_it_updL (v : Nat → Int64) (f : Nat → Int64) : ∀ (k x : Nat), q_it (fun j g => vp_updL g j (v j)) k f x = if x < k then v x else f x := by
  intro k
  induction k with
  | zero => intro x; rw [if_neg (by omega)]; rfl
  | succ k ih =>
    intro x
    rw [q_it]
    by_cases hx : x = k
    · subst hx
      rw [pk_uLs, if_pos (by omega)]
    · rw [pk_uLn hx, ih x]
      by_cases hl : x < k
      · rw [if_pos hl, if_pos (by omega)]
      · rw [if_neg hl, if_neg (by omega)]
theorem q_it_cS (d : q_LS) : ∀ (k x : Nat), (q_it q_cS k d).1 x = (if x < k then (if x % 21 = 0 then 0 else q_nev) else d.1 x) ∧ (q_it q_cS k d).2 x = (if x < k then nI 0 else d.2 x) := by
  intro k
  induction k with
  | zero => intro x; rw [if_neg (by omega), if_neg (by omega)]; exact ⟨rfl, rfl⟩
  | succ k ih =>
    intro x
    rw [q_it]
    show vp_updL (q_it q_cS k d).1 k _ x = _ ∧ upd (q_it q_cS k d).2 k _ x = _
    by_cases hx : x = k
    · subst hx
      have h1 : x < x + 1 := by omega
      rw [pk_uLs, pk_us, if_pos h1, if_pos h1]
      exact ⟨rfl, rfl⟩
    · rw [pk_uLn hx, pk_un hx, (ih x).1, (ih x).2]
      by_cases hl : x < k
      · have h1 : x < k + 1 := by omega
        rw [if_pos hl, if_pos hl, if_pos h1, if_pos h1]
        exact ⟨rfl, rfl⟩
      · have h1 : ¬ x < k + 1 := by omega
        rw [if_neg hl, if_neg hl, if_neg h1, if_neg h1]
        exact ⟨rfl, rfl⟩
theorem g_ed_eq {Ed Ed' : Nat → Nat → Int → Prop} (h : ∀ u v c, Ed u v c ↔ Ed' u v c) : Ed = Ed' := by
  funext u v c
  exact propext (h u v c)
section AN
variable {n : Nat} {fr tt : Nat → Nat} {cc : Nat → Int64} {on : Nat → Bool}
theorem g_ed_sub {m : Nat} (hm : m ≤ n) : ∀ u v c, g_ed m fr tt cc on u v c → g_ed n fr tt cc on u v c := fun u v c ⟨k, h1, h2⟩ => ⟨k, by omega, h2⟩
theorem g_ed_succ (m : Nat) (u v : Nat) (c : Int) : g_ed (m + 1) fr tt cc on u v c ↔ g_ed m fr tt cc on u v c ∨ (on m = true ∧ u = fr m ∧ v = tt m ∧ c = (cc m).toInt) := by
  refine ⟨fun ⟨k, h1, h2, h3, h4, h5⟩ => ?_, fun h => ?_⟩
  · by_cases hk : k = m
    · subst hk
      exact Or.inr ⟨h2, h3.symm, h4.symm, h5.symm⟩
    · exact Or.inl ⟨k, by omega, h2, h3, h4, h5⟩
  · rcases h with ⟨k, h1, h2⟩ | ⟨h2, h3, h4, h5⟩
    · exact ⟨k, by omega, h2⟩
    · exact ⟨m, by omega, h2, h3.symm, h4.symm, h5.symm⟩
theorem g_EV_sub {Ed Ed' : Nat → Nat → Int → Prop} (h : ∀ u v c, Ed u v c → Ed' u v c) (hE : g_EV Ed') : g_EV Ed := fun u v c e => hE u v c (h u v c e)
theorem g_an0 (d : q_DL) : g_Dr (g_ed 0 fr tt cc on) (q_dn d.1) ∧ g_DI (g_ed 0 fr tt cc on) (q_clr d.2) := by
  have none : ∀ u v c, ¬ g_ed 0 fr tt cc on u v c := fun u v c ⟨k, h, _⟩ => by omega
  have hl : ∀ i j, i < 20 → j < 20 → (q_clr d.2).1 (20 * i + j) = (if i = j then 0 else q_nev) ∧ (q_clr d.2).2 (20 * i + j) = nI 0 := fun i j hi hj => by
    obtain ⟨h1, h2⟩ := q_it_cS d.2 400 (20 * i + j)
    rw [if_pos (by omega)] at h1 h2
    refine ⟨?_, h2⟩
    rw [q_clr, h1]
    by_cases hij : i = j
    · rw [if_pos (by omega), if_pos hij]
    · rw [if_neg (by omega), if_neg hij]
  refine ⟨fun u v hu hv => ⟨fun hq => absurd (show q_dn d.1 (20 * u + v) = q_nev from ?_) hq, fun c e => absurd e (none u v c)⟩, ⟨fun j hj => ?_, fun u v c e => absurd e (none u v c)⟩, fun i j hi hj hq => ?_⟩
  · rw [q_dn, q_it_updL (fun _ => q_nev), if_pos (by omega)]
  · obtain ⟨h1, h2⟩ := hl j j hj hj
    rw [if_pos rfl] at h1
    refine ⟨?_, ?_⟩
    · rw [g_f, h1]
      decide
    · rw [g_k, h1, h2]
      decide
  · obtain ⟨h1, h2⟩ := hl i j hi hj
    by_cases hij : i = j
    · subst hij
      rw [if_pos rfl] at h1
      exact ⟨0, by omega, h2, rfl, by rw [h1]; decide⟩
    · rw [if_neg hij] at h1
      exact absurd h1 hq
/-- anew: from a graph without a bad cycle -/
theorem g_anew (d : q_DL) (hE : g_EV (g_ed n fr tt cc on)) (hN : ∀ (s v : Nat) (l : Int), v < 20 → s ≤ 20 → g_W (g_ed n fr tt cc on) s v v l → 0 ≤ l) : g_Dr (g_ed n fr tt cc on) (q_new n fr tt cc on d).1 ∧ g_DI (g_ed n fr tt cc on) (q_new n fr tt cc on d).2 := by
  have key : ∀ m, m ≤ n → g_Dr (g_ed m fr tt cc on) (q_it (q_an fr tt cc on) m (q_dn d.1, q_clr d.2)).1 ∧ g_DI (g_ed m fr tt cc on) (q_it (q_an fr tt cc on) m (q_dn d.1, q_clr d.2)).2 := by
    intro m
    induction m with
    | zero => intro _; exact g_an0 d
    | succ m ih =>
      intro hm
      obtain ⟨h1, h2⟩ := ih (by omega)
      rw [q_it]
      generalize q_it (q_an fr tt cc on) m (q_dn d.1, q_clr d.2) = g at h1 h2 ⊢
      rw [q_an]
      by_cases ho : on m = false
      · rw [if_pos ho, g_ed_eq (Ed := g_ed (m + 1) fr tt cc on) (Ed' := g_ed m fr tt cc on) (fun u v c => by rw [g_ed_succ]; simp [ho])]
        exact ⟨h1, h2⟩
      · have ho : on m = true := by simpa using ho
        rw [if_neg (by rw [ho]; decide)]
        have hm1 : g_ed n fr tt cc on (fr m) (tt m) (cc m).toInt := ⟨m, by omega, ho, rfl, rfl, rfl⟩
        obtain ⟨b1, b2, b3, b4⟩ := hE _ _ _ hm1
        have hEm := g_EV_sub (g_ed_sub (n := n) (fr := fr) (tt := tt) (cc := cc) (on := on) (show m ≤ n by omega)) hE
        refine g_tk h1 h2 hEm b1 b2 b3 b4 (fun hq => ?_) (fun u v c => by rw [g_ed_succ]; simp [ho])
        obtain ⟨s, q1, -, q3⟩ := h2.2 _ _ b2 b1 hq
        have w : g_W (g_ed n fr tt cc on) (s + 1) (fr m) (fr m) ((g.2.1 (20 * tt m + fr m)).toInt + (cc m).toInt) := by
          refine ⟨_, _, hm1, ?_⟩
          rw [show (g.2.1 (20 * tt m + fr m)).toInt + (cc m).toInt - (cc m).toInt = (g.2.1 (20 * tt m + fr m)).toInt by omega]
          exact g_W_mono (g_ed_sub (by omega)) _ _ _ _ q3
        exact hN _ _ _ b1 (by omega) w
  exact key n (Nat.le_refl n)
end AN
end
section
/-! PLAIN LAW 4: the model's least lengths by steps, its best, its step -/
def g_row (Ed : Nat → Nat → Int → Prop) (j : Nat) (g : Nat → Int64) (s : Nat) : Prop := ∀ v, v < 20 → (g (20 * s + v) ≠ q_nev → g_W Ed s v j (g (20 * s + v)).toInt) ∧ ∀ l, g_W Ed s v j l → g (20 * s + v) ≠ q_nev ∧ (g (20 * s + v)).toInt ≤ l
theorem q_it_b1 (s : Nat) (g : Nat → Int64) : ∀ (k x : Nat), q_it (q_b1 s) k g x = if 20 * s ≤ x ∧ x < 20 * s + k then q_nev else g x := by
  intro k
  induction k with
  | zero => intro x; rw [if_neg (by omega)]; rfl
  | succ k ih =>
    intro x
    rw [q_it, q_b1]
    by_cases hx : x = 20 * s + k
    · subst hx
      rw [pk_uLs, if_pos (by omega)]
    · rw [pk_uLn hx, ih x]
      by_cases hl : 20 * s ≤ x ∧ x < 20 * s + k
      · rw [if_pos hl, if_pos (by omega)]
      · rw [if_neg hl, if_neg (by omega)]
section LST
variable {n : Nat} {fr tt : Nat → Nat} {cc : Nat → Int64} {on : Nat → Bool}
/-- one row more: k constraints have been looked at -/
def g_RK (fr tt : Nat → Nat) (cc : Nat → Int64) (on : Nat → Bool) (m : Nat) (g0 g : Nat → Int64) (k : Nat) : Prop :=
  (∀ x, (x < 20 * (m + 1) ∨ 20 * (m + 1) + 20 ≤ x) → g x = g0 x) ∧ ∀ v, v < 20 → (g (20 * (m + 1) + v) ≠ q_nev → ∃ k', k' < k ∧ on k' = true ∧ fr k' = v ∧ g0 (20 * m + tt k') ≠ q_nev ∧ (g (20 * (m + 1) + v)).toInt = (cc k').toInt + (g0 (20 * m + tt k')).toInt) ∧ ∀ k', k' < k → on k' = true → fr k' = v → g0 (20 * m + tt k') ≠ q_nev → (g (20 * (m + 1) + v)).toInt ≤ (cc k').toInt + (g0 (20 * m + tt k')).toInt
theorem g_rk (hE : g_EV (g_ed n fr tt cc on)) {m j : Nat} (hm : m < 20) {g0 : Nat → Int64} (hr : g_row (g_ed n fr tt cc on) j g0 m) : ∀ k, k ≤ n → g_RK fr tt cc on m g0 (q_it (q_b2 fr tt cc on (m + 1)) k (q_it (q_b1 (m + 1)) 20 g0)) k := by
  intro k
  induction k with
  | zero =>
    intro _
    rw [q_it]
    refine ⟨fun x hx => by rw [q_it_b1, if_neg (by omega)], fun v hv => ⟨fun hq => absurd (by rw [q_it_b1, if_pos (by omega)]) hq, fun k' h => by omega⟩⟩
  | succ k ih =>
    intro hk
    obtain ⟨h1, h2⟩ := ih (by omega)
    rw [q_it]
    generalize q_it (q_b2 fr tt cc on (m + 1)) k (q_it (q_b1 (m + 1)) 20 g0) = g at h1 h2 ⊢
    rw [q_b2, Nat.add_sub_cancel]
    by_cases ho : on k = true
    · obtain ⟨b1, b2, b3, b4⟩ := hE _ _ _ (show g_ed n fr tt cc on (fr k) (tt k) (cc k).toInt from ⟨k, by omega, ho, rfl, rfl, rfl⟩)
      have e0 : g (20 * m + tt k) = g0 (20 * m + tt k) := h1 _ (by omega)
      rw [e0]
      have sum : g0 (20 * m + tt k) ≠ q_nev → (cc k + g0 (20 * m + tt k)).toInt = (cc k).toInt + (g0 (20 * m + tt k)).toInt := fun hq => by
        have := g_W_bd hE _ _ _ _ ((hr (tt k) b2).1 hq)
        exact Jvm.Kit.i64_add (by omega) (by omega)
      by_cases hc : on k = true ∧ ¬ g0 (20 * m + tt k) = q_nev ∧ cc k + g0 (20 * m + tt k) < g (20 * (m + 1) + fr k)
      · rw [if_pos hc]
        obtain ⟨-, c1, c2⟩ := hc
        have c3 := sum c1
        have c4 := Int64.lt_iff_toInt_lt.mp c2
        refine ⟨fun x hx => by rw [pk_uLn (by omega)]; exact h1 x hx, fun v hv => ?_⟩
        by_cases hv2 : v = fr k
        · subst hv2
          rw [pk_uLs]
          refine ⟨fun _ => ⟨k, by omega, ho, rfl, c1, c3⟩, fun k' hk' q1 q2 q3 => ?_⟩
          by_cases hkk : k' = k
          · subst hkk
            omega
          · have := (h2 (fr k) hv).2 k' (by omega) q1 q2 q3
            omega
        · rw [pk_uLn (by omega)]
          refine ⟨fun hq => ?_, fun k' hk' q1 q2 q3 => ?_⟩
          · obtain ⟨k', q1, q2⟩ := (h2 v hv).1 hq
            exact ⟨k', by omega, q2⟩
          · have hkk : k' ≠ k := fun q => by
              rw [q] at q2
              exact hv2 q2.symm
            exact (h2 v hv).2 k' (by omega) q1 q2 q3
      · rw [if_neg hc]
        refine ⟨h1, fun v hv => ⟨fun hq => ?_, fun k' hk' q1 q2 q3 => ?_⟩⟩
        · obtain ⟨k', q1, q2⟩ := (h2 v hv).1 hq
          exact ⟨k', by omega, q2⟩
        · by_cases hkk : k' = k
          · subst hkk
            have c3 := sum q3
            have c4 : ¬ cc k' + g0 (20 * m + tt k') < g (20 * (m + 1) + fr k') := fun q => hc ⟨ho, q3, q⟩
            rw [Int64.lt_iff_toInt_lt, q2] at c4
            omega
          · exact (h2 v hv).2 k' (by omega) q1 q2 q3
    · rw [if_neg (fun q => ho q.1)]
      refine ⟨h1, fun v hv => ⟨fun hq => ?_, fun k' hk' q1 q2 q3 => ?_⟩⟩
      · obtain ⟨k', q1, q2⟩ := (h2 v hv).1 hq
        exact ⟨k', by omega, q2⟩
      · by_cases hkk : k' = k
        · subst hkk
          exact absurd q1 ho
        · exact (h2 v hv).2 k' (by omega) q1 q2 q3
theorem g_lst (hE : g_EV (g_ed n fr tt cc on)) (j : Nat) (lst : Nat → Int64) : ∀ s, s ≤ 20 → g_row (g_ed n fr tt cc on) j (q_lst n fr tt cc on j lst) s := by
  have key : ∀ m, m ≤ 20 → ∀ s, s ≤ m → g_row (g_ed n fr tt cc on) j (q_it (q_b3 n fr tt cc on) m (q_it (q_b0 j) 20 lst)) s := by
    intro m
    induction m with
    | zero =>
      intro _ s hs v hv
      obtain rfl : s = 0 := by omega
      have e1 : q_it (q_b3 n fr tt cc on) 0 (q_it (q_b0 j) 20 lst) (20 * 0 + v) = if v = j then 0 else q_nev := by
        have h9 := q_it_updL (fun v => if v = j then 0 else q_nev) lst 20 v
        rw [if_pos hv] at h9
        rw [Nat.mul_zero, Nat.zero_add, q_it]
        exact h9
      rw [e1]
      by_cases hvj : v = j
      · rw [if_pos hvj]
        refine ⟨fun _ => ⟨hvj, by decide⟩, fun l w => ⟨by decide, ?_⟩⟩
        rw [w.2]
        decide
      · rw [if_neg hvj]
        exact ⟨fun q => absurd rfl q, fun l w => absurd w.1 hvj⟩
    | succ m ih =>
      intro hm s hs
      have hp := ih (by omega)
      rw [q_it]
      generalize q_it (q_b3 n fr tt cc on) m (q_it (q_b0 j) 20 lst) = g0 at hp ⊢
      have hrm := hp m (Nat.le_refl m)
      obtain ⟨r1, r2⟩ := g_rk hE (show m < 20 by omega) hrm n (Nat.le_refl n)
      rw [q_b3]
      generalize q_it (q_b2 fr tt cc on (m + 1)) n (q_it (q_b1 (m + 1)) 20 g0) = g at r1 r2 ⊢
      by_cases hsm : s = m + 1
      · subst hsm
        intro v hv
        refine ⟨fun hq => ?_, fun l w => ?_⟩
        · obtain ⟨k', q1, q2, q3, q4, q5⟩ := (r2 v hv).1 hq
          have e : g_ed n fr tt cc on v (tt k') (cc k').toInt := ⟨k', q1, q2, q3, rfl, rfl⟩
          refine ⟨tt k', (cc k').toInt, e, ?_⟩
          rw [q5, show (cc k').toInt + (g0 (20 * m + tt k')).toInt - (cc k').toInt = (g0 (20 * m + tt k')).toInt by omega]
          exact (hrm (tt k') (hE _ _ _ e).2.1).1 q4
        · obtain ⟨v', c, e, w⟩ := w
          have e' := e
          obtain ⟨k', q1, q2, q3, q4, q5⟩ := e'
          subst q4 q5
          obtain ⟨t1, t2⟩ := (hrm (tt k') (hE _ _ _ e).2.1).2 _ w
          have t3 := (r2 v hv).2 k' q1 q2 q3 t1
          have t4 := g_W_bd hE _ _ _ _ ((hrm (tt k') (hE _ _ _ e).2.1).1 t1)
          have t5 := hE _ _ _ e
          exact ⟨q_ne_nev (by omega), by omega⟩
      · intro v hv
        rw [r1 (20 * s + v) (by omega)]
        exact hp s (by omega) v hv
  intro s hs
  exact key 20 (Nat.le_refl 20) s hs
/-- the model's step is the class's direct -/
theorem g_step {dir : Nat → Int64} (hd : g_Dr (g_ed n fr tt cc on) dir) {u v : Nat} (hu : u < 20) (hv : v < 20) : q_step n fr tt cc on u v = dir (20 * u + v) := by
  have key : ∀ k, k ≤ n → (q_it (q_st fr tt cc on u v) k q_nev ≠ q_nev → ∃ k', k' < k ∧ on k' = true ∧ fr k' = u ∧ tt k' = v ∧ cc k' = q_it (q_st fr tt cc on u v) k q_nev) ∧ ∀ k', k' < k → on k' = true → fr k' = u → tt k' = v → (q_it (q_st fr tt cc on u v) k q_nev).toInt ≤ (cc k').toInt := by
    intro k
    induction k with
    | zero => intro _; exact ⟨fun h => absurd rfl h, fun k' h => by omega⟩
    | succ k ih =>
      intro hk
      obtain ⟨h1, h2⟩ := ih (by omega)
      rw [q_it]
      generalize q_it (q_st fr tt cc on u v) k q_nev = g at h1 h2 ⊢
      rw [q_st]
      by_cases hc : on k = true ∧ fr k = u ∧ tt k = v ∧ cc k < g
      · rw [if_pos hc]
        obtain ⟨c1, c2, c3, c4⟩ := hc
        have c5 := Int64.lt_iff_toInt_lt.mp c4
        refine ⟨fun _ => ⟨k, by omega, c1, c2, c3, rfl⟩, fun k' hk' q1 q2 q3 => ?_⟩
        by_cases hkk : k' = k
        · subst hkk; omega
        · have := h2 k' (by omega) q1 q2 q3
          omega
      · rw [if_neg hc]
        refine ⟨fun hq => ?_, fun k' hk' q1 q2 q3 => ?_⟩
        · obtain ⟨k', q1, q2⟩ := h1 hq
          exact ⟨k', by omega, q2⟩
        · by_cases hkk : k' = k
          · subst hkk
            have c4 : ¬ cc k' < g := fun q => hc ⟨q1, q2, q3, q⟩
            rw [Int64.lt_iff_toInt_lt] at c4
            omega
          · exact h2 k' (by omega) q1 q2 q3
  obtain ⟨h1, h2⟩ := key n (Nat.le_refl n)
  rw [q_step]
  generalize q_it (q_st fr tt cc on u v) n q_nev = g at h1 h2 ⊢
  obtain ⟨d1, d2⟩ := hd u v hu hv
  by_cases hq : dir (20 * u + v) = q_nev
  · rw [hq]
    by_cases hg : g = q_nev
    · exact hg
    · obtain ⟨k', q1, q2, q3, q4, q5⟩ := h1 hg
      exact absurd hq (d2 _ ⟨k', q1, q2, q3, q4, rfl⟩).1
  · obtain ⟨k1, q1, q2, q3, q4, q5⟩ := d1 hq
    have t1 := h2 k1 q1 q2 q3 q4
    have t2 := q_nev_lt hq
    have hg : g ≠ q_nev := q_ne_nev (by omega)
    obtain ⟨k', p1, p2, p3, p4, p5⟩ := h1 hg
    have t3 := (d2 _ ⟨k', p1, p2, p3, p4, rfl⟩).2
    rw [p5] at t3
    exact Int64.toInt_inj.mp (by omega)
end LST
/-- the entry of the row of its own steps is the best length -/
theorem g_at {Ed : Nat → Nat → Int → Prop} {d : q_LS} (h : g_DI Ed d) (hE : g_EV Ed) {j : Nat} (hj : j < 20) {g : Nat → Int64} {i : Nat} (hi : i < 20) (hf : g_f d.1 i j) {s : Nat} (hs : d.2 (20 * i + j) = nI s) (hs2 : s ≤ 20) (hM : g_row Ed j g s) : g (20 * s + i) = d.1 (20 * i + j) := by
  obtain ⟨s', a1, a2, a3, a4, a5, -⟩ := g_fb h hE hi hj hf
  obtain rfl : s' = s := (nI_eq (by omega) (by omega)).mp (a2.symm.trans hs)
  obtain ⟨h1, h2⟩ := (hM i hi).2 _ a5
  have h3 := (g_lb0 h.1 hj ((hM i hi).1 h1)).2
  rw [a4] at h3
  exact Int64.toInt_inj.mp (by omega)
theorem g_bst {Ed : Nat → Nat → Int → Prop} {d : q_LS} (h : g_DI Ed d) (hE : g_EV Ed) {j : Nat} (hj : j < 20) {g : Nat → Int64} (hM : ∀ s, s ≤ 20 → g_row Ed j g s) {i : Nat} (hi : i < 20) : (g_f d.1 i j → q_bst g i = (d.1 (20 * i + j), d.2 (20 * i + j))) ∧ (¬ g_f d.1 i j → q_bst g i = (q_nev, -1)) := by
  refine ⟨fun hf => ?_, fun hf => ?_⟩
  · obtain ⟨S, a1, a2, a3, a4, a5, a6, a7⟩ := g_fb h hE hi hj hf
    have hS := g_at h hE hj hi hf a2 (by omega) (hM S (by omega))
    have low : ∀ s, s ≤ 20 → (d.1 (20 * i + j)).toInt ≤ (g (20 * s + i)).toInt ∧ (s < S → (d.1 (20 * i + j)).toInt < (g (20 * s + i)).toInt) := fun s hs => by
      by_cases hq : g (20 * s + i) = q_nev
      · rw [hq, q_nev_toInt]
        exact ⟨by omega, fun _ => by omega⟩
      · have h3 := (g_lb0 h.1 hj ((hM s hs i hi).1 hq)).2
        rw [a4] at h3
        exact ⟨by omega, fun _ => by omega⟩
    have key : ∀ m, m ≤ 21 → (m ≤ S → (d.1 (20 * i + j)).toInt < (q_it (q_b4 g i) m (q_nev, -1)).1.toInt) ∧ (S < m → q_it (q_b4 g i) m (q_nev, -1) = (d.1 (20 * i + j), nI S)) := by
      intro m
      induction m with
      | zero =>
        intro _
        refine ⟨fun _ => ?_, fun hq => by omega⟩
        show _ < q_nev.toInt
        rw [q_nev_toInt]
        omega
      | succ m ih =>
        intro hm
        obtain ⟨h1, h2⟩ := ih (by omega)
        rw [q_it]
        generalize q_it (q_b4 g i) m (q_nev, -1) = e at h1 h2 ⊢
        obtain ⟨l1, l2⟩ := low m (by omega)
        rw [q_b4]
        rcases Nat.lt_trichotomy m S with hms | hms | hms
        · refine ⟨fun _ => ?_, fun hq => by omega⟩
          by_cases hc : g (20 * m + i) < e.1
          · rw [if_pos hc]
            exact l2 hms
          · rw [if_neg hc]
            exact h1 (by omega)
        · subst hms
          refine ⟨fun hq => by omega, fun _ => ?_⟩
          rw [hS, if_pos (Int64.lt_iff_toInt_lt.mpr (h1 (Nat.le_refl _)))]
        · refine ⟨fun hq => by omega, fun _ => ?_⟩
          rw [h2 hms, if_neg (fun q => by
            have q2 : (g (20 * m + i)).toInt < (d.1 (20 * i + j)).toInt := Int64.lt_iff_toInt_lt.mp q
            omega)]
    rw [q_bst, (key 21 (Nat.le_refl 21)).2 (by omega), a2]
  · have all : ∀ s, s ≤ 20 → g (20 * s + i) = q_nev := fun s hs => Classical.byContradiction fun hq => hf (g_lb0 h.1 hj ((hM s hs i hi).1 hq)).1
    have key : ∀ m, m ≤ 21 → q_it (q_b4 g i) m (q_nev, -1) = (q_nev, -1) := by
      intro m
      induction m with
      | zero => intro _; rfl
      | succ m ih =>
        intro hm
        rw [q_it, ih (by omega), q_b4, all m (by omega), if_neg (fun q => by
          have q2 : q_nev.toInt < q_nev.toInt := Int64.lt_iff_toInt_lt.mp q
          omega)]
    rw [q_bst, key 21 (Nat.le_refl 21)]
end
section
/-! PLAIN LAW 5: the points that follow and walk tell are the same; the invariant -/
theorem q_go_iff {dir len : Nat → Int64} {stp : Nat → Int32} {p q j : Nat} {l : Int64} {s : Nat} : q_go dir len stp p q j l (nI (s + 1)) = true ↔ (dir (20 * p + q) ≠ q_nev ∧ g_f len q j ∧ len (20 * q + j) = l - dir (20 * p + q) ∧ stp (20 * q + j) = nI s) := by
  have e : nI (s + 1) - nI 1 = nI s := by rw [pk_sub (by omega), Nat.add_sub_cancel]
  simp only [q_go, e, Bool.and_eq_true, q_has_iff, Bool.not_eq_true', decide_eq_false_iff_not, decide_eq_true_eq]
  constructor
  · intro ⟨⟨h1, h2⟩, h3, h4⟩
    exact ⟨h1, h2, h3, h4⟩
  · intro ⟨h1, h2, h3, h4⟩
    exact ⟨⟨h1, h2⟩, h3, h4⟩
theorem q_wg_iff {n : Nat} {fr tt : Nat → Nat} {cc : Nat → Int64} {on : Nat → Bool} {g : Nat → Int64} {v u s : Nat} : q_wg n fr tt cc on g v u (s + 1) = true ↔ (q_step n fr tt cc on v u ≠ q_nev ∧ g (20 * s + u) ≠ q_nev ∧ q_step n fr tt cc on v u + g (20 * s + u) = g (20 * (s + 1) + v)) := by
  simp only [q_wg, Nat.add_sub_cancel, Bool.and_eq_true, Bool.not_eq_true', decide_eq_false_iff_not, decide_eq_true_eq]
  constructor
  · intro ⟨⟨h1, h2⟩, h3⟩
    exact ⟨h1, h2, h3⟩
  · intro ⟨h1, h2, h3⟩
    exact ⟨⟨h1, h2⟩, h3⟩
section FW
variable {n : Nat} {fr tt : Nat → Nat} {cc : Nat → Int64} {on : Nat → Bool}
set_option maxHeartbeats 4000000 in
theorem g_fw {dir : Nat → Int64} {d : q_LS} (hE : g_EV (g_ed n fr tt cc on)) (hd : g_Dr (g_ed n fr tt cc on) dir) (h : g_DI (g_ed n fr tt cc on) d) {j : Nat} (hj : j < 20) {g : Nat → Int64} (hM : ∀ s, s ≤ 20 → g_row (g_ed n fr tt cc on) j g s) :
    ∀ (s i : Nat), i < 20 → g_f d.1 i j → d.2 (20 * i + j) = nI s → s ≤ 19 → ∃ qs : List Nat, qs.length = s ∧ q_fol dir d.1 d.2 j i (d.1 (20 * i + j)) qs ∧ q_wlk n fr tt cc on g i qs := by
  intro s
  induction s with
  | zero => intro i _ _ _ _; exact ⟨[], rfl, trivial, trivial⟩
  | succ s ih =>
    intro i hi hf hs hs19
    obtain ⟨s', a1, a2, a3, a4, a5, a6, a7⟩ := g_fb h hE hi hj hf
    obtain rfl : s' = s + 1 := (nI_eq (by omega) (by omega)).mp (a2.symm.trans hs)
    push_cast at a4
    -- the class's and the model's tests agree
    have same : ∀ v, v < 20 → (q_wg n fr tt cc on g i v (s + 1) = true ↔ q_go dir d.1 d.2 i v j (d.1 (20 * i + j)) (nI (s + 1)) = true) := by
      intro v hv
      rw [q_wg_iff, q_go_iff, g_step hd hi hv, g_at h hE hj hi hf hs (by omega) (hM (s + 1) (by omega))]
      refine ⟨fun ⟨h1, h2, h3⟩ => ?_, fun ⟨h1, h2, h3, h4⟩ => ?_⟩
      · have w := (hM s (by omega) v hv).1 h2
        obtain ⟨f1, k1⟩ := g_lb0 h.1 hj w
        have e := (hd i v hi hv).1 h1
        have b1 := hE _ _ _ e
        have b2 := g_W_bd hE _ _ _ _ w
        have k2 := (h.1.2 _ _ _ e j hj f1).2
        obtain ⟨s2, c1, c2, c3, c4, c5, c6, c7⟩ := g_fb h hE hv hj f1
        have h5 : (dir (20 * i + v)).toInt + (g (20 * s + v)).toInt = (d.1 (20 * i + j)).toInt := by
          rw [← h3, Jvm.Kit.i64_add (by omega) (by omega)]
        have h6 : s2 = s ∧ (d.1 (20 * v + j)).toInt = (g (20 * s + v)).toInt := by omega
        refine ⟨h1, f1, Int64.toInt_inj.mp ?_, by rw [c2, h6.1]⟩
        rw [Jvm.Kit.i64_sub (by omega) (by omega)]
        omega
      · have e := (hd i v hi hv).1 h1
        have b1 := hE _ _ _ e
        have e2 := g_at h hE hj hv h2 h4 (by omega) (hM s (by omega))
        obtain ⟨s2, c1, c2, c3, c4, c5, c6, c7⟩ := g_fb h hE hv hj h2
        refine ⟨h1, by rw [e2]; exact h2, Int64.toInt_inj.mp ?_⟩
        have h5 : (d.1 (20 * v + j)).toInt = (d.1 (20 * i + j)).toInt - (dir (20 * i + v)).toInt := by
          rw [h3, Jvm.Kit.i64_sub (by omega) (by omega)]
        rw [e2, Jvm.Kit.i64_add (by omega) (by omega)]
        omega
    -- a next point
    have ex : ∃ v, v < 20 ∧ q_go dir d.1 d.2 i v j (d.1 (20 * i + j)) (nI (s + 1)) = true := by
      obtain ⟨v, c, e, f1, k1, w1⟩ := g_sub h.1 hj (by push_cast; omega) a5
      have b1 := hE _ _ _ e
      obtain ⟨s2, c1, c2, c3, c4, c5, c6, c7⟩ := g_fb h hE b1.2.1 hj f1
      obtain ⟨d1, d2⟩ := (hd i v hi b1.2.1).2 c e
      have e2 := (hd i v hi b1.2.1).1 d1
      have b2 := hE _ _ _ e2
      have k2 := (h.1.2 _ _ _ e2 j hj f1).2
      have h6 : s2 = s ∧ (d.1 (20 * v + j)).toInt = (d.1 (20 * i + j)).toInt - c := by omega
      refine ⟨v, b1.2.1, q_go_iff.mpr ⟨d1, f1, Int64.toInt_inj.mp ?_, by rw [c2, h6.1]⟩⟩
      rw [Jvm.Kit.i64_sub (by omega) (by omega)]
      omega
    obtain ⟨q, ⟨hq, hgo⟩, hmin⟩ := pk_least (fun v => v < 20 ∧ q_go dir d.1 d.2 i v j (d.1 (20 * i + j)) (nI (s + 1)) = true) ex
    obtain ⟨g1, g2, g3, g4⟩ := q_go_iff.mp hgo
    obtain ⟨qs, l1, l2, l3⟩ := ih q hq g2 g4 (by omega)
    subst l1
    have min1 : ∀ q', q' < q → q_go dir d.1 d.2 i q' j (d.1 (20 * i + j)) (nI (qs.length + 1)) = false := fun q' hq' => by
      have := hmin q' hq'
      cases hz : q_go dir d.1 d.2 i q' j (d.1 (20 * i + j)) (nI (qs.length + 1)) with
      | false => rfl
      | true => exact absurd ⟨by omega, hz⟩ this
    refine ⟨q :: qs, rfl, ⟨hq, hgo, min1, by rw [← g3]; exact l2⟩, ⟨hq, (same q hq).mpr hgo, fun u' hu' => ?_, l3⟩⟩
    cases hz : q_wg n fr tt cc on g i u' (qs.length + 1) with
    | false => rfl
    | true =>
      have := (same u' (by omega)).mp hz
      rw [min1 u' hu'] at this
      cases this
end FW
/-- between the calls: the constraints are as they must be; direct and the paths answer to them -/
def g_In (n : Nat) (fr tt : Nat → Nat) (cc : Nat → Int64) (on : Nat → Bool) (d : q_DL) : Prop :=
  n ≤ 120 ∧ (∀ j, j < n → fr j < 20 ∧ tt j < 20 ∧ -1000000000000 ≤ (cc j).toInt ∧ (cc j).toInt ≤ 1000000000000) ∧ g_Dr (g_ed n fr tt cc on) d.1 ∧ g_DI (g_ed n fr tt cc on) d.2
section IN
variable {n : Nat} {fr tt : Nat → Nat} {cc : Nat → Int64} {on : Nat → Bool} {d : q_DL}
theorem g_In.ev (h : g_In n fr tt cc on d) : g_EV (g_ed n fr tt cc on) := fun u v c ⟨k, h1, h2, h3, h4, h5⟩ => by
  have := h.2.1 k h1
  rw [← h3, ← h4, ← h5]
  exact this
theorem g_In.ft (h : g_In n fr tt cc on d) : ∀ j, j < n → fr j < 20 ∧ tt j < 20 := fun j hj => ⟨(h.2.1 j hj).1, (h.2.1 j hj).2.1⟩
/-- the model's best, and the points that both tell -/
theorem g_In.best (h : g_In n fr tt cc on d) {i j : Nat} (hi : i < 20) (hj : j < 20) (lst : Nat → Int64) : (q_has d.2.1 i j = true ∧ q_bst (q_lst n fr tt cc on j lst) i = (d.2.1 (20 * i + j), d.2.2 (20 * i + j)) ∧ ∃ qs : List Nat, qs.length ≤ 19 ∧ d.2.2 (20 * i + j) = nI qs.length ∧ q_fol d.1 d.2.1 d.2.2 j i (d.2.1 (20 * i + j)) qs ∧ q_wlk n fr tt cc on (q_lst n fr tt cc on j lst) i qs) ∨ (q_has d.2.1 i j = false ∧ d.2.1 (20 * i + j) = q_nev ∧ q_bst (q_lst n fr tt cc on j lst) i = (q_nev, -1)) := by
  have hM := g_lst h.ev j lst
  obtain ⟨b1, b2⟩ := g_bst h.2.2.2 h.ev hj hM hi
  by_cases hf : g_f d.2.1 i j
  · left
    obtain ⟨s, a1, a2, -⟩ := g_fb h.2.2.2 h.ev hi hj hf
    obtain ⟨qs, l1, l2, l3⟩ := g_fw h.ev h.2.2.1 h.2.2.2 hj hM s i hi hf a2 a1
    exact ⟨q_has_iff.mpr hf, b1 hf, qs, by omega, by rw [l1]; exact a2, l2, l3⟩
  · right
    exact ⟨q_has_f.mpr hf, by simpa [g_f] using hf, b2 hf⟩
theorem q_nI_nn {k : Nat} (h : k ≤ 20) : ¬ nI k < 0 := nI_pos (by omega)
theorem g_In.ref (h : g_In n fr tt cc on d) {i j : Nat} (hi : i < 20) (hj : j < 20) (x : Int64) (lst : Nat → Int64) : (!(decide ((q_bst (q_lst n fr tt cc on i lst) j).2 < 0)) && decide (x + (q_bst (q_lst n fr tt cc on i lst) j).1 < 0)) = q_ref d.2.1 i j x := by
  rcases h.best hj hi lst with ⟨h1, h2, qs, l1, l2, -⟩ | ⟨h1, h2, h3⟩
  · rw [h2, q_ref, h1, l2]
    simp only [q_nI_nn (k := qs.length) (by omega), decide_false, Bool.not_false, Bool.true_and]
    rw [Int64.add_comm]
  · rw [h3, q_ref, h1]
    simp
/-- a constraint that isn't refused can be taken -/
theorem g_In.may (h : g_In n fr tt cc on d) {i j : Nat} (hi : i < 20) (hj : j < 20) {x : Int64} (hx1 : -1000000000000 ≤ x.toInt) (hx2 : x.toInt ≤ 1000000000000) (hr : q_ref d.2.1 i j x = false) : g_f d.2.1 j i → 0 ≤ (d.2.1 (20 * j + i)).toInt + x.toInt := fun hf => by
  obtain ⟨s, a1, a2, a3, a4, a5, a6, a7⟩ := g_fb h.2.2.2 h.ev hj hi hf
  rw [q_ref, q_has_iff.mpr hf, Bool.true_and, decide_eq_false_iff_not, Int64.lt_iff_toInt_lt, Jvm.Kit.i64_add (by omega) (by omega), Int64.toInt_zero] at hr
  omega
theorem g_In.add (h : g_In n fr tt cc on d) (hn : n < 120) {i j : Nat} (hi : i < 20) (hj : j < 20) {x : Int64} (hx1 : -1000000000000 ≤ x.toInt) (hx2 : x.toInt ≤ 1000000000000) (hr : q_ref d.2.1 i j x = false) : g_In (n + 1) (va_up fr n i) (va_up tt n j) (va_up cc n x) (va_up on n true) (q_tk i j x d) := by
  have hm := h.may hi hj hx1 hx2 hr
  obtain ⟨t1, t2⟩ := g_tk (Ed' := g_ed (n + 1) (va_up fr n i) (va_up tt n j) (va_up cc n x) (va_up on n true)) h.2.2.1 h.2.2.2 h.ev hi hj hx1 hx2 hm (fun u v c => by
    rw [g_ed_succ, va_up_self, va_up_self, va_up_self, va_up_self]
    refine ⟨fun q => ?_, fun q => ?_⟩
    · rcases q with ⟨k, q1, q2, q3, q4, q5⟩ | ⟨-, q⟩
      · have hk : k ≠ n := by omega
        rw [va_up_ne _ _ hk] at q2 q3 q4 q5
        exact Or.inl ⟨k, q1, q2, q3, q4, q5⟩
      · exact Or.inr q
    · rcases q with ⟨k, q1, q2, q3, q4, q5⟩ | q
      · have hk : k ≠ n := by omega
        exact Or.inl ⟨k, q1, by rw [va_up_ne _ _ hk]; exact q2, by rw [va_up_ne _ _ hk]; exact q3, by rw [va_up_ne _ _ hk]; exact q4, by rw [va_up_ne _ _ hk]; exact q5⟩
      · exact Or.inr ⟨rfl, q⟩)
  refine ⟨by omega, fun k hk => ?_, t1, t2⟩
  by_cases hkn : k = n
  · subst hkn
    rw [va_up_self, va_up_self, va_up_self]
    exact ⟨hi, hj, hx1, hx2⟩
  · rw [va_up_ne _ _ hkn, va_up_ne _ _ hkn, va_up_ne _ _ hkn]
    exact h.2.1 k (by omega)
theorem g_In.turn (h : g_In n fr tt cc on d) {j : Nat} (hj : j < n) (hr : q_ref d.2.1 (fr j) (tt j) (cc j) = false) : g_In n fr tt cc (va_up on j true) (q_tk (fr j) (tt j) (cc j) d) := by
  obtain ⟨b1, b2, b3, b4⟩ := h.2.1 j hj
  have hm := h.may b1 b2 b3 b4 hr
  obtain ⟨t1, t2⟩ := g_tk (Ed' := g_ed n fr tt cc (va_up on j true)) h.2.2.1 h.2.2.2 h.ev b1 b2 b3 b4 hm (fun u v c => by
    refine ⟨fun ⟨k, q1, q2, q3, q4, q5⟩ => ?_, fun q => ?_⟩
    · by_cases hk : k = j
      · subst hk
        exact Or.inr ⟨q3.symm, q4.symm, q5.symm⟩
      · rw [va_up_ne _ _ hk] at q2
        exact Or.inl ⟨k, q1, q2, q3, q4, q5⟩
    · rcases q with ⟨k, q1, q2, q3⟩ | ⟨q1, q2, q3⟩
      · by_cases hk : k = j
        · subst hk
          exact ⟨k, q1, va_up_self _ _ _, q3⟩
        · exact ⟨k, q1, by rw [va_up_ne _ _ hk]; exact q2, q3⟩
      · exact ⟨j, hj, va_up_self _ _ _, q1.symm, q2.symm, q3.symm⟩)
  exact ⟨h.1, h.2.1, t1, t2⟩
theorem g_In.off (h : g_In n fr tt cc on d) (j : Nat) : g_In n fr tt cc (va_up on j false) (q_new n fr tt cc (va_up on j false) d) := by
  have sub : ∀ u v c, g_ed n fr tt cc (va_up on j false) u v c → g_ed n fr tt cc on u v c := fun u v c ⟨k, q1, q2, q3⟩ => by
    by_cases hk : k = j
    · subst hk
      rw [va_up_self] at q2
      cases q2
    · rw [va_up_ne _ _ hk] at q2
      exact ⟨k, q1, q2, q3⟩
  obtain ⟨t1, t2⟩ := g_anew d (g_EV_sub sub h.ev) (fun s v l hv hs w => g_NN h.2.2.2.1 hv (by omega) (g_W_mono sub _ _ _ _ w))
  exact ⟨h.1, h.2.1, t1, t2⟩
theorem g_In.zero (fr tt : Nat → Nat) (cc : Nat → Int64) (on : Nat → Bool) (d : q_DL) : g_In 0 fr tt cc on (q_new 0 fr tt cc on d) := by
  obtain ⟨t1, t2⟩ := g_an0 (fr := fr) (tt := tt) (cc := cc) (on := on) d
  exact ⟨by omega, fun j hj => by omega, t1, t2⟩
/-- a constraint that is on has a path -/
theorem g_In.has (h : g_In n fr tt cc on d) {j : Nat} (hj : j < n) (ho : on j = true) : q_has d.2.1 (fr j) (tt j) = true := by
  have e : g_ed n fr tt cc on (fr j) (tt j) (cc j).toInt := ⟨j, hj, ho, rfl, rfl, rfl⟩
  exact q_has_iff.mpr (g_lb0 h.2.2.2.1 (h.2.1 j hj).2.1 (g_W_one e)).1
end IN
theorem q_cnt_up (on : Nat → Bool) (j : Nat) (b : Bool) : ∀ n, n ≤ j → q_cnt (va_up on j b) n = q_cnt on n := by
  intro n
  induction n with
  | zero => intro _; rfl
  | succ n ih =>
    intro hn
    rw [q_cnt, q_cnt, ih (by omega), va_up_ne _ _ (by omega)]
theorem q_cnt_set (on : Nat → Bool) {j : Nat} (hj : on j = false) : ∀ n, j < n → q_cnt (va_up on j true) n = q_cnt on n + 1 := by
  intro n
  induction n with
  | zero => intro h; omega
  | succ n ih =>
    intro hn
    rw [q_cnt, q_cnt]
    by_cases h : n = j
    · subst h
      rw [q_cnt_up _ _ _ n (Nat.le_refl n), va_up_self, hj]
      simp
    · rw [ih (by omega), va_up_ne _ _ h]
      omega
theorem q_cnt_clr (on : Nat → Bool) {j : Nat} (hj : on j = true) : ∀ n, j < n → q_cnt on n = q_cnt (va_up on j false) n + 1 := by
  intro n
  induction n with
  | zero => intro h; omega
  | succ n ih =>
    intro hn
    rw [q_cnt, q_cnt]
    by_cases h : n = j
    · subst h
      rw [q_cnt_up _ _ _ n (Nat.le_refl n), va_up_self, hj]
      simp
    · rw [ih (by omega), va_up_ne _ _ h]
      omega
theorem q_cnt_le (on : Nat → Bool) : ∀ n, q_cnt on n ≤ n := by
  intro n
  induction n with
  | zero => exact Nat.le_refl 0
  | succ n ih =>
    rw [q_cnt]
    cases on n <;> simp <;> omega
end
section
set_option maxHeartbeats 4000000 in
set_option maxRecDepth 100000 in
/-- Constraint() -/
theorem c_C_init (l : Launch) (D : va_G) (o : Nat) (fs : List Value) : Ct l y_C_init b_C_init 1 none 1 12 D [] [.ref o] [(o, .inr (2, fs))] [(o, .inr (2, fs))] none := by
  refine q_enter [(0, .ref o)] "TimeNet$Constraint" .return_ [] (by decide) rfl (Nat.le_of_ble_eq_true rfl) rfl (Or.inr (Or.inr (Or.inr ⟨rfl, rfl, rfl, rfl⟩))) ?_
  intro p e s m args below meth c A ls Q E hK hP hD hS hA hl hE
  obtain ⟨hx, hb, hml, hr, hlk, hown, hT⟩ := E
  refine lv_aload_n hx hb d_C_init_0 rfl (lv_at hl 0 rfl) ?_
  refine W.objInit hx hb hown (hT _ tb_41) (hT _ tb_16) (hT _ tb_17) rfl (by rw [hml]; exact hl.1) rfl d_C_init_1 (Nat.le_of_ble_eq_true rfl) (Nat.le_of_ble_eq_true rfl) ?_
  refine W.eq (g2 := F0 m 4 ls []) rfl ?_
  exact hE _ _ _ _ d_C_init_4 hP hD hS

abbrev q_P0 (o : Nat) : va_W := [(o, .inr (1, [.null, .null]))]
abbrev q_P1 (o : Nat) (u : Nat × Nat × ClassId × ClassId) : va_W := [(o, .inr (1, [.ref u.1, .ref u.2.1])), (u.1, .inl (u.2.2.1, 400, .inr (.inl (fun _ => 0)))), (u.2.1, .inl (u.2.2.2, 400, .inl (fun _ => nI 0)))]
abbrev q_PT (u : Nat × Nat × ClassId × ClassId) : List (ClassId × FieldType) := [(u.2.2.1, .long), (u.2.2.2, .int)]

set_option maxHeartbeats 4000000 in
set_option maxRecDepth 100000 in
/-- Paths() -/
theorem c_P_init (l : Launch) (D : va_G) (o : Nat) : ∀ sz, Met l y_P_init (wd_ y_P_init b_P_init 1 none) { frames := 1, cells := 2, slots := 800, locals := 12 } (va_Pc [.ref o] (q_pre D (q_P0 o) [] sz)) (va_Qv (fun _ : Nat × Nat × ClassId × ClassId => True) (fun u t => va_P D classes (q_P1 o u) t.heap ∧ va_K D classes (q_PT u) t ∧ va_D (va_A (q_P0 o) sz) (q_P1 o u)) (va_A (q_P0 o) sz)) 2 800 (va_A (q_P0 o) sz) := by
  intro sz
  refine Met.ofW (cc := b_P_init) (maxL := 1) (ret := none) (by decide) rfl ?_
  intro p e s m args below meth c s₁ B hml hv
  obtain ⟨rfl, hsz, hP, hK, hD0⟩ := hv
  have hx := B.exec
  have hb := B.bytes
  have hr := B.returns
  have hts := atoms_spec (ws := wd_ y_P_init b_P_init 1 none) B.pre
  have hT : ∀ w ∈ lw_g, w.before #[.ref o] s = true := fun w hw => hts w (List.mem_cons_of_mem _ hw)
  have hown : s.vm.findClass "TimeNet$Paths" = some m.cls := findClass_of_methodNamed B.named
  have hlk := B.notSynchronized
  have hin : meth.name = "<init>" := (name_of_methodNamed B.named B.method).1
  subst hsz
  have hD := hD0.self (sz := s.heap.size)
  generalize hAe : va_A (q_P0 o) s.heap.size = A at hD ⊢
  have hA : ∀ q : Nat, s.heap.size ≤ q → A q := fun q h => by rw [← hAe]; exact Or.inr h
  have hS : va_S A s.heap s.heap [] := va_S.rf
  have hl := lv_entry ([.ref o]) (n := 1) (Nat.le_of_ble_eq_true rfl)
  rw [lg_entry_eq]
  generalize (lg_sl ([.ref o]) ++ List.replicate (1 - (lg_sl ([.ref o])).length) Slot.unset).toArray = ls at hl ⊢
  have hl : lv_has ls 1 [(0, .ref o)] := hl
  refine lv_aload_n hx hb d_P_init_0 rfl (lv_at hl 0 rfl) ?_
  refine W.objInit hx hb hown (hT _ tb_25) (hT _ tb_16) (hT _ tb_17) rfl (by rw [hml]; exact hl.1) rfl d_P_init_1 (Nat.le_of_ble_eq_true rfl) (Nat.le_of_ble_eq_true rfl) ?_
  refine W.eq (g2 := F0 m 4 ls []) rfl ?_
  have hb1 : (0 + 1 ≤ 2) ∧ (0 + 400 ≤ 800) := by decide
  refine lv_aload_n hx hb d_P_init_4 rfl (lv_at hl 0 rfl) ?_
  refine lv_sipush (v := nI 400) hx hb d_P_init_5 (by decide) ?_
  refine va_newa (atype := .long) (ty := .long) (N' := 400) (a0 := (400, .inr (.inl (fun _ => 0)))) hx hb (hT _ tb_35) rfl hK hP hD hS hA (fun _ => rfl) (nI_pos (by decide)) (nI_clamp (by decide)) (by decide) (by decide) (by decide) d_P_init_8 (fun q3 c3 H hK hP hD hS => ?_)
  have hP : va_P D classes ([(o, .inr (1, [.null, .null])), (q3, .inl (c3, 400, .inr (.inl (fun _ => 0))))]) H := hP
  have hD : va_D A ([(o, .inr (1, [.null, .null])), (q3, .inl (c3, 400, .inr (.inl (fun _ => 0))))]) := hD
  refine w_putF i_P t_P t_P_ok n_P hx hb hT hown hK hP hD hS 0 rfl rfl 0 (by decide) tb_26 rfl hin rfl (v := .ref q3) rfl rfl (Nat.le_of_ble_eq_true rfl) d_P_init_10 (fun H locs hP hD hS => ?_)
  have hP : va_P D classes ([(o, .inr (1, [.ref q3, .null])), (q3, .inl (c3, 400, .inr (.inl (fun _ => 0))))]) H := hP
  have hD : va_D A ([(o, .inr (1, [.ref q3, .null])), (q3, .inl (c3, 400, .inr (.inl (fun _ => 0))))]) := hD
  refine lv_aload_n hx hb d_P_init_13 rfl (lv_at hl 0 rfl) ?_
  refine lv_sipush (v := nI 400) hx hb d_P_init_14 (by decide) ?_
  refine va_newa (atype := .int) (ty := .int) (N' := 400) (a0 := (400, .inl (fun _ => nI 0))) hx hb (hT _ tb_36) rfl hK hP hD hS hA (fun _ => rfl) (nI_pos (by decide)) (nI_clamp (by decide)) (by decide) (by decide) (by decide) d_P_init_17 (fun q4 c4 H hK hP hD hS => ?_)
  have hP : va_P D classes ([(o, .inr (1, [.ref q3, .null])), (q3, .inl (c3, 400, .inr (.inl (fun _ => 0)))), (q4, .inl (c4, 400, .inl (fun _ => nI 0)))]) H := hP
  have hD : va_D A ([(o, .inr (1, [.ref q3, .null])), (q3, .inl (c3, 400, .inr (.inl (fun _ => 0)))), (q4, .inl (c4, 400, .inl (fun _ => nI 0)))]) := hD
  refine w_putF i_P t_P t_P_ok n_P hx hb hT hown hK hP hD hS 0 rfl rfl 1 (by decide) tb_28 rfl hin rfl (v := .ref q4) rfl rfl (Nat.le_of_ble_eq_true rfl) d_P_init_19 (fun H locs hP hD hS => ?_)
  have hP : va_P D classes (q_P1 o (q3, q4, c3, c4)) H := hP
  have hD : va_D A (q_P1 o (q3, q4, c3, c4)) := hD
  have hK : va_K D classes (q_PT (q3, q4, c3, c4)) s := hK
  refine W.widen (k := 2) (n := 800) (by decide) (by decide) ?_
  exact W.vret hx hb hr (fun t ht hW => ⟨⟨(q3, q4, c3, c4), rfl, trivial, by rw [ht]; exact hP, va_K.moved hW.alike hK, hD⟩, hS.F ht⟩) hS.2.2 d_P_init_22

def q_7 {α : Type} (x0 x1 x2 x3 x4 x5 x6 : α) : Nat → α := fun i => match i with
  | 0 => x0
  | 1 => x1
  | 2 => x2
  | 3 => x3
  | 4 => x4
  | 5 => x5
  | _ => x6
abbrev q_M0 (o : Nat) : va_W := [(o, .inr (3, [.int 0, .int 0, .null, .null, .null, .null, .int 0, .null, .long 0, .null, .long 0, .int 0]))]
abbrev q_M1 (o : Nat) (u : (Nat → Nat) × (Nat → ClassId)) : va_W := mW (va_up u.1 0 o) u.2 0 0 (fun _ => 0) (fun _ => 0) (fun _ => 0) (fun _ => false) 0 (fun _ => 0) 0 (fun _ => 0) 0 0

set_option maxHeartbeats 4000000 in
set_option maxRecDepth 100000 in
/-- TimeNetModel() -/
theorem c_M_init (l : Launch) (D : va_G) (o : Nat) : ∀ sz, Met l y_M_init (wd_ y_M_init b_M_init 1 none) { frames := 1, cells := 6, slots := 924, locals := 12 } (va_Pc [.ref o] (q_pre D (q_M0 o) [] sz)) (va_Qv (fun _ : (Nat → Nat) × (Nat → ClassId) => True) (fun u t => va_P D classes (q_M1 o u) t.heap ∧ va_K D classes (mT u.2) t ∧ va_D (va_A (q_M0 o) sz) (q_M1 o u)) (va_A (q_M0 o) sz)) 6 924 (va_A (q_M0 o) sz) := by
  intro sz
  refine Met.ofW (cc := b_M_init) (maxL := 1) (ret := none) (by decide) rfl ?_
  intro p e s m args below meth c s₁ B hml hv
  obtain ⟨rfl, hsz, hP, hK, hD0⟩ := hv
  have hx := B.exec
  have hb := B.bytes
  have hr := B.returns
  have hts := atoms_spec (ws := wd_ y_M_init b_M_init 1 none) B.pre
  have hT : ∀ w ∈ lw_g, w.before #[.ref o] s = true := fun w hw => hts w (List.mem_cons_of_mem _ hw)
  have hown : s.vm.findClass "TimeNetModel" = some m.cls := findClass_of_methodNamed B.named
  have hlk := B.notSynchronized
  have hin : meth.name = "<init>" := (name_of_methodNamed B.named B.method).1
  subst hsz
  have hD := hD0.self (sz := s.heap.size)
  generalize hAe : va_A (q_M0 o) s.heap.size = A at hD ⊢
  have hA : ∀ q : Nat, s.heap.size ≤ q → A q := fun q h => by rw [← hAe]; exact Or.inr h
  have hS : va_S A s.heap s.heap [] := va_S.rf
  have hl := lv_entry ([.ref o]) (n := 1) (Nat.le_of_ble_eq_true rfl)
  rw [lg_entry_eq]
  generalize (lg_sl ([.ref o]) ++ List.replicate (1 - (lg_sl ([.ref o])).length) Slot.unset).toArray = ls at hl ⊢
  have hl : lv_has ls 1 [(0, .ref o)] := hl
  refine lv_aload_n hx hb d_M_init_0 rfl (lv_at hl 0 rfl) ?_
  refine W.objInit hx hb hown (hT _ tb_266) (hT _ tb_16) (hT _ tb_17) rfl (by rw [hml]; exact hl.1) rfl d_M_init_1 (Nat.le_of_ble_eq_true rfl) (Nat.le_of_ble_eq_true rfl) ?_
  refine W.eq (g2 := F0 m 4 ls []) rfl ?_
  refine lv_aload_n hx hb d_M_init_4 rfl (lv_at hl 0 rfl) ?_
  refine lv_bipush (v := nI 120) hx hb d_M_init_5 (by decide) ?_
  refine va_newa (atype := .int) (ty := .int) (N' := 120) (a0 := (120, .inl (fun j => nI ((fun _ => 0 : Nat → Nat) j)))) hx hb (hT _ tb_36) rfl hK hP hD hS hA (fun _ => rfl) (nI_pos (by decide)) (nI_clamp (by decide)) (by decide) (by decide) (by decide) d_M_init_7 (fun q1 c1 H hK hP hD hS => ?_)
  have hP : va_P D classes ([(o, .inr (3, [.int 0, .int 0, .null, .null, .null, .null, .int 0, .null, .long 0, .null, .long 0, .int 0])), (q1, .inl (c1, 120, .inl (fun j => nI ((fun _ => 0 : Nat → Nat) j))))]) H := hP
  have hD : va_D A ([(o, .inr (3, [.int 0, .int 0, .null, .null, .null, .null, .int 0, .null, .long 0, .null, .long 0, .int 0])), (q1, .inl (c1, 120, .inl (fun j => nI ((fun _ => 0 : Nat → Nat) j))))]) := hD
  refine w_putF i_M t_M t_M_ok n_M hx hb hT hown hK hP hD hS 0 rfl rfl 2 (by decide) tb_269 rfl hin rfl (v := .ref q1) rfl rfl (Nat.le_of_ble_eq_true rfl) d_M_init_9 (fun H locs hP hD hS => ?_)
  have hP : va_P D classes ([(o, .inr (3, [.int 0, .int 0, .ref q1, .null, .null, .null, .int 0, .null, .long 0, .null, .long 0, .int 0])), (q1, .inl (c1, 120, .inl (fun j => nI ((fun _ => 0 : Nat → Nat) j))))]) H := hP
  have hD : va_D A ([(o, .inr (3, [.int 0, .int 0, .ref q1, .null, .null, .null, .int 0, .null, .long 0, .null, .long 0, .int 0])), (q1, .inl (c1, 120, .inl (fun j => nI ((fun _ => 0 : Nat → Nat) j))))]) := hD
  refine lv_aload_n hx hb d_M_init_12 rfl (lv_at hl 0 rfl) ?_
  refine lv_bipush (v := nI 120) hx hb d_M_init_13 (by decide) ?_
  refine va_newa (atype := .int) (ty := .int) (N' := 120) (a0 := (120, .inl (fun j => nI ((fun _ => 0 : Nat → Nat) j)))) hx hb (hT _ tb_36) rfl hK hP hD hS hA (fun _ => rfl) (nI_pos (by decide)) (nI_clamp (by decide)) (by decide) (by decide) (by decide) d_M_init_15 (fun q2 c2 H hK hP hD hS => ?_)
  have hP : va_P D classes ([(o, .inr (3, [.int 0, .int 0, .ref q1, .null, .null, .null, .int 0, .null, .long 0, .null, .long 0, .int 0])), (q1, .inl (c1, 120, .inl (fun j => nI ((fun _ => 0 : Nat → Nat) j)))), (q2, .inl (c2, 120, .inl (fun j => nI ((fun _ => 0 : Nat → Nat) j))))]) H := hP
  have hD : va_D A ([(o, .inr (3, [.int 0, .int 0, .ref q1, .null, .null, .null, .int 0, .null, .long 0, .null, .long 0, .int 0])), (q1, .inl (c1, 120, .inl (fun j => nI ((fun _ => 0 : Nat → Nat) j)))), (q2, .inl (c2, 120, .inl (fun j => nI ((fun _ => 0 : Nat → Nat) j))))]) := hD
  refine w_putF i_M t_M t_M_ok n_M hx hb hT hown hK hP hD hS 0 rfl rfl 3 (by decide) tb_270 rfl hin rfl (v := .ref q2) rfl rfl (Nat.le_of_ble_eq_true rfl) d_M_init_17 (fun H locs hP hD hS => ?_)
  have hP : va_P D classes ([(o, .inr (3, [.int 0, .int 0, .ref q1, .ref q2, .null, .null, .int 0, .null, .long 0, .null, .long 0, .int 0])), (q1, .inl (c1, 120, .inl (fun j => nI ((fun _ => 0 : Nat → Nat) j)))), (q2, .inl (c2, 120, .inl (fun j => nI ((fun _ => 0 : Nat → Nat) j))))]) H := hP
  have hD : va_D A ([(o, .inr (3, [.int 0, .int 0, .ref q1, .ref q2, .null, .null, .int 0, .null, .long 0, .null, .long 0, .int 0])), (q1, .inl (c1, 120, .inl (fun j => nI ((fun _ => 0 : Nat → Nat) j)))), (q2, .inl (c2, 120, .inl (fun j => nI ((fun _ => 0 : Nat → Nat) j))))]) := hD
  refine lv_aload_n hx hb d_M_init_20 rfl (lv_at hl 0 rfl) ?_
  refine lv_bipush (v := nI 120) hx hb d_M_init_21 (by decide) ?_
  refine va_newa (atype := .long) (ty := .long) (N' := 120) (a0 := (120, .inr (.inl (fun _ => 0)))) hx hb (hT _ tb_35) rfl hK hP hD hS hA (fun _ => rfl) (nI_pos (by decide)) (nI_clamp (by decide)) (by decide) (by decide) (by decide) d_M_init_23 (fun q3 c3 H hK hP hD hS => ?_)
  have hP : va_P D classes ([(o, .inr (3, [.int 0, .int 0, .ref q1, .ref q2, .null, .null, .int 0, .null, .long 0, .null, .long 0, .int 0])), (q1, .inl (c1, 120, .inl (fun j => nI ((fun _ => 0 : Nat → Nat) j)))), (q2, .inl (c2, 120, .inl (fun j => nI ((fun _ => 0 : Nat → Nat) j)))), (q3, .inl (c3, 120, .inr (.inl (fun _ => 0))))]) H := hP
  have hD : va_D A ([(o, .inr (3, [.int 0, .int 0, .ref q1, .ref q2, .null, .null, .int 0, .null, .long 0, .null, .long 0, .int 0])), (q1, .inl (c1, 120, .inl (fun j => nI ((fun _ => 0 : Nat → Nat) j)))), (q2, .inl (c2, 120, .inl (fun j => nI ((fun _ => 0 : Nat → Nat) j)))), (q3, .inl (c3, 120, .inr (.inl (fun _ => 0))))]) := hD
  refine w_putF i_M t_M t_M_ok n_M hx hb hT hown hK hP hD hS 0 rfl rfl 4 (by decide) tb_271 rfl hin rfl (v := .ref q3) rfl rfl (Nat.le_of_ble_eq_true rfl) d_M_init_25 (fun H locs hP hD hS => ?_)
  have hP : va_P D classes ([(o, .inr (3, [.int 0, .int 0, .ref q1, .ref q2, .ref q3, .null, .int 0, .null, .long 0, .null, .long 0, .int 0])), (q1, .inl (c1, 120, .inl (fun j => nI ((fun _ => 0 : Nat → Nat) j)))), (q2, .inl (c2, 120, .inl (fun j => nI ((fun _ => 0 : Nat → Nat) j)))), (q3, .inl (c3, 120, .inr (.inl (fun _ => 0))))]) H := hP
  have hD : va_D A ([(o, .inr (3, [.int 0, .int 0, .ref q1, .ref q2, .ref q3, .null, .int 0, .null, .long 0, .null, .long 0, .int 0])), (q1, .inl (c1, 120, .inl (fun j => nI ((fun _ => 0 : Nat → Nat) j)))), (q2, .inl (c2, 120, .inl (fun j => nI ((fun _ => 0 : Nat → Nat) j)))), (q3, .inl (c3, 120, .inr (.inl (fun _ => 0))))]) := hD
  refine lv_aload_n hx hb d_M_init_28 rfl (lv_at hl 0 rfl) ?_
  refine lv_bipush (v := nI 120) hx hb d_M_init_29 (by decide) ?_
  refine va_newa (atype := .boolean) (ty := .boolean) (N' := 120) (a0 := (120, .inl (fun j => q_b ((fun _ => false : Nat → Bool) j)))) hx hb (hT _ tb_304) rfl hK hP hD hS hA (fun _ => rfl) (nI_pos (by decide)) (nI_clamp (by decide)) (by decide) (by decide) (by decide) d_M_init_31 (fun q4 c4 H hK hP hD hS => ?_)
  have hP : va_P D classes ([(o, .inr (3, [.int 0, .int 0, .ref q1, .ref q2, .ref q3, .null, .int 0, .null, .long 0, .null, .long 0, .int 0])), (q1, .inl (c1, 120, .inl (fun j => nI ((fun _ => 0 : Nat → Nat) j)))), (q2, .inl (c2, 120, .inl (fun j => nI ((fun _ => 0 : Nat → Nat) j)))), (q3, .inl (c3, 120, .inr (.inl (fun _ => 0)))), (q4, .inl (c4, 120, .inl (fun j => q_b ((fun _ => false : Nat → Bool) j))))]) H := hP
  have hD : va_D A ([(o, .inr (3, [.int 0, .int 0, .ref q1, .ref q2, .ref q3, .null, .int 0, .null, .long 0, .null, .long 0, .int 0])), (q1, .inl (c1, 120, .inl (fun j => nI ((fun _ => 0 : Nat → Nat) j)))), (q2, .inl (c2, 120, .inl (fun j => nI ((fun _ => 0 : Nat → Nat) j)))), (q3, .inl (c3, 120, .inr (.inl (fun _ => 0)))), (q4, .inl (c4, 120, .inl (fun j => q_b ((fun _ => false : Nat → Bool) j))))]) := hD
  refine w_putF i_M t_M t_M_ok n_M hx hb hT hown hK hP hD hS 0 rfl rfl 5 (by decide) tb_272 rfl hin rfl (v := .ref q4) rfl rfl (Nat.le_of_ble_eq_true rfl) d_M_init_33 (fun H locs hP hD hS => ?_)
  have hP : va_P D classes ([(o, .inr (3, [.int 0, .int 0, .ref q1, .ref q2, .ref q3, .ref q4, .int 0, .null, .long 0, .null, .long 0, .int 0])), (q1, .inl (c1, 120, .inl (fun j => nI ((fun _ => 0 : Nat → Nat) j)))), (q2, .inl (c2, 120, .inl (fun j => nI ((fun _ => 0 : Nat → Nat) j)))), (q3, .inl (c3, 120, .inr (.inl (fun _ => 0)))), (q4, .inl (c4, 120, .inl (fun j => q_b ((fun _ => false : Nat → Bool) j))))]) H := hP
  have hD : va_D A ([(o, .inr (3, [.int 0, .int 0, .ref q1, .ref q2, .ref q3, .ref q4, .int 0, .null, .long 0, .null, .long 0, .int 0])), (q1, .inl (c1, 120, .inl (fun j => nI ((fun _ => 0 : Nat → Nat) j)))), (q2, .inl (c2, 120, .inl (fun j => nI ((fun _ => 0 : Nat → Nat) j)))), (q3, .inl (c3, 120, .inr (.inl (fun _ => 0)))), (q4, .inl (c4, 120, .inl (fun j => q_b ((fun _ => false : Nat → Bool) j))))]) := hD
  refine lv_aload_n hx hb d_M_init_36 rfl (lv_at hl 0 rfl) ?_
  refine lv_bipush (v := nI 24) hx hb d_M_init_37 (by decide) ?_
  refine va_newa (atype := .int) (ty := .int) (N' := 24) (a0 := (24, .inl (fun _ => 0))) hx hb (hT _ tb_36) rfl hK hP hD hS hA (fun _ => rfl) (nI_pos (by decide)) (nI_clamp (by decide)) (by decide) (by decide) (by decide) d_M_init_39 (fun q5 c5 H hK hP hD hS => ?_)
  have hP : va_P D classes ([(o, .inr (3, [.int 0, .int 0, .ref q1, .ref q2, .ref q3, .ref q4, .int 0, .null, .long 0, .null, .long 0, .int 0])), (q1, .inl (c1, 120, .inl (fun j => nI ((fun _ => 0 : Nat → Nat) j)))), (q2, .inl (c2, 120, .inl (fun j => nI ((fun _ => 0 : Nat → Nat) j)))), (q3, .inl (c3, 120, .inr (.inl (fun _ => 0)))), (q4, .inl (c4, 120, .inl (fun j => q_b ((fun _ => false : Nat → Bool) j)))), (q5, .inl (c5, 24, .inl (fun _ => 0)))]) H := hP
  have hD : va_D A ([(o, .inr (3, [.int 0, .int 0, .ref q1, .ref q2, .ref q3, .ref q4, .int 0, .null, .long 0, .null, .long 0, .int 0])), (q1, .inl (c1, 120, .inl (fun j => nI ((fun _ => 0 : Nat → Nat) j)))), (q2, .inl (c2, 120, .inl (fun j => nI ((fun _ => 0 : Nat → Nat) j)))), (q3, .inl (c3, 120, .inr (.inl (fun _ => 0)))), (q4, .inl (c4, 120, .inl (fun j => q_b ((fun _ => false : Nat → Bool) j)))), (q5, .inl (c5, 24, .inl (fun _ => 0)))]) := hD
  refine w_putF i_M t_M t_M_ok n_M hx hb hT hown hK hP hD hS 0 rfl rfl 7 (by decide) tb_274 rfl hin rfl (v := .ref q5) rfl rfl (Nat.le_of_ble_eq_true rfl) d_M_init_41 (fun H locs hP hD hS => ?_)
  have hP : va_P D classes ([(o, .inr (3, [.int 0, .int 0, .ref q1, .ref q2, .ref q3, .ref q4, .int 0, .ref q5, .long 0, .null, .long 0, .int 0])), (q1, .inl (c1, 120, .inl (fun j => nI ((fun _ => 0 : Nat → Nat) j)))), (q2, .inl (c2, 120, .inl (fun j => nI ((fun _ => 0 : Nat → Nat) j)))), (q3, .inl (c3, 120, .inr (.inl (fun _ => 0)))), (q4, .inl (c4, 120, .inl (fun j => q_b ((fun _ => false : Nat → Bool) j)))), (q5, .inl (c5, 24, .inl (fun _ => 0)))]) H := hP
  have hD : va_D A ([(o, .inr (3, [.int 0, .int 0, .ref q1, .ref q2, .ref q3, .ref q4, .int 0, .ref q5, .long 0, .null, .long 0, .int 0])), (q1, .inl (c1, 120, .inl (fun j => nI ((fun _ => 0 : Nat → Nat) j)))), (q2, .inl (c2, 120, .inl (fun j => nI ((fun _ => 0 : Nat → Nat) j)))), (q3, .inl (c3, 120, .inr (.inl (fun _ => 0)))), (q4, .inl (c4, 120, .inl (fun j => q_b ((fun _ => false : Nat → Bool) j)))), (q5, .inl (c5, 24, .inl (fun _ => 0)))]) := hD
  refine lv_aload_n hx hb d_M_init_44 rfl (lv_at hl 0 rfl) ?_
  refine lv_sipush (v := nI 420) hx hb d_M_init_45 (by decide) ?_
  refine va_newa (atype := .long) (ty := .long) (N' := 420) (a0 := (420, .inr (.inl (fun _ => 0)))) hx hb (hT _ tb_35) rfl hK hP hD hS hA (fun _ => rfl) (nI_pos (by decide)) (nI_clamp (by decide)) (by decide) (by decide) (by decide) d_M_init_48 (fun q6 c6 H hK hP hD hS => ?_)
  have hP : va_P D classes ([(o, .inr (3, [.int 0, .int 0, .ref q1, .ref q2, .ref q3, .ref q4, .int 0, .ref q5, .long 0, .null, .long 0, .int 0])), (q1, .inl (c1, 120, .inl (fun j => nI ((fun _ => 0 : Nat → Nat) j)))), (q2, .inl (c2, 120, .inl (fun j => nI ((fun _ => 0 : Nat → Nat) j)))), (q3, .inl (c3, 120, .inr (.inl (fun _ => 0)))), (q4, .inl (c4, 120, .inl (fun j => q_b ((fun _ => false : Nat → Bool) j)))), (q5, .inl (c5, 24, .inl (fun _ => 0))), (q6, .inl (c6, 420, .inr (.inl (fun _ => 0))))]) H := hP
  have hD : va_D A ([(o, .inr (3, [.int 0, .int 0, .ref q1, .ref q2, .ref q3, .ref q4, .int 0, .ref q5, .long 0, .null, .long 0, .int 0])), (q1, .inl (c1, 120, .inl (fun j => nI ((fun _ => 0 : Nat → Nat) j)))), (q2, .inl (c2, 120, .inl (fun j => nI ((fun _ => 0 : Nat → Nat) j)))), (q3, .inl (c3, 120, .inr (.inl (fun _ => 0)))), (q4, .inl (c4, 120, .inl (fun j => q_b ((fun _ => false : Nat → Bool) j)))), (q5, .inl (c5, 24, .inl (fun _ => 0))), (q6, .inl (c6, 420, .inr (.inl (fun _ => 0))))]) := hD
  refine w_putF i_M t_M t_M_ok n_M hx hb hT hown hK hP hD hS 0 rfl rfl 9 (by decide) tb_276 rfl hin rfl (v := .ref q6) rfl rfl (Nat.le_of_ble_eq_true rfl) d_M_init_50 (fun H locs hP hD hS => ?_)
  have hP : va_P D classes ([(o, .inr (3, [.int 0, .int 0, .ref q1, .ref q2, .ref q3, .ref q4, .int 0, .ref q5, .long 0, .ref q6, .long 0, .int 0])), (q1, .inl (c1, 120, .inl (fun j => nI ((fun _ => 0 : Nat → Nat) j)))), (q2, .inl (c2, 120, .inl (fun j => nI ((fun _ => 0 : Nat → Nat) j)))), (q3, .inl (c3, 120, .inr (.inl (fun _ => 0)))), (q4, .inl (c4, 120, .inl (fun j => q_b ((fun _ => false : Nat → Bool) j)))), (q5, .inl (c5, 24, .inl (fun _ => 0))), (q6, .inl (c6, 420, .inr (.inl (fun _ => 0))))]) H := hP
  have hD : va_D A ([(o, .inr (3, [.int 0, .int 0, .ref q1, .ref q2, .ref q3, .ref q4, .int 0, .ref q5, .long 0, .ref q6, .long 0, .int 0])), (q1, .inl (c1, 120, .inl (fun j => nI ((fun _ => 0 : Nat → Nat) j)))), (q2, .inl (c2, 120, .inl (fun j => nI ((fun _ => 0 : Nat → Nat) j)))), (q3, .inl (c3, 120, .inr (.inl (fun _ => 0)))), (q4, .inl (c4, 120, .inl (fun j => q_b ((fun _ => false : Nat → Bool) j)))), (q5, .inl (c5, 24, .inl (fun _ => 0))), (q6, .inl (c6, 420, .inr (.inl (fun _ => 0))))]) := hD
  have hup : va_up (q_7 o q1 q2 q3 q4 q5 q6) 0 o = q_7 o q1 q2 q3 q4 q5 q6 := q_up_id _ 0
  have hP : va_P D classes (q_M1 o (q_7 o q1 q2 q3 q4 q5 q6, q_7 c1 c1 c2 c3 c4 c5 c6)) H := by rw [q_M1, hup]; exact hP
  have hD : va_D A (q_M1 o (q_7 o q1 q2 q3 q4 q5 q6, q_7 c1 c1 c2 c3 c4 c5 c6)) := by rw [q_M1, hup]; exact hD
  have hK : va_K D classes (mT (q_7 c1 c1 c2 c3 c4 c5 c6)) s := hK
  refine W.widen (k := 6) (n := 924) (by decide) (by decide) ?_
  exact W.vret hx hb hr (fun t ht hW => ⟨⟨(q_7 o q1 q2 q3 q4 q5 q6, q_7 c1 c1 c2 c3 c4 c5 c6), rfl, trivial, by rw [ht]; exact hP, va_K.moved hW.alike hK, hD⟩, hS.F ht⟩) hS.2.2 d_M_init_53
end
section
theorem q_cellq {cA : ClassId} {n : Nat} {f g : Nat → Option Nat} (h : ∀ j, j < n → f j = g j) : vp_cell cA (n, .inr (.inr (.inr (.inr f)))) = vp_cell cA (n, .inr (.inr (.inr (.inr g)))) := by
  rw [vp_cell_q, vp_cell_q, arrV, arrV]
  congr 2
  funext j
  rw [h j.val j.isLt]
theorem q_range_push {α : Type} (f g : Nat → α) (z : Nat) (h : ∀ j, j < z → g j = f j) : (List.range (z + 1)).map g = (List.range z).map f ++ [g z] := by
  rw [List.range_succ, List.map_append]
  congr 1
  apply List.map_congr_left
  intro j hj
  exact h j (List.mem_range.mp hj)
abbrev q_d0 : q_DL := (fun _ => 0, (fun _ => 0, fun _ => nI 0))
abbrev q_n0 : q_DL := q_new 0 (fun _ => 0) (fun _ => 0) (fun _ => 0) (fun _ => false) q_d0
abbrev q_X0 (o : Nat) : va_W := [(o, .inr (0, [.null, .int 0, .int 0, .null, .null, .null, .int 0, .long 0]))]
abbrev q_X1 (o : Nat) (u : (Nat → Nat) × (Nat → ClassId) × (Nat → Nat)) : va_W := xW (va_up u.1 0 o) u.2.1 u.2.2 0 0 (fun _ => 0) (fun _ => 0) (fun _ => 0) (fun _ => false) q_n0.2.1 q_n0.2.2 q_n0.1 (fun _ => 0) 0 0
abbrev q_XB (o q1 q2 q3 q4 q5 q6 : Nat) (c1 c3 c4 c5 c6 : ClassId) (g : Nat → Option Nat) : va_W := [(o, .inr (0, [.ref q1, .int 0, .int 0, .ref q2, .ref q5, .ref q6, .int 0, .long 0])), (q1, .inl (c1, 120, .inr (.inr (.inr (.inr g))))), (q2, .inr (1, [.ref q3, .ref q4])), (q3, .inl (c3, 400, .inr (.inl (fun _ => 0)))), (q4, .inl (c4, 400, .inl (fun _ => nI 0))), (q5, .inl (c5, 400, .inr (.inl (fun _ => 0)))), (q6, .inl (c6, 22, .inl (fun _ => 0)))]
abbrev q_c0 (ca : Nat → Nat) (j : Nat) : Nat × va_E := q_con ca (fun _ => 0) (fun _ => 0) (fun _ => 0) (fun _ => false) j
def q_rmX : Room := { frames := 5, cells := 126, slots := 1824, locals := 118 }
def q_preX (D : va_G) (o sz : Nat) (U : State) : Prop := q_pre D (q_X0 o) [] sz U ∧ va_AO "TimeNet$Constraint" U ∧ va_Nw (.methodLinkNest "TimeNet" 19 y_P_init "TimeNet") U ∧ va_Nw (.methodLinkNest "TimeNet" 32 y_C_init "TimeNet") U

set_option maxHeartbeats 4000000 in
set_option maxRecDepth 100000 in
/-- TimeNet() -/
theorem c_X_init (l : Launch) (D : va_G) (o : Nat) : ∀ sz, Met l y_X_init (wd_ y_X_init b_X_init 2 none) q_rmX (va_Pc [.ref o] (q_preX D o sz)) (va_Qv (fun _ : (Nat → Nat) × (Nat → ClassId) × (Nat → Nat) => True) (fun u t => va_P D classes (q_X1 o u) t.heap ∧ va_K D classes (xT u.2.1) t ∧ va_D (va_A (q_X0 o) sz) (q_X1 o u)) (va_A (q_X0 o) sz)) 126 1824 (va_A (q_X0 o) sz) := by
  intro sz
  refine Met.ofW (cc := b_X_init) (maxL := 2) (ret := none) (by decide) rfl ?_
  intro p e s m args below meth c s₁ B hml hv
  obtain ⟨rfl, ⟨hsz, hP, hK, hD0⟩, hAO, hN1, hN2⟩ := hv
  have hx := B.exec
  have hb := B.bytes
  have hr := B.returns
  have hts := atoms_spec (ws := wd_ y_X_init b_X_init 2 none) B.pre
  have hT : ∀ w ∈ lw_g, w.before #[.ref o] s = true := fun w hw => hts w (List.mem_cons_of_mem _ hw)
  have hown : s.vm.findClass "TimeNet" = some m.cls := findClass_of_methodNamed B.named
  have hlk := B.notSynchronized
  have hin : meth.name = "<init>" := (name_of_methodNamed B.named B.method).1
  subst hsz
  have hD := hD0.self (sz := s.heap.size)
  generalize hAe : va_A (q_X0 o) s.heap.size = A at hD ⊢
  have hA : ∀ q : Nat, s.heap.size ≤ q → A q := fun q h => by rw [← hAe]; exact Or.inr h
  have hS : va_S A s.heap s.heap [] := va_S.rf
  have hl := lv_entry ([.ref o]) (n := 2) (Nat.le_of_ble_eq_true rfl)
  rw [lg_entry_eq]
  generalize (lg_sl ([.ref o]) ++ List.replicate (2 - (lg_sl ([.ref o])).length) Slot.unset).toArray = ls at hl ⊢
  have hl : lv_has ls 2 [(0, .ref o)] := hl
  refine lv_aload_n hx hb d_X_init_0 rfl (lv_at hl 0 rfl) ?_
  refine W.objInit hx hb hown (hT _ tb_15) (hT _ tb_16) (hT _ tb_17) rfl (by rw [hml]; exact hl.1) rfl d_X_init_1 (Nat.le_of_ble_eq_true rfl) (Nat.le_of_ble_eq_true rfl) ?_
  refine W.eq (g2 := F0 m 4 ls []) rfl ?_
  refine lv_aload_n hx hb d_X_init_4 rfl (lv_at hl 0 rfl) ?_
  refine lv_bipush (v := nI 120) hx hb d_X_init_5 (by decide) ?_
  refine va_newq (C := "TimeNet$Constraint") (N' := 120) hx hb hown (hT _ tb_18) hAO hK hP hD hS hA (nI_pos (by decide)) (nI_clamp (by decide)) (by decide) (by decide) (by decide) d_X_init_7 (fun q1 c1 H hK hP hD hS => ?_)
  have hP : va_P D classes ([(o, .inr (0, [.null, .int 0, .int 0, .null, .null, .null, .int 0, .long 0])), (q1, .inl (c1, 120, .inr (.inr (.inr (.inr (fun _ => none))))))]) H := hP
  have hD : va_D A ([(o, .inr (0, [.null, .int 0, .int 0, .null, .null, .null, .int 0, .long 0])), (q1, .inl (c1, 120, .inr (.inr (.inr (.inr (fun _ => none))))))]) := hD
  refine w_putF i_X t_X t_X_ok n_X hx hb hT hown hK hP hD hS 0 rfl rfl 0 (by decide) tb_88 rfl hin rfl (v := .ref q1) rfl rfl (Nat.le_of_ble_eq_true rfl) d_X_init_10 (fun H locs hP hD hS => ?_)
  have hP : va_P D classes ([(o, .inr (0, [.ref q1, .int 0, .int 0, .null, .null, .null, .int 0, .long 0])), (q1, .inl (c1, 120, .inr (.inr (.inr (.inr (fun _ => none))))))]) H := hP
  have hD : va_D A ([(o, .inr (0, [.ref q1, .int 0, .int 0, .null, .null, .null, .int 0, .long 0])), (q1, .inl (c1, 120, .inr (.inr (.inr (.inr (fun _ => none))))))]) := hD
  refine lv_aload_n hx hb d_X_init_13 rfl (lv_at hl 0 rfl) ?_
  refine va_new (ci := 1) (fs := [.null, .null]) (C := R_P) (T := F_P) (N := 2) hx hb hT i_P t_P t_P_ok hown (hT _ tb_20) (hT _ tb_21) (hT _ tb_2) hK hP hD hS hA rfl (fun j hj => by rcases (show j = 0 ∨ j = 1 by omega) with rfl | rfl <;> rfl) (by decide) (by decide) d_X_init_14 (fun q2 H hP hD hS => ?_)
  have hP : va_P D classes ([(o, .inr (0, [.ref q1, .int 0, .int 0, .null, .null, .null, .int 0, .long 0])), (q1, .inl (c1, 120, .inr (.inr (.inr (.inr (fun _ => none))))))] ++ q_P0 q2 ++ []) H := hP
  have hD : va_D A ([(o, .inr (0, [.ref q1, .int 0, .int 0, .null, .null, .null, .int 0, .long 0])), (q1, .inl (c1, 120, .inr (.inr (.inr (.inr (fun _ => none))))))] ++ q_P0 q2 ++ []) := hD
  refine lv_dup hx hb d_X_init_17 rfl ?_
  have hPc : va_P D classes (q_P0 q2) H := hP.sub [2] rfl
  have hDc : va_D (fun _ => True) (q_P0 q2) := (hD.sub [2] (by decide) rfl).weaken (fun _ _ _ _ => trivial)
  have hKc : va_K D classes [] s := hK.sub [] rfl
  have hFc := w_free hD hS hA
  refine va_callv (va_runIN (As := []) (rest := [.ref q2, .ref o]) ⟨hx, hb, hml, hown, hT⟩ (c_P_init l D q2 H.size) ⟨va_cnB 0 hT (wd_good tb_24) rfl rfl rfl hN1 (hT _ tb_2) (by decide +kernel) ⟨by decide, by decide⟩, rfl, hT _ tb_23⟩ ⟨q_blind, fun U hU hW => ⟨rfl, by rw [hU], by rw [hU]; exact hPc, va_K.moved hW.alike hKc, hDc⟩⟩ rfl rfl hl.1 rfl (lv_room (Nat.le_of_ble_eq_true rfl)) d_X_init_18 ⟨by decide, by decide⟩) hS (fun q _ h => hFc q h) hFc (fun u t H1 locs ht hvm _ hB hz1 hk1 hS => ?_)
  obtain ⟨hP1, hK1, hD1⟩ := hB
  rw [ht] at hP1
  have hK1 := va_K.moved hvm.symm hK1
  obtain ⟨hP, hD⟩ := w_frame hP hD hFc hk1 hP1 hD1
  have hK := hK.app hK1
  generalize H1 = H at hP hS ⊢
  obtain ⟨q3, q4, c3, c4⟩ := u
  have hP : va_P D classes ([(o, .inr (0, [.ref q1, .int 0, .int 0, .null, .null, .null, .int 0, .long 0])), (q1, .inl (c1, 120, .inr (.inr (.inr (.inr (fun _ => none)))))), (q2, .inr (1, [.ref q3, .ref q4])), (q3, .inl (c3, 400, .inr (.inl (fun _ => 0)))), (q4, .inl (c4, 400, .inl (fun _ => nI 0)))]) H := hP
  have hD : va_D A ([(o, .inr (0, [.ref q1, .int 0, .int 0, .null, .null, .null, .int 0, .long 0])), (q1, .inl (c1, 120, .inr (.inr (.inr (.inr (fun _ => none)))))), (q2, .inr (1, [.ref q3, .ref q4])), (q3, .inl (c3, 400, .inr (.inl (fun _ => 0)))), (q4, .inl (c4, 400, .inl (fun _ => nI 0)))]) := hD
  have hK : va_K D classes [(c1, .object "TimeNet$Constraint"), (c3, .long), (c4, .int)] s := hK
  refine w_putF i_X t_X t_X_ok n_X hx hb hT hown hK hP hD hS 0 rfl rfl 3 (by decide) tb_91 rfl hin rfl (v := .ref q2) rfl rfl (Nat.le_of_ble_eq_true rfl) d_X_init_21 (fun H locs hP hD hS => ?_)
  have hP : va_P D classes ([(o, .inr (0, [.ref q1, .int 0, .int 0, .ref q2, .null, .null, .int 0, .long 0])), (q1, .inl (c1, 120, .inr (.inr (.inr (.inr (fun _ => none)))))), (q2, .inr (1, [.ref q3, .ref q4])), (q3, .inl (c3, 400, .inr (.inl (fun _ => 0)))), (q4, .inl (c4, 400, .inl (fun _ => nI 0)))]) H := hP
  have hD : va_D A ([(o, .inr (0, [.ref q1, .int 0, .int 0, .ref q2, .null, .null, .int 0, .long 0])), (q1, .inl (c1, 120, .inr (.inr (.inr (.inr (fun _ => none)))))), (q2, .inr (1, [.ref q3, .ref q4])), (q3, .inl (c3, 400, .inr (.inl (fun _ => 0)))), (q4, .inl (c4, 400, .inl (fun _ => nI 0)))]) := hD
  refine lv_aload_n hx hb d_X_init_24 rfl (lv_at hl 0 rfl) ?_
  refine lv_sipush (v := nI 400) hx hb d_X_init_25 (by decide) ?_
  refine va_newa (atype := .long) (ty := .long) (N' := 400) (a0 := (400, .inr (.inl (fun _ => 0)))) hx hb (hT _ tb_35) rfl hK hP hD hS hA (fun _ => rfl) (nI_pos (by decide)) (nI_clamp (by decide)) (by decide) (by decide) (by decide) d_X_init_28 (fun q5 c5 H hK hP hD hS => ?_)
  have hP : va_P D classes ([(o, .inr (0, [.ref q1, .int 0, .int 0, .ref q2, .null, .null, .int 0, .long 0])), (q1, .inl (c1, 120, .inr (.inr (.inr (.inr (fun _ => none)))))), (q2, .inr (1, [.ref q3, .ref q4])), (q3, .inl (c3, 400, .inr (.inl (fun _ => 0)))), (q4, .inl (c4, 400, .inl (fun _ => nI 0))), (q5, .inl (c5, 400, .inr (.inl (fun _ => 0))))]) H := hP
  have hD : va_D A ([(o, .inr (0, [.ref q1, .int 0, .int 0, .ref q2, .null, .null, .int 0, .long 0])), (q1, .inl (c1, 120, .inr (.inr (.inr (.inr (fun _ => none)))))), (q2, .inr (1, [.ref q3, .ref q4])), (q3, .inl (c3, 400, .inr (.inl (fun _ => 0)))), (q4, .inl (c4, 400, .inl (fun _ => nI 0))), (q5, .inl (c5, 400, .inr (.inl (fun _ => 0))))]) := hD
  refine w_putF i_X t_X t_X_ok n_X hx hb hT hown hK hP hD hS 0 rfl rfl 4 (by decide) tb_92 rfl hin rfl (v := .ref q5) rfl rfl (Nat.le_of_ble_eq_true rfl) d_X_init_30 (fun H locs hP hD hS => ?_)
  have hP : va_P D classes ([(o, .inr (0, [.ref q1, .int 0, .int 0, .ref q2, .ref q5, .null, .int 0, .long 0])), (q1, .inl (c1, 120, .inr (.inr (.inr (.inr (fun _ => none)))))), (q2, .inr (1, [.ref q3, .ref q4])), (q3, .inl (c3, 400, .inr (.inl (fun _ => 0)))), (q4, .inl (c4, 400, .inl (fun _ => nI 0))), (q5, .inl (c5, 400, .inr (.inl (fun _ => 0))))]) H := hP
  have hD : va_D A ([(o, .inr (0, [.ref q1, .int 0, .int 0, .ref q2, .ref q5, .null, .int 0, .long 0])), (q1, .inl (c1, 120, .inr (.inr (.inr (.inr (fun _ => none)))))), (q2, .inr (1, [.ref q3, .ref q4])), (q3, .inl (c3, 400, .inr (.inl (fun _ => 0)))), (q4, .inl (c4, 400, .inl (fun _ => nI 0))), (q5, .inl (c5, 400, .inr (.inl (fun _ => 0))))]) := hD
  refine lv_aload_n hx hb d_X_init_33 rfl (lv_at hl 0 rfl) ?_
  refine lv_bipush (v := nI 22) hx hb d_X_init_34 (by decide) ?_
  refine va_newa (atype := .int) (ty := .int) (N' := 22) (a0 := (22, .inl (fun _ => 0))) hx hb (hT _ tb_36) rfl hK hP hD hS hA (fun _ => rfl) (nI_pos (by decide)) (nI_clamp (by decide)) (by decide) (by decide) (by decide) d_X_init_36 (fun q6 c6 H hK hP hD hS => ?_)
  have hP : va_P D classes ([(o, .inr (0, [.ref q1, .int 0, .int 0, .ref q2, .ref q5, .null, .int 0, .long 0])), (q1, .inl (c1, 120, .inr (.inr (.inr (.inr (fun _ => none)))))), (q2, .inr (1, [.ref q3, .ref q4])), (q3, .inl (c3, 400, .inr (.inl (fun _ => 0)))), (q4, .inl (c4, 400, .inl (fun _ => nI 0))), (q5, .inl (c5, 400, .inr (.inl (fun _ => 0)))), (q6, .inl (c6, 22, .inl (fun _ => 0)))]) H := hP
  have hD : va_D A ([(o, .inr (0, [.ref q1, .int 0, .int 0, .ref q2, .ref q5, .null, .int 0, .long 0])), (q1, .inl (c1, 120, .inr (.inr (.inr (.inr (fun _ => none)))))), (q2, .inr (1, [.ref q3, .ref q4])), (q3, .inl (c3, 400, .inr (.inl (fun _ => 0)))), (q4, .inl (c4, 400, .inl (fun _ => nI 0))), (q5, .inl (c5, 400, .inr (.inl (fun _ => 0)))), (q6, .inl (c6, 22, .inl (fun _ => 0)))]) := hD
  refine w_putF i_X t_X t_X_ok n_X hx hb hT hown hK hP hD hS 0 rfl rfl 5 (by decide) tb_93 rfl hin rfl (v := .ref q6) rfl rfl (Nat.le_of_ble_eq_true rfl) d_X_init_38 (fun H locs hP hD hS => ?_)
  have hP : va_P D classes (q_XB o q1 q2 q3 q4 q5 q6 c1 c3 c4 c5 c6 (fun _ => none)) H := hP
  have hD : va_D A (q_XB o q1 q2 q3 q4 q5 q6 c1 c3 c4 c5 c6 (fun _ => none)) := hD
  have hK : va_K D classes [(c1, .object "TimeNet$Constraint"), (c3, .long), (c4, .int), (c5, .long), (c6, .int)] s := hK
  refine W.widen (k := 6 + 0) (n := 1344 + 4 * 0) (by decide) (by decide) ?_
  refine lv_iconst (v := nI 0) hx hb d_X_init_41 (by decide) ?_
  refine lv_istore_n (lv' := [(1, .int (nI 0)), (0, .ref o)]) hx hb d_X_init_42 rfl hl (by decide) rfl (fun ls hl => ?_)
  have loop : ∀ (d z : Nat), z ≤ 120 → 120 + 1 ≤ z + d → ∀ (ca : Nat → Nat) (g : Nat → Option Nat) (H : Heap) (locs : List Loc) (ls : Array Slot), (∀ j, j < z → g j = some (ca j)) → va_P D classes (q_XB o q1 q2 q3 q4 q5 q6 c1 c3 c4 c5 c6 g ++ (List.range z).map (q_c0 ca)) H → va_D A (q_XB o q1 q2 q3 q4 q5 q6 c1 c3 c4 c5 c6 g ++ (List.range z).map (q_c0 ca)) → va_S A s.heap H locs → lv_has ls 2 [(1, .int (nI z)), (0, .ref o)] → W p l e q_rmX s m #[.ref o] below meth c H locs (6 + z) (1344 + 4 * z) (MQ below (va_Qv (fun _ : (Nat → Nat) × (Nat → ClassId) × (Nat → Nat) => True) (fun u t => va_P D classes (q_X1 o u) t.heap ∧ va_K D classes (xT u.2.1) t ∧ va_D A (q_X1 o u)) A) #[.ref o] s 126 1824 A) (F0 m 43 ls []) := by
    intro d
    induction d with
    | zero => intro z h1 h2; exact absurd h2 (by omega)
    | succ d ih =>
      intro z hz hd ca g H locs ls hg hP hD hS hl
      refine lv_iload_n hx hb d_X_init_43 rfl (lv_at hl 0 rfl) ?_
      refine lv_bipush (v := nI 120) hx hb d_X_init_44 (by decide) ?_
      refine w_icge (tgt := 68) hx hb (by omega) (by omega) d_X_init_46 (by decide) (fun h3 => ?_) (fun h3 => ?_)
      · have h4 : z = 120 := by omega
        subst h4
        have hP := hP.set hD (p := 1) (e := .inl (c1, 120, .inr (.inr (.inr (.inr (fun j => some (ca j))))))) rfl (by
          have h9 : H[q1]? = some (vp_cell c1 (120, .inr (.inr (.inr (.inr g))))) := hP 1 _ rfl
          rw [q_cellq (f := g) (g := fun j => some (ca j)) (fun j hj => hg j hj)] at h9
          exact h9) (fun _ _ => rfl)
        have hD := hD.set (p := 1) (e := .inl (c1, 120, .inr (.inr (.inr (.inr (fun j => some (ca j))))))) rfl
        have hup : va_up (q_7 o q1 q2 q3 q4 q5 q6) 0 o = q_7 o q1 q2 q3 q4 q5 q6 := q_up_id _ 0
        have hP : va_P D classes (xW (q_7 o q1 q2 q3 q4 q5 q6) (q_7 c1 c1 c1 c3 c4 c5 c6) ca 0 0 (fun _ => 0) (fun _ => 0) (fun _ => 0) (fun _ => false) (fun _ => 0) (fun _ => nI 0) (fun _ => 0) (fun _ => 0) 0 0) H := hP
        have hD : va_D A (xW (q_7 o q1 q2 q3 q4 q5 q6) (q_7 c1 c1 c1 c3 c4 c5 c6) ca 0 0 (fun _ => 0) (fun _ => 0) (fun _ => 0) (fun _ => false) (fun _ => 0) (fun _ => nI 0) (fun _ => 0) (fun _ => 0) 0 0) := hD
        have hK : va_K D classes (xT (q_7 c1 c1 c1 c3 c4 c5 c6)) s := hK
        refine lv_aload_n hx hb d_X_init_68 rfl (lv_at hl 1 rfl) ?_
        refine w_callN (As := []) (rest := []) ⟨hx, hb, hml, hown, hT⟩ (c_X_anew l D (q_7 o q1 q2 q3 q4 q5 q6) (q_7 c1 c1 c1 c3 c4 c5 c6) ca 0 0 (fun _ => 0) (fun _ => 0) (fun _ => 0) (fun _ => false) (fun _ => 0) (fun _ => nI 0) (fun _ => 0) (fun _ => 0) 0 0 (by omega) (fun j hj => by omega)) (w_cwV hT ms_X_anew tb_55 ⟨by decide, by decide⟩) hK hP hD hS hA 0 0 rfl rfl rfl rfl rfl hl.1 (Nat.le_of_ble_eq_true rfl) d_X_init_69 ⟨by decide, by decide⟩ (fun H locs hP hD hS => ?_)
        refine W.widen (k := 126) (n := 1824) (by decide) (by decide) ?_
        exact W.vret hx hb hr (fun t ht hW => ⟨⟨(q_7 o q1 q2 q3 q4 q5 q6, q_7 c1 c1 c1 c3 c4 c5 c6, ca), rfl, trivial, by rw [ht, q_X1, hup]; exact hP, va_K.moved hW.alike hK, by rw [q_X1, hup]; exact hD⟩, hS.F ht⟩) hS.2.2 d_X_init_72
      · refine lv_aload_n hx hb d_X_init_49 rfl (lv_at hl 1 rfl) ?_
        refine w_get i_X hx hb hT hown hK hP 0 rfl rfl 0 (by decide) tb_88 rfl d_X_init_50 ?_
        refine lv_iload_n hx hb d_X_init_53 rfl (lv_at hl 0 rfl) ?_
        refine va_new (ci := 2) (fs := [.int (nI 0), .int (nI 0), .long 0, .int (q_b false)]) (C := R_C) (T := F_C) (N := 4) hx hb hT i_C t_C t_C_ok hown (hT _ tb_18) (hT _ tb_37) (hT _ tb_3) hK hP hD hS hA rfl (fun j hj => by rcases (show j = 0 ∨ j = 1 ∨ j = 2 ∨ j = 3 by omega) with rfl | rfl | rfl | rfl <;> rfl) (show 6 + z + 1 ≤ 126 by omega) (show 1344 + 4 * z + 4 ≤ 1824 by omega) d_X_init_54 (fun q H hP hD hS => ?_)
        refine lv_dup hx hb d_X_init_57 rfl ?_
        have hP : va_P D classes ((q_XB o q1 q2 q3 q4 q5 q6 c1 c3 c4 c5 c6 g ++ (List.range z).map (q_c0 ca)) ++ [(q, .inr (2, [.int (nI 0), .int (nI 0), .long 0, .int (q_b false)]))] ++ []) H := by rw [List.append_nil]; exact hP
        have hD : va_D A ((q_XB o q1 q2 q3 q4 q5 q6 c1 c3 c4 c5 c6 g ++ (List.range z).map (q_c0 ca)) ++ [(q, .inr (2, [.int (nI 0), .int (nI 0), .long 0, .int (q_b false)]))] ++ []) := by rw [List.append_nil]; exact hD
        have hix : ((q_XB o q1 q2 q3 q4 q5 q6 c1 c3 c4 c5 c6 g ++ (List.range z).map (q_c0 ca)) ++ [(q, .inr (2, [.int (nI 0), .int (nI 0), .long 0, .int (q_b false)]))])[7 + z]? = some (q, .inr (2, [.int (nI 0), .int (nI 0), .long 0, .int (q_b false)])) := by
          rw [List.getElem?_append_right (by simp; omega)]
          rw [show 7 + z - (q_XB o q1 q2 q3 q4 q5 q6 c1 c3 c4 c5 c6 g ++ (List.range z).map (q_c0 ca)).length = 0 by simp; omega]
          rfl
        have hPc : va_P D classes [(q, .inr (2, [.int (nI 0), .int (nI 0), .long 0, .int (q_b false)]))] H := by
          intro k x hk
          have hk0 : k = 0 := by
            have := (List.getElem?_eq_some_iff.mp hk).1
            simp at this
            omega
          subst hk0
          cases hk
          exact hP (7 + z) _ (by rw [List.append_nil]; exact hix)
        have hDc : va_D (fun _ => True) [(q, (.inr (2, [.int (nI 0), .int (nI 0), .long 0, .int (q_b false)]) : va_E))] := ⟨fun i j x y hi hj _ => by
          have h1 := (List.getElem?_eq_some_iff.mp hi).1
          have h2 := (List.getElem?_eq_some_iff.mp hj).1
          simp at h1 h2
          omega, fun _ _ _ => trivial⟩
        have hKc : va_K D classes [] s := hK.sub [] rfl
        refine w_callG (As := [.ref q]) (va_runIN (g := F0 m 58 ls [.ref q, .ref q, .int (nI z), .ref q1]) (As := []) (rest := [.ref q, .int (nI z), .ref q1]) ⟨hx, hb, hml, hown, hT⟩ (c_C_init l D q _ H.size) ⟨va_cnB 0 hT (wd_good tb_40) rfl rfl rfl hN2 (hT _ tb_3) (by decide +kernel) ⟨by decide, by decide⟩, rfl, hT _ tb_39⟩ ⟨q_blind, fun U hU hW => ⟨rfl, by rw [hU], by rw [hU]; exact hPc, va_K.moved hW.alike hKc, hDc⟩⟩ rfl rfl hl.1 rfl (lv_room (Nat.le_of_ble_eq_true rfl)) d_X_init_58 ⟨show 6 + z + 1 + 0 ≤ 126 by omega, show 1344 + 4 * z + 4 + 0 ≤ 1824 by omega⟩) hP hD hS hA (fun H locs hP hD hS => ?_)
        rw [List.append_nil] at hP hD
        refine va_astq (r := (R_C, F_C, 4)) hx hb hK hP hD hS 1 0 (7 + z) 2 rfl rfl hix rfl (vp_in_nI h3 (by decide)) d_X_init_61 (fun H locs hP hD hS => ?_)
        rw [nI_clamp (by omega)] at hP hD
        refine lv_iinc (v := nI (z + 1)) (lv' := [(1, .int (nI (z + 1))), (0, .ref o)]) hx hb d_X_init_62 hl (k := 0) rfl (q_ii _) (by decide) rfl (fun ls hl => ?_)
        refine lv_goto (tgt := 43) hx hb d_X_init_65 (by decide) ?_
        have hmap : q_XB o q1 q2 q3 q4 q5 q6 c1 c3 c4 c5 c6 (va_up g z (some q)) ++ (List.range (z + 1)).map (q_c0 (va_up ca z q)) = q_XB o q1 q2 q3 q4 q5 q6 c1 c3 c4 c5 c6 (va_up g z (some q)) ++ (List.range z).map (q_c0 ca) ++ [(q, .inr (2, [.int (nI 0), .int (nI 0), .long 0, .int (q_b false)]))] := by
          rw [q_range_push (q_c0 ca) (q_c0 (va_up ca z q)) z (fun j hj => by rw [q_c0, q_c0, q_con, q_con, va_up_ne _ _ (by omega)]), List.append_assoc, q_c0, q_con, va_up_self]
        refine W.widen (k := 6 + (z + 1)) (n := 1344 + 4 * (z + 1)) (by omega) (by omega) ?_
        exact ih (z + 1) (by omega) (by omega) (va_up ca z q) (va_up g z (some q)) H locs ls (fun j hj => by
          by_cases hjz : j = z
          · subst hjz
            rw [va_up_self, va_up_self]
          · rw [va_up_ne _ _ hjz, va_up_ne _ _ hjz]
            exact hg j (by omega)) (by rw [hmap]; exact hP) (by rw [hmap]; exact hD) hS (lv_sub hl [0, 1] rfl)
  exact loop 121 0 (by omega) (by omega) (fun _ => 0) (fun _ => none) H locs ls (fun j hj => by omega) hP hD hS (lv_sub hl [0, 1] rfl)
end
section
/-! the throwing of NoSuchElementException -/
def q_NS : String := "java/util/NoSuchElementException"
def q_up : List String := ["java/lang/RuntimeException", "java/lang/Exception"]
/-- the words of it that are no good words -/
def q_bw : List Cond := [.castable q_NS q_NS, .declares ⟨"java/lang/RuntimeException", "<init>", "()V"⟩, .declares ⟨"java/lang/Exception", "<init>", "()V"⟩, .declares ⟨"java/lang/Throwable", "<init>", "()V"⟩,
  .laysStatic "java/lang/Throwable" "UNASSIGNED_STACK" "[Ljava/lang/StackTraceElement;", .laysStatic "java/lang/Throwable" "SUPPRESSED_SENTINEL" "Ljava/util/List;",
  .isRef (.static "java/lang/Throwable" "UNASSIGNED_STACK" "[Ljava/lang/StackTraceElement;"), .isRef (.static "java/lang/Throwable" "SUPPRESSED_SENTINEL" "Ljava/util/List;")]
def q_TA (U : State) : Prop := ∀ (a : Array Value), ∀ w ∈ q_bw, w.before a U = true
theorem q_own : ∀ w ∈ Bundle.ownAtoms0 "TimeNet" 125 q_NS q_up, w ∈ lw_g ∨ w ∈ q_bw :=
  List.forall_mem_cons.mpr ⟨Or.inl (lw_g_mem 19 (by decide +kernel) (by decide +kernel)),
  List.forall_mem_cons.mpr ⟨Or.inl (lw_g_mem 227 (by decide +kernel) (by decide +kernel)),
  List.forall_mem_cons.mpr ⟨Or.inl (lw_g_mem 236 (by decide +kernel) (by decide +kernel)),
  List.forall_mem_cons.mpr ⟨Or.inl (lw_g_mem 238 (by decide +kernel) (by decide +kernel)),
  List.forall_mem_cons.mpr ⟨Or.inl (lw_g_mem 241 (by decide +kernel) (by decide +kernel)),
  List.forall_mem_cons.mpr ⟨Or.inl (lw_g_mem 243 (by decide +kernel) (by decide +kernel)),
  List.forall_mem_cons.mpr ⟨Or.inl (lw_g_mem 228 (by decide +kernel) (by decide +kernel)),
  List.forall_mem_cons.mpr ⟨Or.inl (lw_g_mem 229 (by decide +kernel) (by decide +kernel)),
  List.forall_mem_cons.mpr ⟨Or.inl (lw_g_mem 29 (by decide +kernel) (by decide +kernel)),
  List.forall_mem_cons.mpr ⟨Or.inl (lw_g_mem 30 (by decide +kernel) (by decide +kernel)),
  List.forall_mem_cons.mpr ⟨Or.inl (lw_g_mem 230 (by decide +kernel) (by decide +kernel)),
  List.forall_mem_cons.mpr ⟨Or.inl (lw_g_mem 235 (by decide +kernel) (by decide +kernel)),
  List.forall_mem_cons.mpr ⟨Or.inl (lw_g_mem 239 (by decide +kernel) (by decide +kernel)),
  List.forall_mem_cons.mpr ⟨Or.inl (lw_g_mem 255 (by decide +kernel) (by decide +kernel)),
  List.forall_mem_cons.mpr ⟨Or.inl (lw_g_mem 217 (by decide +kernel) (by decide +kernel)),
  List.forall_mem_cons.mpr ⟨Or.inl (lw_g_mem 256 (by decide +kernel) (by decide +kernel)),
  List.forall_mem_cons.mpr ⟨Or.inl (lw_g_mem 219 (by decide +kernel) (by decide +kernel)),
  List.forall_mem_cons.mpr ⟨Or.inl (lw_g_mem 257 (by decide +kernel) (by decide +kernel)),
  List.forall_mem_cons.mpr ⟨Or.inl (lw_g_mem 221 (by decide +kernel) (by decide +kernel)),
  List.forall_mem_cons.mpr ⟨Or.inl (lw_g_mem 231 (by decide +kernel) (by decide +kernel)),
  List.forall_mem_cons.mpr ⟨Or.inr (List.mem_of_getElem? (i := 4) (by decide +kernel)),
  List.forall_mem_cons.mpr ⟨Or.inl (lw_g_mem 233 (by decide +kernel) (by decide +kernel)),
  List.forall_mem_cons.mpr ⟨Or.inr (List.mem_of_getElem? (i := 5) (by decide +kernel)),
  List.forall_mem_cons.mpr ⟨Or.inl (lw_g_mem 223 (by decide +kernel) (by decide +kernel)),
  List.forall_mem_cons.mpr ⟨Or.inl (lw_g_mem 245 (by decide +kernel) (by decide +kernel)),
  List.forall_mem_cons.mpr ⟨Or.inl (lw_g_mem 246 (by decide +kernel) (by decide +kernel)),
  List.forall_mem_cons.mpr ⟨Or.inl (lw_g_mem 247 (by decide +kernel) (by decide +kernel)),
  List.forall_mem_cons.mpr ⟨Or.inl (lw_g_mem 248 (by decide +kernel) (by decide +kernel)),
  List.forall_mem_cons.mpr ⟨Or.inr (List.mem_of_getElem? (i := 1) (by decide +kernel)),
  List.forall_mem_cons.mpr ⟨Or.inl (lw_g_mem 248 (by decide +kernel) (by decide +kernel)),
  List.forall_mem_cons.mpr ⟨Or.inl (lw_g_mem 249 (by decide +kernel) (by decide +kernel)),
  List.forall_mem_cons.mpr ⟨Or.inl (lw_g_mem 250 (by decide +kernel) (by decide +kernel)),
  List.forall_mem_cons.mpr ⟨Or.inl (lw_g_mem 251 (by decide +kernel) (by decide +kernel)),
  List.forall_mem_cons.mpr ⟨Or.inr (List.mem_of_getElem? (i := 2) (by decide +kernel)),
  List.forall_mem_cons.mpr ⟨Or.inl (lw_g_mem 251 (by decide +kernel) (by decide +kernel)),
  List.forall_mem_cons.mpr ⟨Or.inl (lw_g_mem 252 (by decide +kernel) (by decide +kernel)),
  List.forall_mem_cons.mpr ⟨Or.inl (lw_g_mem 253 (by decide +kernel) (by decide +kernel)),
  List.forall_mem_cons.mpr ⟨Or.inl (lw_g_mem 228 (by decide +kernel) (by decide +kernel)),
  List.forall_mem_cons.mpr ⟨Or.inr (List.mem_of_getElem? (i := 3) (by decide +kernel)),
  List.forall_mem_cons.mpr ⟨Or.inl (lw_g_mem 244 (by decide +kernel) (by decide +kernel)),
  List.forall_mem_cons.mpr ⟨Or.inl (lw_g_mem 206 (by decide +kernel) (by decide +kernel)),
  List.forall_mem_cons.mpr ⟨Or.inr (List.mem_of_getElem? (i := 0) (by decide +kernel)),
  List.forall_mem_cons.mpr ⟨Or.inl (lw_g_mem 214 (by decide +kernel) (by decide +kernel)),
  List.forall_mem_cons.mpr ⟨Or.inl (lw_g_mem 215 (by decide +kernel) (by decide +kernel)),
  List.forall_mem_cons.mpr ⟨Or.inl (lw_g_mem 216 (by decide +kernel) (by decide +kernel)),
  List.forall_mem_cons.mpr ⟨Or.inl (lw_g_mem 218 (by decide +kernel) (by decide +kernel)),
  List.forall_mem_cons.mpr ⟨Or.inl (lw_g_mem 220 (by decide +kernel) (by decide +kernel)),
  List.forall_mem_cons.mpr ⟨Or.inl (lw_g_mem 222 (by decide +kernel) (by decide +kernel)),
  List.forall_mem_cons.mpr ⟨Or.inr (List.mem_of_getElem? (i := 6) (by decide +kernel)),
  List.forall_mem_cons.mpr ⟨Or.inr (List.mem_of_getElem? (i := 7) (by decide +kernel)),
  List.forall_mem_cons.mpr ⟨Or.inl (lw_g_mem 226 (by decide +kernel) (by decide +kernel)),
  List.forall_mem_cons.mpr ⟨Or.inl (lw_g_mem 225 (by decide +kernel) (by decide +kernel)),
  List.forall_mem_cons.mpr ⟨Or.inl (lw_g_mem 224 (by decide +kernel) (by decide +kernel)),
  fun _ h => by cases h⟩⟩⟩⟩⟩⟩⟩⟩⟩⟩⟩⟩⟩⟩⟩⟩⟩⟩⟩⟩⟩⟩⟩⟩⟩⟩⟩⟩⟩⟩⟩⟩⟩⟩⟩⟩⟩⟩⟩⟩⟩⟩⟩⟩⟩⟩⟩⟩⟩⟩⟩⟩⟩
theorem q_stat {C n d : String} {s U : State} (hW : s.WarmedH U.vm) (hh : ∀ q : Nat, q < s.heap.size → U.heap[q]? = s.heap[q]?) {a : Array Value} (h : (Cond.laysStatic C n d).before a s = true) (a' : Array Value) : (Cond.laysStatic C n d).before a' U = true := by
  obtain ⟨c, k, i, f, q, cell, hc, hi, hst, ha, hcell, hs, hcls, hlt, hty⟩ := Cond.laysStatic_spec h
  obtain ⟨k', hi', hek⟩ := State.fieldFound?_setVm hW.alike hi
  exact Cond.laysStatic_of (s := U) (by rw [hW.alike.findClass]; exact hc) hi' hst (by rw [hek]; exact ha) (by rw [hh q (Array.getElem?_eq_some_iff.mp hcell).1]; exact hcell) hs hcls hlt (by rw [hek]; exact hty)
theorem q_isr {C n d : String} {s U : State} (hW : s.WarmedH U.vm) (hh : ∀ q : Nat, q < s.heap.size → U.heap[q]? = s.heap[q]?) {a : Array Value} (hl : (Cond.laysStatic C n d).before a s = true) (h : (Cond.isRef (.static C n d)).before a s = true) (a' : Array Value) : (Cond.isRef (.static C n d)).before a' U = true := by
  obtain ⟨c, k, i, f, q, cell, hc, hi, hst, ha, hcell, hs, hcls, hlt, hty⟩ := Cond.laysStatic_spec hl
  obtain ⟨k', hi', hek⟩ := State.fieldFound?_setVm hW.alike hi
  have hi2 : U.fieldFound? C n d = some (c, k', i, f) := hi'
  have ha2 : k'.statics = some q := by rw [hek]; exact ha
  have hc2 : U.heap[q]? = some cell := by rw [hh q (Array.getElem?_eq_some_iff.mp hcell).1]; exact hcell
  have hv : cell.slots[f.slot]? = some cell.slots[f.slot] := Array.getElem?_eq_getElem hlt
  have e1 : (Term.static C n d).eval a s none [] s = some cell.slots[f.slot] := by simp [Term.eval, State.fieldNamed?, hi, hst, ha, hcell, hs, hv]
  have e2 : (Term.static C n d).eval a' U none [] U = some cell.slots[f.slot] := by simp [Term.eval, State.fieldNamed?, hi2, hst, ha2, hc2, hs, hv]
  simp only [Cond.before, Cond.holds, Cond.value, e1] at h
  simp only [Cond.before, Cond.holds, Cond.value, e2]
  exact h
theorem q_TA.moved {s U : State} (h : q_TA s) (hW : s.WarmedH U.vm) (hh : ∀ q : Nat, q < s.heap.size → U.heap[q]? = s.heap[q]?) : q_TA U := by
  intro a
  have g : ∀ (i : Nat) (w : Cond), q_bw[i]? = some w → w.before a s = true := fun i w hw => h a w (List.mem_of_getElem? hw)
  refine List.forall_mem_cons.mpr ⟨va_Nw.use rfl (va_Nw.warmC hW (va_Nw.of rfl (g 0 _ rfl))), List.forall_mem_cons.mpr ⟨va_Nw.use rfl (va_Nw.warmD hW (va_Nw.of rfl (g 1 _ rfl))), List.forall_mem_cons.mpr ⟨va_Nw.use rfl (va_Nw.warmD hW (va_Nw.of rfl (g 2 _ rfl))), List.forall_mem_cons.mpr ⟨va_Nw.use rfl (va_Nw.warmD hW (va_Nw.of rfl (g 3 _ rfl))),
    List.forall_mem_cons.mpr ⟨q_stat hW hh (g 4 _ rfl) a, List.forall_mem_cons.mpr ⟨q_stat hW hh (g 5 _ rfl) a, List.forall_mem_cons.mpr ⟨q_isr hW hh (g 4 _ rfl) (g 6 _ rfl) a, List.forall_mem_cons.mpr ⟨q_isr hW hh (g 5 _ rfl) (g 7 _ rfl) a, fun _ h => by cases h⟩⟩⟩⟩⟩⟩⟩⟩
theorem q_TA.own {s : State} {args : Array Value} (h : q_TA s) (hT : ∀ w ∈ lw_g, w.before args s = true) : ∀ w ∈ Bundle.ownAtoms0 "TimeNet" 125 q_NS q_up, w.before args s = true := fun w hw => by
  rcases q_own w hw with h1 | h1
  · exact hT w h1
  · exact h args w h1
end
section
/-! contracts of methods that throw: one new cell of six slots, nothing else -/
def q_TQ : Array Value → State → Outcome → State → Prop := fun _ st o t => ∃ (x : Nat) (cell : Cell), o = .threw x ∧ st.WarmedH t.vm ∧ st.sameButNew ({ t with vm := st.vm } : State) [] 1 6 ∧ t.heap[x]? = some cell ∧ cell.vm = .none ∧ st.vm.findClass q_NS = some cell.cls ∧ st.heap.size ≤ x
def q_rmT (f n : Nat) : Room := { frames := f, cells := 1, slots := 6, locals := n }
def MT (l : Launch) (y : MethodName) (ws : List Cond) (f lo : Nat) (Pc : Array Value → State → Prop) : Prop := MetFree l y (headSpec ws (q_rmT f lo)) Pc (fun _ _ _ _ _ => True) q_TQ
def TQ (below : List Frame) (a : Array Value) (s : State) : State → Prop := fun t => ∃ o, t.status = .running ∧ Ended t below o ∧ q_TQ a s o t
theorem MT.ofW {l : Launch} {y : MethodName} {ws ws' : List Cond} {f lo : Nat} {Pc : Array Value → State → Prop} {cc : ByteArray} {maxL : Nat} {ret : Option FieldType} (hy : plainName y.cls = true) (hw : ws = Cond.code y cc maxL ret :: ws')
    (body : ∀ p e s m args below meth c s₁, BodyLoose p l y (headSpec ws (q_rmT f lo)) cc maxL ret e s m args below meth c s₁ → c.maxLocals = maxL → c.exceptionTable.isEmpty = true → Pc args s →
      W p l e (q_rmT f lo) s m args below meth c s.heap [] 0 0 (TQ below args s) (entryFrame m args maxL)) : MT l y ws f lo Pc := by
  refine MetFree.of_bodyS (code := cc) (maxLocals := maxL) (ret := ret) hy ?_ ?_
  · intro args s m h hn
    obtain ⟨meth, c, h1, h2, h3, h4, h5, h6, -, -⟩ := Cond.code_spec hn (atoms_spec (ws := ws) h _ (by rw [hw]; exact List.mem_cons_self))
    exact ⟨meth, c, h1, h2, h3, h4, h5, h6⟩
  · intro p e s m args below meth c s₁ B hml hP _
    have hh0 : s₁.heap = s.heap := by rw [B.state]; rfl
    have hcw : (Cond.code y cc maxL ret).before args s = true := atoms_spec (ws := ws) B.pre _ (by rw [hw]; exact List.mem_cons_self)
    obtain ⟨t, a1, o, b1, b2, b3⟩ := body p e s m args below meth c s₁ B hml (B.noHandlers hcw) hP s₁ hh0 (Stand.of_body B)
    exact ⟨t, o, a1, b1, b2, b3⟩
/-- how the cells stand behind a throwing -/
theorem q_old {s t : State} {k n : Nat} (h : s.sameButNew t [] k n) : ∀ q : Nat, q < s.heap.size → t.heap[q]? = s.heap[q]? := by
  intro q hq
  obtain ⟨c', h1, h2, h3, h4⟩ := h.2.2.2.2.2 q s.heap[q] (Array.getElem?_eq_getElem hq)
  rw [h1, Array.getElem?_eq_getElem hq]
  have e : c'.slots = s.heap[q].slots := Array.ext_getElem? fun i => h4 i (by simp)
  rw [h2, e]
section WT
variable {p : Program} {l : Launch} {e : Env} {R : Room} {s : State} {m : MethodId} {args : Array Value} {below : List Frame} {meth : Method} {c : Code} {H : Heap} {locs : List Loc} {cells slots : Nat} {Q : State → Prop}
variable {y : MethodName} {b cc : ByteArray} {n : Nat} {r : Option FieldType} {f lo na idx nL pc o : Nat} {own : String} {ls : Array Slot} {rest st0 As : List Value} {Pc : Array Value → State → Prop}
theorem w_thrC {U : State} {ws : List Cond} {len W : Nat} (X : Stand p l e R s m args below meth c U locs cells slots) (hM : MT l y ws f lo Pc) (hws : ∀ w ∈ ws, ∀ a', w.before a' U = true) (hcw : Cond.code y b n r ∈ ws) (hini : (Cond.initialized y.cls).before args U = true)
    {g : JFrame} {ig : Instr} {mk : MethodId} {a : Array Value} (hg : g.method = m) (hsize : g.locals.size = c.maxLocals) (hdg : decode c.code g.pc = .ok (ig, len)) (hW : 2 * g.monitorRoom + (g.stack.map fun v => v.category).sum ≤ W) (hn : U.methodNamed? y = some mk)
    (hframes : f + 1 ≤ R.frames) (hlocals : W + (n + 11) + lo ≤ R.locals) (h4 : cells + 1 ≤ R.cells) (h5 : slots + 6 ≤ R.slots) (hP : Pc a (U.calling g mk a)) :
    ∃ (T' : State) (x : Nat) (cell : Cell), Stand p l e R s m args below meth c T' locs (cells + 1) (slots + 6) ∧ U.sameButNew (T'.setVm U.vm) [] 1 6 ∧ T'.heap[x]? = some cell ∧ cell.vm = .none ∧ U.vm.findClass q_NS = some cell.cls ∧ U.heap.size ≤ x ∧
      Steps p.tables e below (doInvoke e (U.setTop g) [] mk a).1 ((T'.setTop g).pushFrame (.throwing x)) := by
  obtain ⟨methY, cY, hmY, hcY, -, hlY, -⟩ := Cond.code_spec hn (hws _ hcw a)
  obtain ⟨kY, hkY, -⟩ := className_of_methodNamed hn
  have hinitY : kY.init = .initialized := Cond.initialized_spec (findClass_of_methodNamed hn) hkY hini
  have h : At U g.method c below := by rw [hg]; exact X.here
  have happ : (headSpec ws (q_rmT f lo)).appliesLoose y e.platform (U.calling g mk a) = true :=
    Spec.appliesLoose_calling (g := g) h hdg hn hkY hinitY
      (X.room_calling (g := g) (R' := q_rmT f lo) hsize hmY hcY hframes (by rw [hlY]; show _ + lo ≤ _; omega) h4 h5) (atoms_intro fun w hw => hws w hw _)
  obtain ⟨mid, hmid⟩ := h.above
  have hfr : (U.setTop g).frames = (.java g :: mid) ++ below := by rw [State.frames_setTop' g h.top, hmid]; rfl
  obtain ⟨o, s₂, hsteps, -, hend, hq⟩ := Steps.callFree hM p X.admits X.cas X.clock (acts := []) hfr happ hP trivial
  rw [State.frames_setTop' g h.top, X.tail] at hend
  obtain ⟨x, cell, rfl, hW2, hsame, hc1, hc2, hc3, hc4⟩ := hq
  obtain ⟨T', X', -, hsame', ht⟩ := X.outOfThrown (g := g) hg (mk := mk) (a := a) hend hW2 hsame
  rw [List.append_nil] at X'
  have hheap : s₂.heap = T'.heap := by rw [ht]; exact Stand.throwing_heap T' g x
  exact ⟨T', x, cell, X', hsame', by rw [← hheap]; exact hc1, hc2, hc3, hc4, ht ▸ hsteps⟩
def q_Thr (p : Program) (l : Launch) (e : Env) (R : Room) (s : State) (m : MethodId) (args : Array Value) (below : List Frame) (meth : Method) (c : Code) (H : Heap) (locs : List Loc) (cells slots : Nat) (Q : State → Prop) (g : JFrame) : Prop :=
  ∀ (T' : State) (x : Nat) (cell : Cell), Stand p l e R s m args below meth c T' locs cells slots → (∀ q : Nat, q < H.size → T'.heap[q]? = H[q]?) → H.size ≤ T'.heap.size → T'.heap[x]? = some cell → cell.vm = .none → s.vm.findClass q_NS = some cell.cls → H.size ≤ x →
    ∃ t, Steps p.tables e below ((T'.setTop g).pushFrame (.throwing x)) t ∧ Q t
theorem w_thrS (S : CallFix p m c cc nL s args lw_g own) (hM : MT l y (wd_ y b n r) f lo Pc) (cw : CallB R s args own idx y b n r (wd_ y b n r) (q_rmT f lo) 1 6 na ∧ (Cond.static y).before args s = true) (hp : PreS s H Pc As) (hst : st0 = As.reverse ++ rest) (hn : As.length = na) (hsz : ls.size = nL) (hW : (rest.map fun v => v.category).sum ≤ 8) (hdg : decode cc pc = .ok (.invokestatic idx, 3)) (hf : cells + 1 ≤ R.cells ∧ slots + 6 ≤ R.slots)
    (kk : q_Thr p l e R s m args below meth c H locs (cells + 1) (slots + 6) Q (F0 m pc ls rest)) : W p l e R s m args below meth c H locs cells slots Q (F0 m pc ls st0) := by
  obtain ⟨⟨-, -, hfr, hlo, hws, hcw, hcode, hini, hy, hlen, hl⟩, hstt⟩ := cw
  obtain ⟨hx, hb, hml, ho, -⟩ := S
  intro T hT X
  obtain ⟨mk, hnamed⟩ := Cond.code_named hcode
  obtain ⟨methM, cM, hmethM, -, -, -, -, -, -, hsigM⟩ := Cond.code_spec hnamed hcode
  have hstatic : methM.isStatic = true := Cond.static_spec hnamed hmethM hstt
  obtain ⟨kP, hkP, -⟩ := className_of_methodNamed hnamed
  have hinitP : kP.init = .initialized := Cond.initialized_spec (findClass_of_methodNamed hnamed) hkP hini
  obtain ⟨vm₁, X₁, hstep₁⟩ := X.invokestatic hx ho hl hnamed hmethM hstatic hkP hinitP hy (g := F0 m pc ls st0) rfl (argsL := As) (rest := rest) (hn.trans (hlen _ hsigM)) hst (by rw [hb]; exact hdg)
  obtain ⟨T', x, cell, X', hs, h1, h2, h3, h4, st⟩ := w_thrC (W := 8) (a := As.toArray) X₁ hM (fun w hw a' => hws w hw a' _ X₁.warmed) hcw (word_at X₁.warmed (Or.inl (by first | rfl | simp [Cond.onTables, Cond.keeps, Cond.steady])) hini) (g := F0 m pc ls rest) rfl (hsz.trans hml.symm) (by rw [hb]; exact hdg) (lv_room hW) (X₁.named hnamed) hfr hlo hf.1 hf.2 (hp.1 _ _ _ _ (hp.2 (T.setVm vm₁) hT X₁.warmed))
  obtain ⟨t, a1, b1⟩ := kk T' x cell X' (fun q hq => by rw [← hT] at hq ⊢; exact q_old hs q hq) (by rw [← hT]; exact hs.2.1) h1 h2 (by rw [← X₁.warmed.alike.findClass]; exact h3) (by rw [← hT]; exact h4)
  exact ⟨t, hstep₁ _ fun acts => by rw [doInvoke_state]; exact st.trans a1, b1⟩
theorem w_thrV (S : CallFix p m c cc nL s args lw_g own) (hM : MT l y (wd_ y b n r) f lo Pc) (cw : CallW R s args own y.cls idx y b n r (wd_ y b n r) (q_rmT f lo) 1 6 na) (hp : PreV s H y.cls o Pc As) (hst : st0 = As.reverse ++ .ref o :: rest) (hn : As.length = na) (hsz : ls.size = nL) (hW : (rest.map fun v => v.category).sum ≤ 8) (hdg : decode cc pc = .ok (.invokevirtual idx, 3)) (hf : cells + 1 ≤ R.cells ∧ slots + 6 ≤ R.slots)
    (kk : q_Thr p l e R s m args below meth c H locs (cells + 1) (slots + 6) Q (F0 m pc ls rest)) : W p l e R s m args below meth c H locs cells slots Q (F0 m pc ls st0) := by
  obtain ⟨⟨-, -, hfr, hlo, hws, hcw, hcode, hini, hy, hlen, hl⟩, hinst, hsel⟩ := cw
  obtain ⟨hx, hb, hml, ho, -⟩ := S
  intro T hT X
  obtain ⟨hbl, ⟨cellB, hcB, hoB, hclB⟩, hPc⟩ := hp
  obtain ⟨mk, methM, hnamed, hmethM, hstM, habM⟩ := Cond.instanceMethod_spec hinst
  obtain ⟨methM', cM, hmethM', -, -, -, -, -, -, hsigM⟩ := Cond.code_spec hnamed hcode
  cases hmethM.symm.trans hmethM'
  obtain ⟨c2, r2, m2, q1, q2, q3, q4, kP, hkP, hkPi⟩ := Cond.selects_spec hsel
  cases hclB.symm.trans q1
  cases (State.methodFound?_of_named hnamed hy).symm.trans q2
  cases hnamed.symm.trans q3
  have hselP : selectMethod e.platform s.vm cellB.cls mk = .method mk := by rw [Launch.admits_selectMethod X.admits]; exact q4
  obtain ⟨vm₁, X₁, hstep₁⟩ := X.invokevirtual hx ho hl hnamed hmethM hstM hkP hkPi hy (a := o) (cell := cellB) (by rw [hT]; exact hcB)
    (fun z h => by rw [h] at hoB; cases hoB) hselP hmethM habM hkP hkPi (g := F0 m pc ls st0) rfl (argsL := As) (rest := rest) (hn.trans (hlen _ hsigM)) hst (by rw [hb]; exact hdg)
  obtain ⟨T', x, cell, X', hs, h1, h2, h3, h4, st⟩ := w_thrC (W := 8) (a := (Value.ref o :: As).toArray) X₁ hM (fun w hw a' => hws w hw a' _ X₁.warmed) hcw (word_at X₁.warmed (Or.inl (by first | rfl | simp [Cond.onTables, Cond.keeps, Cond.steady])) hini) (g := F0 m pc ls rest) rfl (hsz.trans hml.symm) (by rw [hb]; exact hdg) (lv_room hW) (X₁.named hnamed) hfr hlo hf.1 hf.2 (hbl _ _ _ _ (hPc (T.setVm vm₁) hT X₁.warmed))
  obtain ⟨t, a1, b1⟩ := kk T' x cell X' (fun q hq => by rw [← hT] at hq ⊢; exact q_old hs q hq) (by rw [← hT]; exact hs.2.1) h1 h2 (by rw [← X₁.warmed.alike.findClass]; exact h3) (by rw [← hT]; exact h4)
  exact ⟨t, hstep₁ _ fun acts => by rw [doInvoke_state]; exact st.trans a1, b1⟩
/-- out of the method -/
theorem q_Thr.out {g : JFrame} (hg : g.method = m) (hlk : g.locked = none) (hen : g.entered = []) (hem : c.exceptionTable.isEmpty = true) (hlocks : meth.locks = false) (hz : s.heap.size ≤ H.size) : q_Thr p l e R s m args below meth c H [] 1 6 (TQ below args s) g := by
  intro T' x cell X _ _ h1 h2 h3 h4
  obtain ⟨st, hrun, hend, hW, hs⟩ := X.leaveThrown x hg hlk hen (covers_of_empty hem _) hlocks
  exact ⟨_, st, .threw x, hrun, hend, x, cell, rfl, hW, hs, h1, h2, h3, Nat.le_trans hz h4⟩
end WT
set_option maxHeartbeats 4000000 in
/-- must, refused -/
theorem c_X_must_n (l : Launch) (htl : l.stackTraces = false) : MT l y_X_must (wd_ y_X_must b_X_must 1 none) 6 81 (va_Pc [.int 0] q_TA) := by
  refine MT.ofW (cc := b_X_must) (maxL := 1) (ret := none) (by decide) rfl ?_
  intro p e s m args below meth c s₁ B hml hem hv
  obtain ⟨rfl, hA⟩ := hv
  have hl := lv_entry [.int 0] (n := 1) (Nat.le_of_ble_eq_true rfl)
  rw [lg_entry_eq]
  have hts := atoms_spec (ws := wd_ y_X_must b_X_must 1 none) B.pre
  have hT : ∀ w ∈ lw_g, w.before [.int 0].toArray s = true := fun w hw => hts w (List.mem_cons_of_mem _ hw)
  have hlk := B.notSynchronized
  have hx := B.exec
  have hb := B.bytes
  have hown : s.vm.findClass "TimeNet" = some m.cls := findClass_of_methodNamed B.named
  refine lv_iload_n hx hb d_X_must_0 rfl (lv_at hl 0 rfl) ?_
  refine lv_if_ne (tgt := 12) hx hb d_X_must_1 (by decide) (fun h1 => absurd rfl h1) (fun h1 => ?_)
  intro T hT0 X
  have htr : e.platform.stackTraces = false := by rw [X.admits.platform]; exact htl
  obtain ⟨vm₁, cX, kX, hfX, hkX, -, -, X₁, st1⟩ := X.newCold hx (own := "TimeNet") (C := q_NS) (index := 123) (n := 6) hown (hT _ tb_192) (hT _ tb_193) (hT _ tb_9) (g := F0 m 4 _ []) rfl (by rw [hb]; exact d_X_must_4) (by decide) (by decide)
  generalize hU : (T.setVm vm₁).pushCell { cls := cX, slots := kX.instanceTypes.map defaultValue, vm := .none } = U at X₁ st1
  have hcellA : U.heap[T.heap.size]? = some (freshCell cX kX) := by rw [← hU]; exact State.heap_pushCell_size _ _
  obtain ⟨V, hsteps, hrun, hend, hW, hsame, ce, hce, K⟩ := X₁.ctorThrow0 hx htr (own := "TimeNet") (cls := q_NS) (names := q_up) (ic := 125) hown (by decide +kernel) (by decide +kernel) (hA.own hT) (fun y hy => by cases hy) hfX hkX hcellA (by rw [hT0]; exact Nat.le_refl _)
    (g := F0 m 8 _ [.ref T.heap.size, .ref T.heap.size]) rfl (hl.1.trans hml.symm) rfl rfl (rest := []) rfl (by rw [hb]; exact d_X_must_8) (by rw [hb]; exact d_X_must_11) (covers_of_empty hem _) (by decide) (Nat.le_of_ble_eq_true rfl) hlk
  refine ⟨V, st1 _ ?_, .threw T.heap.size, hrun, hend, T.heap.size, ce, rfl, hW, hsame, hce, K.vm, K.cls, by rw [hT0]; exact Nat.le_refl _⟩
  jvm_step X₁.here [X₁.here.top, hx, hb, d_X_must_7, Value.category]
  exact hsteps
end
section
theorem q_TA_blind {av : List Value} : FrameBlind (va_Pc av q_TA) := fun a U g mk q => ⟨q.1, q.2.moved (State.WarmedH.refl U) (fun _ _ => rfl)⟩
/-- a static method without a world or an answer -/
def Cv (l : Launch) (y : MethodName) (b : ByteArray) (n : Nat) (f lo : Nat) (av : List Value) : Prop :=
  Met l y (wd_ y b n none) (q_rm f lo) (fun a _ => a = av.toArray) (fun _ st o t => o = .returned none ∧ t.heap = st.heap) 0 0 (fun _ => False)
section WV
variable {p : Program} {l : Launch} {e : Env} {R : Room} {s : State} {m : MethodId} {args : Array Value} {below : List Frame} {meth : Method} {c : Code} {H : Heap} {locs : List Loc} {cells slots : Nat} {Q : State → Prop}
variable {y : MethodName} {b cc : ByteArray} {n : Nat} {r : Option FieldType} {f lo na idx nL pc o : Nat} {own : String} {ls : Array Slot} {rest st0 As : List Value}
theorem w_callSv (S : CallFix p m c cc nL s args lw_g own) (hM : Cv l y b n f lo As) (cw : CallB R s args own idx y b n none (wd_ y b n none) (q_rm f lo) 0 0 na ∧ (Cond.static y).before args s = true) (hst : st0 = As.reverse ++ rest) (hn : As.length = na) (hsz : ls.size = nL) (hW : (rest.map fun v => v.category).sum ≤ 8) (hdg : decode cc pc = .ok (.invokestatic idx, 3)) (hf : cells ≤ R.cells ∧ slots ≤ R.slots)
    (kk : W p l e R s m args below meth c H locs cells slots Q (F0 m (pc + 3) ls rest)) : W p l e R s m args below meth c H locs cells slots Q (F0 m pc ls st0) := by
  intro T hT X
  obtain ⟨v, st₀, t, T', L, h0, X', hL, e1, ⟨hv, hh⟩, st⟩ := W.runS (g := F0 m pc ls st0) S hM cw preEq rfl hn hsz hst (lv_room hW) hdg hf T hT X
  cases hv
  obtain ⟨t2, a1, b1⟩ := kk T' (by rw [e1, hh, h0]) (Stand.forget X' (fun q h => (hL q h).elim))
  exact ⟨t2, st t2 a1, b1⟩
/-- calls of what throws: what they need of the tables -/
theorem w_cwST (hT : ∀ w ∈ lw_g, w.before args s = true) (hm : q_SM y b n r na) (hl : Cond.methodLink own idx y ∈ lw_g) (hR : f + 1 ≤ R.frames ∧ 8 + (n + 11) + lo ≤ R.locals) :
    CallB R s args own idx y b n r (wd_ y b n r) (q_rmT f lo) 1 6 na ∧ (Cond.static y).before args s = true :=
  ⟨callB_of na hT (wd_good hm.1) rfl rfl rfl (hT _ hm.2.1) (hT _ hl) hm.2.2.2 hR, hT _ hm.2.2.1⟩
theorem w_cwVT (hT : ∀ w ∈ lw_g, w.before args s = true) (hm : q_VM y b n r na) (hl : Cond.methodLink own idx y ∈ lw_g) (hR : f + 1 ≤ R.frames ∧ 8 + (n + 11) + lo ≤ R.locals) :
    CallW R s args own y.cls idx y b n r (wd_ y b n r) (q_rmT f lo) 1 6 na :=
  ⟨callB_of na hT (wd_good hm.1) rfl rfl rfl (hT _ hm.2.1) (hT _ hl) hm.2.2.2 hR, hT _ hm.2.2.1.1, hT _ hm.2.2.1.2⟩
end WV

set_option maxHeartbeats 4000000 in
set_option maxRecDepth 100000 in
/-- must, met -/
theorem c_X_must_y (l : Launch) : Cv l y_X_must b_X_must 1 0 0 [.int (nI 1)] := by
  refine Met.ofW (cc := b_X_must) (maxL := 1) (ret := none) (by decide) rfl ?_
  intro p e s m args below meth c s₁ B hml hv
  subst hv
  have hl := lv_entry [.int (nI 1)] (n := 1) (Nat.le_of_ble_eq_true rfl)
  rw [lg_entry_eq]
  have hts := atoms_spec (ws := wd_ y_X_must b_X_must 1 none) B.pre
  have hT : ∀ w ∈ lw_g, w.before [.int (nI 1)].toArray s = true := fun w hw => hts w (List.mem_cons_of_mem _ hw)
  have hlk := B.notSynchronized
  have hx := B.exec
  have hb := B.bytes
  have hr := B.returns
  have hown : s.vm.findClass "TimeNet" = some m.cls := findClass_of_methodNamed B.named
  refine lv_iload_n hx hb d_X_must_0 rfl (lv_at hl 0 rfl) ?_
  refine lv_if_ne (tgt := 12) hx hb d_X_must_1 (by decide) (fun h1 => ?_) (fun h1 => absurd h1 (by decide))
  exact W.vret hx hb hr (fun t ht _ => ⟨rfl, ht⟩) (fun q h => by cases h) d_X_must_12 hlk

set_option maxHeartbeats 4000000 in
set_option maxRecDepth 100000 in
/-- bound: yes -/
theorem c_X_bound_y (l : Launch) (D : va_G) (a : Nat → Nat) (k : Nat → ClassId) (ca : Nat → Nat) (n : Nat) (al : Int32) (fr tt : Nat → Nat) (cc : Nat → Int64) (on : Nat → Bool) (len : Nat → Int64) (stp : Nat → Int32) (dir : Nat → Int64) (row : Nat → Int32) (rm : Nat) (rl : Int64) (i j : Nat) (hi : i < 20) (hj : j < 20) : Ct l y_X_bound b_X_bound 3 (some .long) 1 21 D (xT k) [.ref (a 0), .int (nI i), .int (nI j)] (xW a k ca n al fr tt cc on len stp dir row rm rl) (xW a k ca n al fr tt cc on len stp dir row rm rl) (some (.long (len (20 * i + j)))) := by
  refine q_enter [(0, .ref (a 0)), (1, .int (nI i)), (2, .int (nI j))] "TimeNet" .lreturn [.long (len (20 * i + j))] (by decide) rfl (Nat.le_of_ble_eq_true rfl) rfl (Or.inr (Or.inr (Or.inl ⟨rfl, rfl, _, rfl, rfl⟩))) ?_
  intro p e s m args below meth c A ls Q E hK hP hD hS hA hl hE
  obtain ⟨hx, hb, hml, hr, hlk, hown, hT⟩ := E
  refine lv_iload_n hx hb d_X_bound_0 rfl (lv_at hl 1 rfl) ?_
  refine w_callS (v := .int (q_b (q_pt (nI i)))) (As := [.int (nI i)]) (rest := []) ⟨hx, hb, hml, hown, hT⟩ (c_X_isPoint l (nI i)) (w_cwS hT ms_X_isPoint tb_117 ⟨by decide, by decide⟩) rfl rfl hl.1 (Nat.le_of_ble_eq_true rfl) d_X_bound_1 ⟨Nat.zero_le _, Nat.zero_le _⟩ ?_
  refine w_ifeqB (tgt := 18) hx hb d_X_bound_4 (by decide) (fun h1 => ?_) (fun h1 => ?_)
  · exact absurd h1 (by rw [q_pt_nI hi]; decide)
  · refine lv_iload_n hx hb d_X_bound_7 rfl (lv_at hl 2 rfl) ?_
    refine w_callS (v := .int (q_b (q_pt (nI j)))) (As := [.int (nI j)]) (rest := []) ⟨hx, hb, hml, hown, hT⟩ (c_X_isPoint l (nI j)) (w_cwS hT ms_X_isPoint tb_117 ⟨by decide, by decide⟩) rfl rfl hl.1 (Nat.le_of_ble_eq_true rfl) d_X_bound_8 ⟨Nat.zero_le _, Nat.zero_le _⟩ ?_
    refine w_ifeqB (tgt := 18) hx hb d_X_bound_11 (by decide) (fun h2 => ?_) (fun h2 => ?_)
    · exact absurd h2 (by rw [q_pt_nI hj]; decide)
    · refine lv_iconst (v := nI 1) hx hb d_X_bound_14 (by decide) ?_
      refine lv_goto (tgt := 19) hx hb d_X_bound_15 (by decide) ?_
      refine w_callSv (As := [.int (nI 1)]) (rest := []) ⟨hx, hb, hml, hown, hT⟩ (c_X_must_y l) (w_cwS hT ms_X_must tb_189 ⟨by decide, by decide⟩) rfl rfl hl.1 (Nat.le_of_ble_eq_true rfl) d_X_bound_19 ⟨Nat.zero_le _, Nat.zero_le _⟩ ?_
      refine lv_aload_n hx hb d_X_bound_22 rfl (lv_at hl 0 rfl) ?_
      refine w_get i_X hx hb hT hown hK hP 0 rfl rfl 3 (by decide) tb_91 rfl d_X_bound_23 ?_
      refine w_get i_P hx hb hT hown hK hP 2 rfl rfl 0 (by decide) tb_27 rfl d_X_bound_26 ?_
      refine lv_iload_n hx hb d_X_bound_29 rfl (lv_at hl 1 rfl) ?_
      refine lv_iload_n hx hb d_X_bound_30 rfl (lv_at hl 2 rfl) ?_
      refine w_callS (v := .int (nI (20 * i + j))) (As := [.int (nI i), .int (nI j)]) (rest := [.ref (a 3)]) ⟨hx, hb, hml, hown, hT⟩ (c_P_at l i j) (w_cwS hT ms_P_at tb_69 ⟨by decide, by decide⟩) rfl rfl hl.1 (Nat.le_of_ble_eq_true rfl) d_X_bound_31 ⟨Nat.zero_le _, Nat.zero_le _⟩ ?_
      refine w_lald hx hb hK hP 3 1 rfl rfl (by omega) (by decide) d_X_bound_34 ?_
      exact hE _ _ _ _ d_X_bound_35 hP hD hS

set_option maxHeartbeats 4000000 in
set_option maxRecDepth 100000 in
/-- earliest -/
theorem c_X_earliest_f (l : Launch) (D : va_G) (a : Nat → Nat) (k : Nat → ClassId) (ca : Nat → Nat) (n : Nat) (al : Int32) (fr tt : Nat → Nat) (cc : Nat → Int64) (on : Nat → Bool) (len : Nat → Int64) (stp : Nat → Int32) (dir : Nat → Int64) (row : Nat → Int32) (rm : Nat) (rl : Int64) (i : Nat) (hi : i < 20) (h : q_has len i 0 = false) : Ct l y_X_earliest b_X_earliest 2 (some .long) 2 43 D (xT k) [.ref (a 0), .int (nI i)] (xW a k ca n al fr tt cc on len stp dir row rm rl) (xW a k ca n al fr tt cc on len stp dir row rm rl) (some (.long (-9223372036854775808))) := by
  refine q_enter [(0, .ref (a 0)), (1, .int (nI i))] "TimeNet" .lreturn [.long (-9223372036854775808)] (by decide) rfl (Nat.le_of_ble_eq_true rfl) rfl (Or.inr (Or.inr (Or.inl ⟨rfl, rfl, _, rfl, rfl⟩))) ?_
  intro p e s m args below meth c A ls Q E hK hP hD hS hA hl hE
  obtain ⟨hx, hb, hml, hr, hlk, hown, hT⟩ := E
  refine lv_iload_n hx hb d_X_earliest_0 rfl (lv_at hl 1 rfl) ?_
  refine w_callS (v := .int (q_b (q_pt (nI i)))) (As := [.int (nI i)]) (rest := []) ⟨hx, hb, hml, hown, hT⟩ (c_X_isPoint l (nI i)) (w_cwS hT ms_X_isPoint tb_117 ⟨by decide, by decide⟩) rfl rfl hl.1 (Nat.le_of_ble_eq_true rfl) d_X_earliest_1 ⟨Nat.zero_le _, Nat.zero_le _⟩ ?_
  refine w_top (y := .int (nI 1)) (by rw [q_pt_nI hi]; rfl) ?_
  refine w_callSv (As := [.int (nI 1)]) (rest := []) ⟨hx, hb, hml, hown, hT⟩ (c_X_must_y l) (w_cwS hT ms_X_must tb_189 ⟨by decide, by decide⟩) rfl rfl hl.1 (Nat.le_of_ble_eq_true rfl) d_X_earliest_4 ⟨Nat.zero_le _, Nat.zero_le _⟩ ?_
  refine lv_aload_n hx hb d_X_earliest_7 rfl (lv_at hl 0 rfl) ?_
  refine w_get i_X hx hb hT hown hK hP 0 rfl rfl 3 (by decide) tb_91 rfl d_X_earliest_8 ?_
  refine lv_iload_n hx hb d_X_earliest_11 rfl (lv_at hl 1 rfl) ?_
  refine lv_iconst (v := nI 0) hx hb d_X_earliest_12 (by decide) ?_
  refine w_callV (As := [.int (nI i), .int (nI 0)]) (rest := []) ⟨hx, hb, hml, hown, hT⟩ (c_P_has l D a k ca n al fr tt cc on len stp dir row rm rl i 0 hi (by decide)) (w_cwV hT ms_P_has tb_126 ⟨by decide, by decide⟩) hK hP hD hS hA 2 1 rfl rfl rfl rfl rfl hl.1 (Nat.le_of_ble_eq_true rfl) d_X_earliest_13 ⟨Nat.zero_le _, Nat.zero_le _⟩ (fun H locs hP hD hS => ?_)
  refine w_ifeqB (tgt := 36) hx hb d_X_earliest_16 (by decide) (fun h3 => ?_) (fun h3 => ?_)
  · refine lv_ldc2 (v := (-9223372036854775808)) hx hb hown (hT _ tb_260) d_X_earliest_36 ?_
    exact hE _ _ _ _ d_X_earliest_39 hP hD hS
  · exact absurd h3 (by rw [h]; decide)

set_option maxHeartbeats 4000000 in
set_option maxRecDepth 100000 in
/-- earliest -/
theorem c_X_earliest_y (l : Launch) (D : va_G) (a : Nat → Nat) (k : Nat → ClassId) (ca : Nat → Nat) (n : Nat) (al : Int32) (fr tt : Nat → Nat) (cc : Nat → Int64) (on : Nat → Bool) (len : Nat → Int64) (stp : Nat → Int32) (dir : Nat → Int64) (row : Nat → Int32) (rm : Nat) (rl : Int64) (i : Nat) (hi : i < 20) (h : q_has len i 0 = true) : Ct l y_X_earliest b_X_earliest 2 (some .long) 2 43 D (xT k) [.ref (a 0), .int (nI i)] (xW a k ca n al fr tt cc on len stp dir row rm rl) (xW a k ca n al fr tt cc on len stp dir row rm rl) (some (.long (-(len (20 * i + 0))))) := by
  refine q_enter [(0, .ref (a 0)), (1, .int (nI i))] "TimeNet" .lreturn [.long (-(len (20 * i + 0)))] (by decide) rfl (Nat.le_of_ble_eq_true rfl) rfl (Or.inr (Or.inr (Or.inl ⟨rfl, rfl, _, rfl, rfl⟩))) ?_
  intro p e s m args below meth c A ls Q E hK hP hD hS hA hl hE
  obtain ⟨hx, hb, hml, hr, hlk, hown, hT⟩ := E
  refine lv_iload_n hx hb d_X_earliest_0 rfl (lv_at hl 1 rfl) ?_
  refine w_callS (v := .int (q_b (q_pt (nI i)))) (As := [.int (nI i)]) (rest := []) ⟨hx, hb, hml, hown, hT⟩ (c_X_isPoint l (nI i)) (w_cwS hT ms_X_isPoint tb_117 ⟨by decide, by decide⟩) rfl rfl hl.1 (Nat.le_of_ble_eq_true rfl) d_X_earliest_1 ⟨Nat.zero_le _, Nat.zero_le _⟩ ?_
  refine w_top (y := .int (nI 1)) (by rw [q_pt_nI hi]; rfl) ?_
  refine w_callSv (As := [.int (nI 1)]) (rest := []) ⟨hx, hb, hml, hown, hT⟩ (c_X_must_y l) (w_cwS hT ms_X_must tb_189 ⟨by decide, by decide⟩) rfl rfl hl.1 (Nat.le_of_ble_eq_true rfl) d_X_earliest_4 ⟨Nat.zero_le _, Nat.zero_le _⟩ ?_
  refine lv_aload_n hx hb d_X_earliest_7 rfl (lv_at hl 0 rfl) ?_
  refine w_get i_X hx hb hT hown hK hP 0 rfl rfl 3 (by decide) tb_91 rfl d_X_earliest_8 ?_
  refine lv_iload_n hx hb d_X_earliest_11 rfl (lv_at hl 1 rfl) ?_
  refine lv_iconst (v := nI 0) hx hb d_X_earliest_12 (by decide) ?_
  refine w_callV (As := [.int (nI i), .int (nI 0)]) (rest := []) ⟨hx, hb, hml, hown, hT⟩ (c_P_has l D a k ca n al fr tt cc on len stp dir row rm rl i 0 hi (by decide)) (w_cwV hT ms_P_has tb_126 ⟨by decide, by decide⟩) hK hP hD hS hA 2 1 rfl rfl rfl rfl rfl hl.1 (Nat.le_of_ble_eq_true rfl) d_X_earliest_13 ⟨Nat.zero_le _, Nat.zero_le _⟩ (fun H locs hP hD hS => ?_)
  refine w_ifeqB (tgt := 36) hx hb d_X_earliest_16 (by decide) (fun h3 => ?_) (fun h3 => ?_)
  · exact absurd h3 (by rw [h]; decide)
  · refine lv_aload_n hx hb d_X_earliest_19 rfl (lv_at hl 0 rfl) ?_
    refine w_get i_X hx hb hT hown hK hP 0 rfl rfl 3 (by decide) tb_91 rfl d_X_earliest_20 ?_
    refine w_get i_P hx hb hT hown hK hP 2 rfl rfl 0 (by decide) tb_27 rfl d_X_earliest_23 ?_
    refine lv_iload_n hx hb d_X_earliest_26 rfl (lv_at hl 1 rfl) ?_
    refine lv_iconst (v := nI 0) hx hb d_X_earliest_27 (by decide) ?_
    refine w_callS (v := .int (nI (20 * i + 0))) (As := [.int (nI i), .int (nI 0)]) (rest := [.ref (a 3)]) ⟨hx, hb, hml, hown, hT⟩ (c_P_at l i 0) (w_cwS hT ms_P_at tb_69 ⟨by decide, by decide⟩) rfl rfl hl.1 (Nat.le_of_ble_eq_true rfl) d_X_earliest_28 ⟨Nat.zero_le _, Nat.zero_le _⟩ ?_
    refine w_lald hx hb hK hP 3 1 rfl rfl (by omega) (by decide) d_X_earliest_31 ?_
    refine lv_lneg hx hb d_X_earliest_32 ?_
    refine lv_goto (tgt := 39) hx hb d_X_earliest_33 (by decide) ?_
    exact hE _ _ _ _ d_X_earliest_39 hP hD hS

set_option maxHeartbeats 4000000 in
set_option maxRecDepth 100000 in
/-- X_bound: refused -/
theorem c_X_bound_n (l : Launch) (htl : l.stackTraces = false) (o : Nat) (i j : Int32) (h : (q_pt i && q_pt j) = false) : MT l y_X_bound (wd_ y_X_bound b_X_bound 3 (some .long)) 7 101 (va_Pc [.ref o, .int i, .int j] q_TA) := by
  refine MT.ofW (cc := b_X_bound) (maxL := 3) (ret := (some .long)) (by decide) rfl ?_
  intro p e s m args below meth c s₁ B hml hem hv
  obtain ⟨rfl, hA⟩ := hv
  have hl := lv_entry [.ref o, .int i, .int j] (n := 3) (Nat.le_of_ble_eq_true rfl)
  rw [lg_entry_eq]
  have hts := atoms_spec (ws := wd_ y_X_bound b_X_bound 3 (some .long)) B.pre
  have hT : ∀ w ∈ lw_g, w.before [.ref o, .int i, .int j].toArray s = true := fun w hw => hts w (List.mem_cons_of_mem _ hw)
  have hlk := B.notSynchronized
  have hx := B.exec
  have hb := B.bytes
  have hr := B.returns
  have hown : s.vm.findClass "TimeNet" = some m.cls := findClass_of_methodNamed B.named
  refine lv_iload_n hx hb d_X_bound_0 rfl (lv_at hl 1 rfl) ?_
  refine w_callS (v := .int (q_b (q_pt i))) (As := [.int i]) (rest := []) ⟨hx, hb, hml, hown, hT⟩ (c_X_isPoint l i) (w_cwS hT ms_X_isPoint tb_117 ⟨by decide, by decide⟩) rfl rfl hl.1 (Nat.le_of_ble_eq_true rfl) d_X_bound_1 ⟨Nat.zero_le _, Nat.zero_le _⟩ ?_
  refine w_ifeqB (tgt := 18) hx hb d_X_bound_4 (by decide) (fun h1 => ?_) (fun h1 => ?_)
  · refine lv_iconst (v := nI 0) hx hb d_X_bound_18 (by decide) ?_
    refine w_top (y := .int 0) rfl ?_
    refine w_thrS (As := [.int 0]) (rest := []) ⟨hx, hb, hml, hown, hT⟩ (c_X_must_n l htl) (w_cwST hT ms_X_must tb_189 ⟨by decide, by decide⟩) ⟨q_TA_blind, fun U hU hW => ⟨rfl, hA.moved hW (fun q _ => by rw [hU])⟩⟩ rfl rfl hl.1 (Nat.le_of_ble_eq_true rfl) d_X_bound_19 ⟨by decide, by decide⟩ ?_
    exact q_Thr.out rfl rfl rfl hem hlk (Nat.le_refl _)
  · refine lv_iload_n hx hb d_X_bound_7 rfl (lv_at hl 2 rfl) ?_
    refine w_callS (v := .int (q_b (q_pt j))) (As := [.int j]) (rest := []) ⟨hx, hb, hml, hown, hT⟩ (c_X_isPoint l j) (w_cwS hT ms_X_isPoint tb_117 ⟨by decide, by decide⟩) rfl rfl hl.1 (Nat.le_of_ble_eq_true rfl) d_X_bound_8 ⟨Nat.zero_le _, Nat.zero_le _⟩ ?_
    refine w_ifeqB (tgt := 18) hx hb d_X_bound_11 (by decide) (fun h2 => ?_) (fun h2 => ?_)
    · refine lv_iconst (v := nI 0) hx hb d_X_bound_18 (by decide) ?_
      refine w_top (y := .int 0) rfl ?_
      refine w_thrS (As := [.int 0]) (rest := []) ⟨hx, hb, hml, hown, hT⟩ (c_X_must_n l htl) (w_cwST hT ms_X_must tb_189 ⟨by decide, by decide⟩) ⟨q_TA_blind, fun U hU hW => ⟨rfl, hA.moved hW (fun q _ => by rw [hU])⟩⟩ rfl rfl hl.1 (Nat.le_of_ble_eq_true rfl) d_X_bound_19 ⟨by decide, by decide⟩ ?_
      exact q_Thr.out rfl rfl rfl hem hlk (Nat.le_refl _)
    · exact absurd h (by simp [h1, h2])

set_option maxHeartbeats 4000000 in
set_option maxRecDepth 100000 in
/-- X_earliest: refused -/
theorem c_X_earliest_n (l : Launch) (htl : l.stackTraces = false) (o : Nat) (i : Int32) (h : q_pt i = false) : MT l y_X_earliest (wd_ y_X_earliest b_X_earliest 2 (some .long)) 7 101 (va_Pc [.ref o, .int i] q_TA) := by
  refine MT.ofW (cc := b_X_earliest) (maxL := 2) (ret := (some .long)) (by decide) rfl ?_
  intro p e s m args below meth c s₁ B hml hem hv
  obtain ⟨rfl, hA⟩ := hv
  have hl := lv_entry [.ref o, .int i] (n := 2) (Nat.le_of_ble_eq_true rfl)
  rw [lg_entry_eq]
  have hts := atoms_spec (ws := wd_ y_X_earliest b_X_earliest 2 (some .long)) B.pre
  have hT : ∀ w ∈ lw_g, w.before [.ref o, .int i].toArray s = true := fun w hw => hts w (List.mem_cons_of_mem _ hw)
  have hlk := B.notSynchronized
  have hx := B.exec
  have hb := B.bytes
  have hr := B.returns
  have hown : s.vm.findClass "TimeNet" = some m.cls := findClass_of_methodNamed B.named
  refine lv_iload_n hx hb d_X_earliest_0 rfl (lv_at hl 1 rfl) ?_
  refine w_callS (v := .int (q_b (q_pt i))) (As := [.int i]) (rest := []) ⟨hx, hb, hml, hown, hT⟩ (c_X_isPoint l i) (w_cwS hT ms_X_isPoint tb_117 ⟨by decide, by decide⟩) rfl rfl hl.1 (Nat.le_of_ble_eq_true rfl) d_X_earliest_1 ⟨Nat.zero_le _, Nat.zero_le _⟩ ?_
  refine w_top (y := .int 0) (by rw [h]; rfl) ?_
  refine w_thrS (As := [.int 0]) (rest := []) ⟨hx, hb, hml, hown, hT⟩ (c_X_must_n l htl) (w_cwST hT ms_X_must tb_189 ⟨by decide, by decide⟩) ⟨q_TA_blind, fun U hU hW => ⟨rfl, hA.moved hW (fun q _ => by rw [hU])⟩⟩ rfl rfl hl.1 (Nat.le_of_ble_eq_true rfl) d_X_earliest_4 ⟨by decide, by decide⟩ ?_
  exact q_Thr.out rfl rfl rfl hem hlk (Nat.le_refl _)
end
section
/-! the two methods of the law that catch -/
def wdW (y : MethodName) (b : ByteArray) (n : Nat) (r : Option FieldType) (hh : List (Nat × Nat × Nat × Nat)) : List Cond := .codeWith y b n r hh :: lw_g
theorem tb_183 : Cond.codeWith y_L_bound b_L_bound 5 (some .int) [(0, 9, 12, 13)] ∈ lw_g := lw_g_mem 196 rfl (by decide +kernel)
theorem tb_255 : Cond.codeWith y_L_earliest b_L_earliest 4 (some .int) [(0, 8, 11, 13)] ∈ lw_g := lw_g_mem 268 rfl (by decide +kernel)
theorem q_self (vm : Vm) (c : ClassId) : vm.assignable c c = true := by
  show vm.assignableAux (255 + 1) c c = true
  rw [Vm.assignableAux, Bool.or_eq_true, beq_iff_eq]
  exact Or.inl rfl
/-- a handler's class that may not be resolved yet -/
theorem q_goCold {E : CtlPost} {e : Env} {d : Bool} {acts : List Action} {s : State} {f : JFrame} {a : Addr} {Q : Handler → Jvm.Pre} {x : ExceptionTableEntry} {t : List ExceptionTableEntry} {c : ClassId} {cell : Cell} {vm' : Vm} (hx : covers x f.pc = true) (h0 : x.catchType ≠ 0)
    (hg : (Jvm.resolveClass f.method.cls x.catchType).Gives e.toSetting s.vm (.ok c) vm') (hsz : vm'.classes.size ≤ s.vm.classes.size) (hcell : s.heap[a]? = some cell) (hobj : ∀ k, cell.vm ≠ .statics k)
    (hk : ∃ k, vm'.classes[cell.cls]? = some k) (hc : ∃ k, vm'.classes[c]? = some k) (hfit : vm'.assignable cell.cls c = true) :
    Sem.wp (findHandler.go f a (x :: t)) Q E e d acts s ↔ Q (.found x.handlerPc) d acts (s.setVm vm') := by
  simp only [covers] at hx
  obtain ⟨ha, ht⟩ := hg.op (op := VmOp.resolveClass f.method.cls x.catchType) rfl
  simp [findHandler.go, hx, h0, ha, ht, hsz, hcell, hobj, hk, hc, hfit, VmOp.dirties, VmOp.acts]
theorem q_stepCatch {e : Env} {s : State} {a : Addr} {f : JFrame} {r : List Frame} {pc : Nat} {vm' : Vm} (hfind : ∀ (Q : Handler → Jvm.Pre) (E : CtlPost) (d : Bool) (acts : List Action), Sem.wp (findHandler f a) Q E e d acts s ↔ Q (.found pc) d acts (s.setVm vm')) :
    (stepThrowing e s a (.java f :: r)).Is ((s.setVm vm').setFrames (.java { f with pc := pc, stack := [.ref a] } :: r)) [] := by
  simp only [stepThrowing, searchFrame, vmDo]
  generalize hr : Sem.go _ e false [] s = res
  obtain ⟨as, rfl, ha⟩ := Sem.eq_ok_of hr (a := Handler.found pc) (s' := s.setVm vm') (acts' := []) (by simp [hfind _ _ _ _])
  exact ⟨rfl, ha⟩
section WK
variable {p : Program} {l : Launch} {e : Env} {R : Room} {s : State} {m : MethodId} {args : Array Value} {below : List Frame} {meth : Method} {c : Code} {H : Heap} {T : State} {locs : List Loc} {cells slots : Nat} {Q : State → Prop}
theorem q_catch (X : Stand p l e R s m args below meth c T locs cells slots) {own : String} {ix lo hi hp : Nat} (hown : s.vm.findClass own = some m.cls) (hlink : (Cond.classLink own ix q_NS).before args s = true) (htab : c.exceptionTable.toList = [⟨lo, hi, hp, ix⟩]) (hix : ix ≠ 0)
    {g : JFrame} (hg : g.method = m) (hcov : covers ⟨lo, hi, hp, ix⟩ g.pc = true) {x : Nat} {cell : Cell} (hcell : T.heap[x]? = some cell) (hvm : cell.vm = .none) (hcls : s.vm.findClass q_NS = some cell.cls) :
    ∃ vm', Stand p l e R s m args below meth c (T.setVm vm') locs cells slots ∧ ∀ target, Steps p.tables e below ((T.setVm vm').setTop { g with pc := hp, stack := [.ref x] }) target → Steps p.tables e below ((T.setTop g).pushFrame (.throwing x)) target := by
  have hpl : e.platform.magicAccessors = ({} : Platform).magicAccessors := by rw [X.admits.platform]
  obtain ⟨cc, hfcc, hcl⟩ := Cond.classLink_spec hown hlink e.platform hpl
  cases hcls.symm.trans hfcc
  obtain ⟨hg₁, hwarm₁, hready₁⟩ := State.classEntry (e := e) X.warmed hcl
  have hsz : (T.vm.noted m.cls ix (.cls cell.cls)).classes.size ≤ T.vm.classes.size := by simp [Vm.noted]
  generalize T.vm.noted m.cls ix (.cls cell.cls) = vm₁ at hg₁ hwarm₁ hready₁ hsz
  have hfc : vm₁.findClass q_NS = some cell.cls := by rw [hwarm₁.alike.findClass]; exact hcls
  have hk := Vm.classAt_of_findClass hfc
  have h : At T g.method c below := by rw [hg]; exact X.here
  refine ⟨vm₁, X.noted hwarm₁, fun target hrest => ?_⟩
  obtain ⟨hgo, hw⟩ := h.throwing x
  have hfind : ∀ (Q : Handler → Jvm.Pre) (E : CtlPost) (d : Bool) (acts : List Action), Sem.wp (findHandler g x) Q E e d acts ((T.setTop g).pushFrame (.throwing x)) ↔ Q (.found hp) d acts (((T.setTop g).pushFrame (.throwing x)).setVm vm₁) := by
    intro Q E d acts
    rw [W.findHandler_eq (meth := meth) (code := c) (by rw [Stand.throwing_vm, hg]; exact X.method') X.code, htab]
    exact q_goCold hcov hix (by rw [Stand.throwing_vm, hg]; exact hg₁) (by rw [Stand.throwing_vm]; exact hsz) (by rw [Stand.throwing_heap]; exact hcell) (fun k hk => by rw [hvm] at hk; cases hk) hk hk (q_self vm₁ cell.cls)
  refine Steps.head hgo hw ?_
  rw [stepThread_throwing (frames_entered h.top _), (q_stepCatch (s := (T.setTop g).pushFrame (.throwing x)) hfind).1]
  obtain ⟨g₀, hg0⟩ := Option.isSome_iff_exists.mp h.top
  obtain ⟨r, hr⟩ := State.topJava?_eq_some.mp hg0
  have hr' : (T.setVm vm₁).frames = .java g₀ :: r := hr
  rw [State.setTop_of_frames _ hr'] at hrest
  have e1 : (((T.setTop g).pushFrame (.throwing x)).setVm vm₁).setFrames (.java { g with pc := hp, stack := [.ref x] } :: T.frames.tail) = (T.setVm vm₁).setFrames (.java { g with pc := hp, stack := [.ref x] } :: r) := by
    rw [State.pushFrame, State.setTop_of_frames _ hr, State.setFrames_setFrames, hr]
    show ((T.setFrames _).setVm vm₁).setFrames _ = _
    rw [show (T.setFrames (Frame.throwing x :: (T.setFrames (Frame.java g :: r)).frames)).setVm vm₁ = (T.setVm vm₁).setFrames (Frame.throwing x :: (T.setFrames (Frame.java g :: r)).frames) from rfl, State.setFrames_setFrames]
    rfl
  rw [e1]
  exact hrest
theorem q_Thr.caught {own : String} {ix lo hi hp : Nat} (hown : s.vm.findClass own = some m.cls) (hlink : (Cond.classLink own ix q_NS).before args s = true) (htab : c.exceptionTable.toList = [⟨lo, hi, hp, ix⟩]) (hix : ix ≠ 0) {pc : Nat} {ls : Array Slot} {st : List Value} (hcov : covers ⟨lo, hi, hp, ix⟩ pc = true)
    (kk : ∀ (H1 : Heap) (x : Nat), (∀ q : Nat, q < H.size → H1[q]? = H[q]?) → H.size ≤ H1.size → W p l e R s m args below meth c H1 locs cells slots Q (F0 m hp ls [.ref x])) : q_Thr p l e R s m args below meth c H locs cells slots Q (F0 m pc ls st) := by
  intro T' x cell X h1 h2 h3 h4 h5 h6
  obtain ⟨vm', X', st'⟩ := q_catch X hown hlink htab hix (g := F0 m pc ls st) rfl hcov h3 h4 h5
  obtain ⟨t, a1, b1⟩ := kk T'.heap x h1 h2 (T'.setVm vm') rfl X'
  exact ⟨t, st' t a1, b1⟩
end WK
end
section
theorem wdW_good {y : MethodName} {b : ByteArray} {n : Nat} {r : Option FieldType} {hh : List (Nat × Nat × Nat × Nat)} (h : Cond.codeWith y b n r hh ∈ lw_g) : GoodIn lw_g (wdW y b n r hh) := by
  intro w hw
  rcases List.mem_cons.mp hw with rfl | hw
  · exact ⟨h, lw_g_good _ h⟩
  · exact ⟨hw, lw_g_good _ hw⟩
/-- a method that catches, and did: it answers 1; nothing but one new cell -/
def q_preT (o : Nat) (U : State) : Prop := q_TA U ∧ ∃ cell : Cell, U.heap[o]? = some cell ∧ cell.vm.isStatics = false ∧ U.vm.findClass "TimeNet" = some cell.cls
def q_endT : Array Value → State → Outcome → State → Prop := fun _ st oc t => oc = .returned (some (.int 1)) ∧ (∀ q : Nat, q < st.heap.size → t.heap[q]? = st.heap[q]?) ∧ st.heap.size ≤ t.heap.size
theorem q_preT_blind {av : List Value} {o : Nat} : FrameBlind (va_Pc av (q_preT o)) := fun a U g mk q => ⟨q.1, q.2.1.moved (State.WarmedH.refl U) (fun _ _ => rfl), q.2.2⟩
def CT (l : Launch) (y : MethodName) (b : ByteArray) (n : Nat) (hh : List (Nat × Nat × Nat × Nat)) (o : Nat) (av : List Value) : Prop := Met l y (wdW y b n (some .int) hh) (q_rmT 8 123) (va_Pc av (q_preT o)) q_endT 1 6 (fun _ => False)
/-- a method that catches, and did not -/
def CtW (l : Launch) (y : MethodName) (b : ByteArray) (n : Nat) (hh : List (Nat × Nat × Nat × Nat)) (D : va_G) (tys : List (ClassId × FieldType)) (av : List Value) (w0 w1 : va_W) (v : Option Value) : Prop :=
  ∀ sz, Met l y (wdW y b n (some .int) hh) (q_rm 8 123) (va_Pc av (q_pre D w0 tys sz)) (q_end D tys w1 v (va_A w0 sz)) 0 0 (va_A w0 sz)
abbrev q_out (q : Nat) (cO : ClassId) (g : Nat → Int64) : Nat × va_E := (q, .inl (cO, 1, .inr (.inl g)))

set_option maxHeartbeats 4000000 in
set_option maxRecDepth 100000 in
theorem c_L_bound_n (l : Launch) (htl : l.stackTraces = false) (o q : Nat) (i j : Int32) (h : (q_pt i && q_pt j) = false) : CT l y_L_bound b_L_bound 5 [(0, 9, 12, 13)] o [.ref o, .int i, .int j, .ref q] := by
  refine va_MetW (hh := [(0, 9, 12, 13)]) (cc := b_L_bound) (maxL := 5) (ret := some .int) (by decide) rfl ?_
  intro p e s m args below meth c s₁ B hml hv
  obtain ⟨rfl, hA, hrecv⟩ := hv
  have hts := atoms_spec (ws := wdW y_L_bound b_L_bound 5 (some .int) [(0, 9, 12, 13)]) B.pre
  have hl := lv_entry [.ref o, .int i, .int j, .ref q] (n := 5) (Nat.le_of_ble_eq_true rfl)
  rw [lg_entry_eq]
  have hT : ∀ w ∈ lw_g, w.before [.ref o, .int i, .int j, .ref q].toArray s = true := fun w hw => hts w (List.mem_cons_of_mem _ hw)
  have hlk := B.notSynchronized
  have hx := B.exec
  have hb := B.bytes
  have hr := B.returns
  have hown : s.vm.findClass "TimeNetLaw" = some m.cls := findClass_of_methodNamed B.named
  have htab : c.exceptionTable.toList = tableOf [(0, 9, 12, 13)] := by
    obtain ⟨m9, meth9, c9, g1, g2, g3, -, -, g4, -⟩ := Cond.codeWith_spec (hts _ List.mem_cons_self)
    cases (B.named).symm.trans g1
    cases (B.method).symm.trans g2
    cases ((Stand.of_body B).code).symm.trans g3
    rw [← g4, table_eq]
  refine lv_aload_n hx hb d_L_bound_0 rfl (lv_at hl 3 rfl) ?_
  refine lv_iconst (v := nI 0) hx hb d_L_bound_1 (by decide) ?_
  refine lv_aload_n hx hb d_L_bound_2 rfl (lv_at hl 0 rfl) ?_
  refine lv_iload_n hx hb d_L_bound_3 rfl (lv_at hl 1 rfl) ?_
  refine lv_iload_n hx hb d_L_bound_4 rfl (lv_at hl 2 rfl) ?_
  refine w_thrV (o := o) (As := [.int i, .int j]) (rest := [.int (nI 0), .ref q]) ⟨hx, hb, hml, hown, hT⟩ (c_X_bound_n l htl o i j h) (w_cwVT hT ms_X_bound tb_185 ⟨by decide, by decide⟩) ⟨q_TA_blind, hrecv, fun U hU hW => ⟨rfl, hA.moved hW (fun q _ => by rw [hU])⟩⟩ rfl rfl hl.1 (Nat.le_of_ble_eq_true rfl) d_L_bound_5 ⟨by decide, by decide⟩ ?_
  refine q_Thr.caught (ix := 13) (lo := 0) (hi := 9) (hp := 12) hown (hT _ tb_184) htab (by decide) (by decide) (fun H1 x hk hz => ?_)
  refine lv_astore (lv' := [(4, .ref x), (0, .ref o), (1, .int i), (2, .int j), (3, .ref q)]) hx hb d_L_bound_12 hl (by decide) rfl (fun ls hl => ?_)
  refine lv_iconst (v := 1) hx hb d_L_bound_14 (by decide) ?_
  exact W.iret hx hb hr (fun t ht _ => ⟨rfl, fun q0 hq => by rw [ht]; exact hk q0 hq, by rw [ht]; exact hz⟩) (fun q h => by cases h) d_L_bound_15 hlk

set_option maxHeartbeats 4000000 in
set_option maxRecDepth 100000 in
theorem c_L_bound_y (l : Launch) (D : va_G) (a : Nat → Nat) (k : Nat → ClassId) (ca : Nat → Nat) (n : Nat) (al : Int32) (fr tt : Nat → Nat) (cc : Nat → Int64) (on : Nat → Bool) (len : Nat → Int64) (stp : Nat → Int32) (dir : Nat → Int64) (row : Nat → Int32) (rm : Nat) (rl : Int64) (q : Nat) (cO : ClassId) (g : Nat → Int64) (i j : Nat) (hi : i < 20) (hj : j < 20) : CtW l y_L_bound b_L_bound 5 [(0, 9, 12, 13)] D ((cO, .long) :: xT k) [.ref (a 0), .int (nI i), .int (nI j), .ref q] ([q_out q cO g] ++ xW a k ca n al fr tt cc on len stp dir row rm rl) ([q_out q cO (vp_updL g 0 (len (20 * i + j)))] ++ xW a k ca n al fr tt cc on len stp dir row rm rl) (some (.int 0)) := by
  intro sz
  refine va_MetW (hh := [(0, 9, 12, 13)]) (cc := b_L_bound) (maxL := 5) (ret := some .int) (by decide) rfl ?_
  intro p e s m args below meth c s₁ B hml hv
  obtain ⟨rfl, hsz, hP, hK, hD0⟩ := hv
  subst hsz
  have hts := atoms_spec (ws := wdW y_L_bound b_L_bound 5 (some .int) [(0, 9, 12, 13)]) B.pre
  have hl := lv_entry [.ref (a 0), .int (nI i), .int (nI j), .ref q] (n := 5) (Nat.le_of_ble_eq_true rfl)
  rw [lg_entry_eq]
  have hT : ∀ w ∈ lw_g, w.before [.ref (a 0), .int (nI i), .int (nI j), .ref q].toArray s = true := fun w hw => hts w (List.mem_cons_of_mem _ hw)
  have hlk := B.notSynchronized
  have hx := B.exec
  have hb := B.bytes
  have hr := B.returns
  have hown : s.vm.findClass "TimeNetLaw" = some m.cls := findClass_of_methodNamed B.named
  have hD := hD0.self (sz := s.heap.size)
  have hS : va_S (va_A ([q_out q cO g] ++ xW a k ca n al fr tt cc on len stp dir row rm rl) s.heap.size) s.heap s.heap [] := va_S.rf
  have hA : ∀ q1, s.heap.size ≤ q1 → va_A ([q_out q cO g] ++ xW a k ca n al fr tt cc on len stp dir row rm rl) s.heap.size q1 := fun q1 h => Or.inr h
  have hKx : va_K D classes (xT k) s := hK.sub [1, 2, 3, 4, 5] rfl
  refine lv_aload_n hx hb d_L_bound_0 rfl (lv_at hl 3 rfl) ?_
  refine lv_iconst (v := nI 0) hx hb d_L_bound_1 (by decide) ?_
  refine lv_aload_n hx hb d_L_bound_2 rfl (lv_at hl 0 rfl) ?_
  refine lv_iload_n hx hb d_L_bound_3 rfl (lv_at hl 1 rfl) ?_
  refine lv_iload_n hx hb d_L_bound_4 rfl (lv_at hl 2 rfl) ?_
  refine w_callVF (l1 := [q_out q cO g]) (w0 := xW a k ca n al fr tt cc on len stp dir row rm rl) (l2 := []) (As := [.int (nI i), .int (nI j)]) (rest := [.int (nI 0), .ref q]) ⟨hx, hb, hml, hown, hT⟩ (c_X_bound_y l D a k ca n al fr tt cc on len stp dir row rm rl i j hi hj) (w_cwV hT ms_X_bound tb_185 ⟨by decide, by decide⟩) hKx (by rw [List.append_nil]; exact hP) (by rw [List.append_nil]; exact hD) hS hA 0 0 rfl rfl rfl rfl rfl hl.1 (Nat.le_of_ble_eq_true rfl) d_L_bound_5 ⟨Nat.zero_le _, Nat.zero_le _⟩ (fun H locs hP hD hS => ?_)
  rw [List.append_nil] at hP hD
  refine w_last hx hb hK hP hD hS 0 0 rfl rfl (by decide) (by decide) d_L_bound_8 (fun H locs hP hD hS => ?_)
  refine lv_goto (tgt := 16) hx hb d_L_bound_9 (by decide) ?_
  refine lv_iconst (v := 0) hx hb d_L_bound_16 (by decide) ?_
  exact W.iret hx hb hr (fun t ht hW => ⟨⟨rfl, by rw [ht]; exact hP, va_K.moved hW.alike hK, hD⟩, hS.F ht⟩) hS.2.2 d_L_bound_17 hlk

set_option maxHeartbeats 4000000 in
set_option maxRecDepth 100000 in
theorem c_L_earliest_n (l : Launch) (htl : l.stackTraces = false) (o q : Nat) (i : Int32) (h : q_pt i = false) : CT l y_L_earliest b_L_earliest 4 [(0, 8, 11, 13)] o [.ref o, .int i, .ref q] := by
  refine va_MetW (hh := [(0, 8, 11, 13)]) (cc := b_L_earliest) (maxL := 4) (ret := some .int) (by decide) rfl ?_
  intro p e s m args below meth c s₁ B hml hv
  obtain ⟨rfl, hA, hrecv⟩ := hv
  have hts := atoms_spec (ws := wdW y_L_earliest b_L_earliest 4 (some .int) [(0, 8, 11, 13)]) B.pre
  have hl := lv_entry [.ref o, .int i, .ref q] (n := 4) (Nat.le_of_ble_eq_true rfl)
  rw [lg_entry_eq]
  have hT : ∀ w ∈ lw_g, w.before [.ref o, .int i, .ref q].toArray s = true := fun w hw => hts w (List.mem_cons_of_mem _ hw)
  have hlk := B.notSynchronized
  have hx := B.exec
  have hb := B.bytes
  have hr := B.returns
  have hown : s.vm.findClass "TimeNetLaw" = some m.cls := findClass_of_methodNamed B.named
  have htab : c.exceptionTable.toList = tableOf [(0, 8, 11, 13)] := by
    obtain ⟨m9, meth9, c9, g1, g2, g3, -, -, g4, -⟩ := Cond.codeWith_spec (hts _ List.mem_cons_self)
    cases (B.named).symm.trans g1
    cases (B.method).symm.trans g2
    cases ((Stand.of_body B).code).symm.trans g3
    rw [← g4, table_eq]
  refine lv_aload_n hx hb d_L_earliest_0 rfl (lv_at hl 2 rfl) ?_
  refine lv_iconst (v := nI 0) hx hb d_L_earliest_1 (by decide) ?_
  refine lv_aload_n hx hb d_L_earliest_2 rfl (lv_at hl 0 rfl) ?_
  refine lv_iload_n hx hb d_L_earliest_3 rfl (lv_at hl 1 rfl) ?_
  refine w_thrV (o := o) (As := [.int i]) (rest := [.int (nI 0), .ref q]) ⟨hx, hb, hml, hown, hT⟩ (c_X_earliest_n l htl o i h) (w_cwVT hT ms_X_earliest tb_256 ⟨by decide, by decide⟩) ⟨q_TA_blind, hrecv, fun U hU hW => ⟨rfl, hA.moved hW (fun q _ => by rw [hU])⟩⟩ rfl rfl hl.1 (Nat.le_of_ble_eq_true rfl) d_L_earliest_4 ⟨by decide, by decide⟩ ?_
  refine q_Thr.caught (ix := 13) (lo := 0) (hi := 8) (hp := 11) hown (hT _ tb_184) htab (by decide) (by decide) (fun H1 x hk hz => ?_)
  refine lv_astore_n (lv' := [(3, .ref x), (0, .ref o), (1, .int i), (2, .ref q)]) hx hb d_L_earliest_11 rfl hl (by decide) rfl (fun ls hl => ?_)
  refine lv_iconst (v := 1) hx hb d_L_earliest_12 (by decide) ?_
  exact W.iret hx hb hr (fun t ht _ => ⟨rfl, fun q0 hq => by rw [ht]; exact hk q0 hq, by rw [ht]; exact hz⟩) (fun q h => by cases h) d_L_earliest_13 hlk

set_option maxHeartbeats 4000000 in
set_option maxRecDepth 100000 in
theorem c_L_earliest_f (l : Launch) (D : va_G) (a : Nat → Nat) (k : Nat → ClassId) (ca : Nat → Nat) (n : Nat) (al : Int32) (fr tt : Nat → Nat) (cc : Nat → Int64) (on : Nat → Bool) (len : Nat → Int64) (stp : Nat → Int32) (dir : Nat → Int64) (row : Nat → Int32) (rm : Nat) (rl : Int64) (q : Nat) (cO : ClassId) (g : Nat → Int64) (i : Nat) (hi : i < 20) (h : q_has len i 0 = false) : CtW l y_L_earliest b_L_earliest 4 [(0, 8, 11, 13)] D ((cO, .long) :: xT k) [.ref (a 0), .int (nI i), .ref q] ([q_out q cO g] ++ xW a k ca n al fr tt cc on len stp dir row rm rl) ([q_out q cO (vp_updL g 0 ((-9223372036854775808)))] ++ xW a k ca n al fr tt cc on len stp dir row rm rl) (some (.int 0)) := by
  intro sz
  refine va_MetW (hh := [(0, 8, 11, 13)]) (cc := b_L_earliest) (maxL := 4) (ret := some .int) (by decide) rfl ?_
  intro p e s m args below meth c s₁ B hml hv
  obtain ⟨rfl, hsz, hP, hK, hD0⟩ := hv
  subst hsz
  have hts := atoms_spec (ws := wdW y_L_earliest b_L_earliest 4 (some .int) [(0, 8, 11, 13)]) B.pre
  have hl := lv_entry [.ref (a 0), .int (nI i), .ref q] (n := 4) (Nat.le_of_ble_eq_true rfl)
  rw [lg_entry_eq]
  have hT : ∀ w ∈ lw_g, w.before [.ref (a 0), .int (nI i), .ref q].toArray s = true := fun w hw => hts w (List.mem_cons_of_mem _ hw)
  have hlk := B.notSynchronized
  have hx := B.exec
  have hb := B.bytes
  have hr := B.returns
  have hown : s.vm.findClass "TimeNetLaw" = some m.cls := findClass_of_methodNamed B.named
  have hD := hD0.self (sz := s.heap.size)
  have hS : va_S (va_A ([q_out q cO g] ++ xW a k ca n al fr tt cc on len stp dir row rm rl) s.heap.size) s.heap s.heap [] := va_S.rf
  have hA : ∀ q1, s.heap.size ≤ q1 → va_A ([q_out q cO g] ++ xW a k ca n al fr tt cc on len stp dir row rm rl) s.heap.size q1 := fun q1 h => Or.inr h
  have hKx : va_K D classes (xT k) s := hK.sub [1, 2, 3, 4, 5] rfl
  refine lv_aload_n hx hb d_L_earliest_0 rfl (lv_at hl 2 rfl) ?_
  refine lv_iconst (v := nI 0) hx hb d_L_earliest_1 (by decide) ?_
  refine lv_aload_n hx hb d_L_earliest_2 rfl (lv_at hl 0 rfl) ?_
  refine lv_iload_n hx hb d_L_earliest_3 rfl (lv_at hl 1 rfl) ?_
  refine w_callVF (l1 := [q_out q cO g]) (w0 := xW a k ca n al fr tt cc on len stp dir row rm rl) (l2 := []) (As := [.int (nI i)]) (rest := [.int (nI 0), .ref q]) ⟨hx, hb, hml, hown, hT⟩ (c_X_earliest_f l D a k ca n al fr tt cc on len stp dir row rm rl i hi h) (w_cwV hT ms_X_earliest tb_256 ⟨by decide, by decide⟩) hKx (by rw [List.append_nil]; exact hP) (by rw [List.append_nil]; exact hD) hS hA 0 0 rfl rfl rfl rfl rfl hl.1 (Nat.le_of_ble_eq_true rfl) d_L_earliest_4 ⟨Nat.zero_le _, Nat.zero_le _⟩ (fun H locs hP hD hS => ?_)
  rw [List.append_nil] at hP hD
  refine w_last hx hb hK hP hD hS 0 0 rfl rfl (by decide) (by decide) d_L_earliest_7 (fun H locs hP hD hS => ?_)
  refine lv_goto (tgt := 14) hx hb d_L_earliest_8 (by decide) ?_
  refine lv_iconst (v := 0) hx hb d_L_earliest_14 (by decide) ?_
  exact W.iret hx hb hr (fun t ht hW => ⟨⟨rfl, by rw [ht]; exact hP, va_K.moved hW.alike hK, hD⟩, hS.F ht⟩) hS.2.2 d_L_earliest_15 hlk

set_option maxHeartbeats 4000000 in
set_option maxRecDepth 100000 in
theorem c_L_earliest_y (l : Launch) (D : va_G) (a : Nat → Nat) (k : Nat → ClassId) (ca : Nat → Nat) (n : Nat) (al : Int32) (fr tt : Nat → Nat) (cc : Nat → Int64) (on : Nat → Bool) (len : Nat → Int64) (stp : Nat → Int32) (dir : Nat → Int64) (row : Nat → Int32) (rm : Nat) (rl : Int64) (q : Nat) (cO : ClassId) (g : Nat → Int64) (i : Nat) (hi : i < 20) (h : q_has len i 0 = true) : CtW l y_L_earliest b_L_earliest 4 [(0, 8, 11, 13)] D ((cO, .long) :: xT k) [.ref (a 0), .int (nI i), .ref q] ([q_out q cO g] ++ xW a k ca n al fr tt cc on len stp dir row rm rl) ([q_out q cO (vp_updL g 0 (-(len (20 * i + 0))))] ++ xW a k ca n al fr tt cc on len stp dir row rm rl) (some (.int 0)) := by
  intro sz
  refine va_MetW (hh := [(0, 8, 11, 13)]) (cc := b_L_earliest) (maxL := 4) (ret := some .int) (by decide) rfl ?_
  intro p e s m args below meth c s₁ B hml hv
  obtain ⟨rfl, hsz, hP, hK, hD0⟩ := hv
  subst hsz
  have hts := atoms_spec (ws := wdW y_L_earliest b_L_earliest 4 (some .int) [(0, 8, 11, 13)]) B.pre
  have hl := lv_entry [.ref (a 0), .int (nI i), .ref q] (n := 4) (Nat.le_of_ble_eq_true rfl)
  rw [lg_entry_eq]
  have hT : ∀ w ∈ lw_g, w.before [.ref (a 0), .int (nI i), .ref q].toArray s = true := fun w hw => hts w (List.mem_cons_of_mem _ hw)
  have hlk := B.notSynchronized
  have hx := B.exec
  have hb := B.bytes
  have hr := B.returns
  have hown : s.vm.findClass "TimeNetLaw" = some m.cls := findClass_of_methodNamed B.named
  have hD := hD0.self (sz := s.heap.size)
  have hS : va_S (va_A ([q_out q cO g] ++ xW a k ca n al fr tt cc on len stp dir row rm rl) s.heap.size) s.heap s.heap [] := va_S.rf
  have hA : ∀ q1, s.heap.size ≤ q1 → va_A ([q_out q cO g] ++ xW a k ca n al fr tt cc on len stp dir row rm rl) s.heap.size q1 := fun q1 h => Or.inr h
  have hKx : va_K D classes (xT k) s := hK.sub [1, 2, 3, 4, 5] rfl
  refine lv_aload_n hx hb d_L_earliest_0 rfl (lv_at hl 2 rfl) ?_
  refine lv_iconst (v := nI 0) hx hb d_L_earliest_1 (by decide) ?_
  refine lv_aload_n hx hb d_L_earliest_2 rfl (lv_at hl 0 rfl) ?_
  refine lv_iload_n hx hb d_L_earliest_3 rfl (lv_at hl 1 rfl) ?_
  refine w_callVF (l1 := [q_out q cO g]) (w0 := xW a k ca n al fr tt cc on len stp dir row rm rl) (l2 := []) (As := [.int (nI i)]) (rest := [.int (nI 0), .ref q]) ⟨hx, hb, hml, hown, hT⟩ (c_X_earliest_y l D a k ca n al fr tt cc on len stp dir row rm rl i hi h) (w_cwV hT ms_X_earliest tb_256 ⟨by decide, by decide⟩) hKx (by rw [List.append_nil]; exact hP) (by rw [List.append_nil]; exact hD) hS hA 0 0 rfl rfl rfl rfl rfl hl.1 (Nat.le_of_ble_eq_true rfl) d_L_earliest_4 ⟨Nat.zero_le _, Nat.zero_le _⟩ (fun H locs hP hD hS => ?_)
  rw [List.append_nil] at hP hD
  refine w_last hx hb hK hP hD hS 0 0 rfl rfl (by decide) (by decide) d_L_earliest_7 (fun H locs hP hD hS => ?_)
  refine lv_goto (tgt := 14) hx hb d_L_earliest_8 (by decide) ?_
  refine lv_iconst (v := 0) hx hb d_L_earliest_14 (by decide) ?_
  exact W.iret hx hb hr (fun t ht hW => ⟨⟨rfl, by rw [ht]; exact hP, va_K.moved hW.alike hK, hD⟩, hS.F ht⟩) hS.2.2 d_L_earliest_15 hlk

section WL
variable {p : Program} {l : Launch} {e : Env} {R : Room} {s : State} {m : MethodId} {args : Array Value} {below : List Frame} {meth : Method} {c : Code} {H : Heap} {locs : List Loc} {cells slots : Nat} {Q : State → Prop}
variable {cc : ByteArray} {pc : Nat} {ls : Array Slot} {rest st0 As : List Value} {D : va_G} {A : Nat → Prop} {a : Nat} {tys : List (ClassId × FieldType)} {ws w0 w1 l1 l2 : va_W} {H0 : Heap}
variable {y : MethodName} {b : ByteArray} {n : Nat} {r : Option FieldType} {na idx nL mc ms : Nat} {own : String} {v : Option Value} {o : Nat} {hh : List (Nat × Nat × Nat × Nat)} {rm : Room} {Pc : Array Value → State → Prop} {Qc : Array Value → State → Outcome → State → Prop} {free : Addr → Prop}
def q_WM (y : MethodName) (b : ByteArray) (n : Nat) (hh : List (Nat × Nat × Nat × Nat)) (na : Nat) : Prop := Cond.codeWith y b n (some .int) hh ∈ lw_g ∧ Cond.initialized y.cls ∈ lw_g ∧ Cond.static y ∈ lw_g ∧ (y.cls ≠ "java/lang/invoke/MethodHandle" ∧ y.cls ≠ "java/lang/invoke/VarHandle" ∧ (parseMethodDescriptor y.desc).map (fun d => d.parameters.length) = some na)
theorem w_runSW (S : CallFix p m c cc nL s args lw_g own) (hM : Met l y (wdW y b n (some .int) hh) rm Pc Qc mc ms free) (hm : q_WM y b n hh na) (hl : Cond.methodLink own idx y ∈ lw_g) (hrc : rm.cells = mc) (hrs : rm.slots = ms) (hR : rm.frames + 1 ≤ R.frames ∧ 8 + (n + 11) + rm.locals ≤ R.locals) (hp : PreS s H Pc As)
    (hn : As.length = na) (hsz : ls.size = nL) (hst : st0 = As.reverse ++ rest) (hW : (rest.map fun v => v.category).sum ≤ 8) (hdg : decode cc pc = .ok (.invokestatic idx, 3)) (hf : cells + mc ≤ R.cells ∧ slots + ms ≤ R.slots) :
    va_Run p l e R s m args below meth c H locs cells slots mc ms (F0 m pc ls st0) rest (Qc As.toArray) free := by
  obtain ⟨hx, hb, hml, ho, hT⟩ := S
  obtain ⟨hcw, hini, hstt, hd⟩ := hm
  have hK : Back l R p e below s args y 3 8 (PreOf R mc ms Pc) (PostOf Qc mc ms free) := va_backW (hh := hh) (bytes := b) (maxL := n) (ret := some .int) hM hp.1 hrc hrs hR.1 hR.2 (pay_in hT (wdW_good hcw)) List.mem_cons_self (fun a' U hW => word_at hW (Or.inl (by first | rfl | simp [Cond.onTables, Cond.keeps, Cond.steady])) (hT _ hini))
  intro T hT0 X
  obtain ⟨mk, methM, cM, hnamed, hmethM, -, -, -, -, -, -, hsigM⟩ := Cond.codeWith_spec (hT _ hcw)
  have hstatic : methM.isStatic = true := Cond.static_spec hnamed hmethM (hT _ hstt)
  obtain ⟨kP, hkP, -⟩ := className_of_methodNamed hnamed
  have hinitP : kP.init = .initialized := Cond.initialized_spec (findClass_of_methodNamed hnamed) hkP (hT _ hini)
  have hlen : As.length = methM.sig.parameters.length := by
    have h2 := hd.2.2
    rw [hsigM] at h2
    exact hn.trans (Option.some.inj h2).symm
  obtain ⟨vm₁, X₁, hstep₁⟩ := X.invokestatic hx ho (hT _ hl) hnamed hmethM hstatic hkP hinitP ⟨hd.1, hd.2.1⟩ (g := F0 m pc ls st0) rfl (argsL := As) (rest := rest) hlen hst (by rw [hb]; exact hdg)
  obtain ⟨v, ⟨U', l2, c2, s2⟩, X', ⟨g', mk', t, L, e1, e2, hq, h1, hL, h2, h3⟩, hsteps⟩ := hK m meth c ⟨T.setVm vm₁, locs, cells, slots⟩ (F0 m pc ls rest) (.invokestatic idx) mk As.toArray X₁ rfl (hsz.trans hml.symm) (by rw [hb]; exact hdg) (lv_room hW) (X₁.named hnamed) ⟨hf.1, hf.2, hp.2 (T.setVm vm₁) hT0 X₁.warmed⟩
  dsimp only [Pt.U, Pt.locs, Pt.cells, Pt.slots] at X' e1 e2 h1 h2 h3 hsteps
  subst h1; subst h2; subst h3
  exact ⟨v, (T.setVm vm₁).calling g' mk' As.toArray, t, U', L, hT0, X', hL, e1, e2, hq, fun target h => hstep₁ _ fun acts => by rw [doInvoke_state]; exact hsteps.trans h⟩
theorem w_callSW (S : CallFix p m c cc nL s args lw_g own) (hM : CtW l y b n hh D tys As w0 w1 v) (hm : q_WM y b n hh na) (hl : Cond.methodLink own idx y ∈ lw_g) (hR : 8 + 1 ≤ R.frames ∧ 8 + (n + 11) + 123 ≤ R.locals) (hK : va_K D classes tys s) (hP : va_P D classes (l1 ++ w0 ++ l2) H) (hD : va_D A (l1 ++ w0 ++ l2)) (hS : va_S A H0 H locs) (hA : ∀ q, H0.size ≤ q → A q)
    (hst : st0 = As.reverse ++ rest) (hn : As.length = na) (hsz : ls.size = nL) (hW : (rest.map fun v => v.category).sum ≤ 8) (hdg : decode cc pc = .ok (.invokestatic idx, 3)) (hf : cells ≤ R.cells ∧ slots ≤ R.slots)
    (kk : ∀ (H1 : Heap) (locs1 : List Loc), va_P D classes (l1 ++ w1 ++ l2) H1 → va_D A (l1 ++ w1 ++ l2) → va_S A H0 H1 locs1 → W p l e R s m args below meth c H1 locs1 cells slots Q (F0 m (pc + 3) ls (v.toList ++ rest))) : W p l e R s m args below meth c H locs cells slots Q (F0 m pc ls st0) := by
  have hPc : va_P D classes w0 H := fun i q h => by
    have hl := (List.getElem?_eq_some_iff.mp h).1
    exact hP (l1.length + i) q (by rw [List.append_assoc, List.getElem?_append_right (by omega), Nat.add_sub_cancel_left, List.getElem?_append_left hl]; exact h)
  have hDc : va_D (fun _ => True) w0 := by
    refine ⟨fun i j x z hi hj hxz => ?_, fun _ _ _ => trivial⟩
    have e0 : ∀ (i : Nat) (q : Nat × va_E), w0[i]? = some q → (l1 ++ w0 ++ l2)[l1.length + i]? = some q := fun i q h => by
      have hl := (List.getElem?_eq_some_iff.mp h).1
      rw [List.append_assoc, List.getElem?_append_right (by omega), Nat.add_sub_cancel_left, List.getElem?_append_left hl]; exact h
    have := hD.1 _ _ x z (e0 i x hi) (e0 j z hj) hxz
    omega
  exact w_callG (w_runSW S (hM H.size) hm hl rfl rfl hR ⟨q_blind, fun U hU hW => ⟨rfl, by rw [hU], by rw [hU]; exact hPc, va_K.moved hW.alike hK, hDc⟩⟩ hn hsz hst hW hdg hf) hP hD hS hA kk
theorem w_callST (S : CallFix p m c cc nL s args lw_g own) (hM : CT l y b n hh o As) (hm : q_WM y b n hh na) (hl : Cond.methodLink own idx y ∈ lw_g) (hR : 8 + 1 ≤ R.frames ∧ 8 + (n + 11) + 123 ≤ R.locals) (hTA : ∀ U : State, U.heap = H → s.WarmedH U.vm → q_TA U) (hrecv : ∃ cell : Cell, H[o]? = some cell ∧ cell.vm.isStatics = false ∧ s.vm.findClass "TimeNet" = some cell.cls) (hP : va_P D classes ws H) (hS : va_S A H0 H locs)
    (hst : st0 = As.reverse ++ rest) (hn : As.length = na) (hsz : ls.size = nL) (hW : (rest.map fun v => v.category).sum ≤ 8) (hdg : decode cc pc = .ok (.invokestatic idx, 3)) (hf : cells + 1 ≤ R.cells ∧ slots + 6 ≤ R.slots)
    (kk : ∀ (H1 : Heap), va_P D classes ws H1 → va_S A H0 H1 locs → W p l e R s m args below meth c H1 locs (cells + 1) (slots + 6) Q (F0 m (pc + 3) ls (.int 1 :: rest))) : W p l e R s m args below meth c H locs cells slots Q (F0 m pc ls st0) := by
  have hr := w_runSW (p := p) (l := l) (e := e) (R := R) (s := s) (m := m) (args := args) (below := below) (meth := meth) (c := c) (H := H) (locs := locs) (cells := cells) (slots := slots) S hM hm hl rfl rfl hR ⟨q_preT_blind, fun U hU hW => ⟨rfl, hTA U hU hW, by
    obtain ⟨cell, g1, g2, g3⟩ := hrecv
    exact ⟨cell, by rw [hU]; exact g1, g2, by rw [hW.alike.findClass]; exact g3⟩⟩⟩ hn hsz hst hW hdg hf
  intro T hT X
  obtain ⟨v', st₀, t, T', L, h0, X', hL, e1, e2, ⟨hv, hk, hz⟩, st⟩ := hr T hT X
  cases hv
  rw [h0, ← e1] at hz hk
  obtain ⟨t2, a1, b1⟩ := kk T'.heap (fun i q h => (hP i q h).kept (hk q.1 (hP i q h).lt)) ⟨Nat.le_trans hS.1 hz, fun q h1 h2 => by rw [hk q (Nat.lt_of_lt_of_le h1 hS.1)]; exact hS.2.1 q h1 h2, hS.2.2⟩ T' rfl (Stand.forget X' (fun q h => (hL q h).elim))
  exact ⟨t2, st t2 a1, b1⟩
end WL
theorem ms_L_bound : q_WM y_L_bound b_L_bound 5 [(0, 9, 12, 13)] 4 := ⟨tb_183, tb_0, tb_182, by decide +kernel⟩
theorem ms_L_earliest : q_WM y_L_earliest b_L_earliest 4 [(0, 8, 11, 13)] 3 := ⟨tb_255, tb_0, tb_254, by decide +kernel⟩
end
section
/-! the two answer alike: what a call does to both worlds -/
abbrev q_XS : Type := Nat × Int32 × (Nat → Nat) × (Nat → Nat) × (Nat → Int64) × (Nat → Bool) × (Nat → Int64) × (Nat → Int32) × (Nat → Int64) × (Nat → Int32) × Nat × Int64
abbrev q_MS : Type := Int32 × (Nat → Int32) × Int64 × (Nat → Int64) × Int64 × Int32
def xS (a : Nat → Nat) (k : Nat → ClassId) (ca : Nat → Nat) (u : q_XS) : va_W := match u with
  | (n, al, fr, tt, cc, on, len, stp, dir, row, rm, rl) => xW a k ca n al fr tt cc on len stp dir row rm rl
def mS (a : Nat → Nat) (k : Nat → ClassId) (u : q_XS) (v : q_MS) : va_W := match u, v with
  | (n, _, fr, tt, cc, on, _, _, _, _, rm, _), (th, row', rl', lst, bl, bs) => mW a k th n fr tt cc on rm row' rl' lst bl bs
def q_R (u : q_XS) (v : q_MS) : Prop := match u, v with
  | (n, al, fr, tt, cc, on, len, stp, dir, row, rm, rl), (_, row', rl', _, _, _) => g_In n fr tt cc on (dir, (len, stp)) ∧ al = nI (q_cnt on n) ∧ rm ≤ 22 ∧ (∀ t, t < rm → row t = row' t) ∧ (rm = 0 → rl = 0) ∧ (rm ≠ 0 → rl = rl')
def q_JI (l : Launch) (D : va_G) (a : Nat → Nat) (k : Nat → ClassId) (ca a' : Nat → Nat) (k' : Nat → ClassId) (u : q_XS) (v : q_MS) (y : MethodName) (b : ByteArray) (n : Nat) (r : Option FieldType) (f lo : Nat) (y' : MethodName) (b' : ByteArray) (n' : Nat) (r' : Option FieldType) (f' lo' : Nat) (As : List Value) : Prop :=
  ∃ (z : Int32) (u' : q_XS) (v' : q_MS), Ct l y b n r f lo D (xT k) (.ref (a 0) :: As) (xS a k ca u) (xS a k ca u') (some (.int z)) ∧ Ct l y' b' n' r' f' lo' D (mT k') (.ref (a' 0) :: As) (mS a' k' u v) (mS a' k' u' v') (some (.int z)) ∧ q_R u' v'
def q_JL (l : Launch) (D : va_G) (a : Nat → Nat) (k : Nat → ClassId) (ca a' : Nat → Nat) (k' : Nat → ClassId) (u : q_XS) (v : q_MS) (y : MethodName) (b : ByteArray) (n : Nat) (r : Option FieldType) (f lo : Nat) (y' : MethodName) (b' : ByteArray) (n' : Nat) (r' : Option FieldType) (f' lo' : Nat) (As : List Value) : Prop :=
  ∃ (z : Int64) (u' : q_XS) (v' : q_MS), Ct l y b n r f lo D (xT k) (.ref (a 0) :: As) (xS a k ca u) (xS a k ca u') (some (.long z)) ∧ Ct l y' b' n' r' f' lo' D (mT k') (.ref (a' 0) :: As) (mS a' k' u v) (mS a' k' u' v') (some (.long z)) ∧ q_R u' v'
theorem q_app_eq : ∀ (qs : List Nat) (rm : Nat) (row row' : Nat → Int32), (∀ t, t < rm → row t = row' t) → ∀ t, t < rm + qs.length → q_app row rm qs t = q_app row' rm qs t := by
  intro qs
  induction qs with
  | nil => intro rm row row' h t ht; exact h t ht
  | cons q qs ih =>
    intro rm row row' h t ht
    refine ih (rm + 1) _ _ (fun t' ht' => ?_) t (by rw [List.length_cons] at ht; omega)
    by_cases e : t' = rm
    · subst e; simp [upd]
    · simp only [upd, e, if_false]; exact h t' (by omega)
theorem q_up2 (row row' : Nat → Int32) (x y : Int32) : ∀ t, t < 2 → upd (upd row 0 x) 1 y t = upd (upd row' 0 x) 1 y t := by
  intro t ht
  rcases (show t = 0 ∨ t = 1 by omega) with rfl | rfl <;> simp [upd]
theorem q_up1 (row row' : Nat → Int32) (x : Int32) : ∀ t, t < 1 → upd row 0 x t = upd row' 0 x t := by
  intro t ht
  obtain rfl : t = 0 := by omega
  simp [upd]
theorem q_bad_of {i j : Int32} {x : Int64} {n : Nat} (h : q_bad i j x n = false) : ∃ i' j' : Nat, i' < 20 ∧ j' < 20 ∧ i = nI i' ∧ j = nI j' ∧ i' ≠ j' ∧ ¬ x < -1000000000000 ∧ ¬ 1000000000000 < x ∧ n ≠ 120 := by
  simp only [q_bad, Bool.or_eq_false_iff, Bool.not_eq_false', decide_eq_false_iff_not] at h
  obtain ⟨⟨h1, h2⟩, h3, h4, h5, h6⟩ := h
  obtain ⟨i', hi, rfl⟩ := q_pt_of h1
  obtain ⟨j', hj, rfl⟩ := q_pt_of h2
  exact ⟨i', j', hi, hj, rfl, rfl, fun e => h3 (by rw [e]), h4, h5, h6⟩
theorem q_lo {x : Int64} (h : ¬ x < -1000000000000) : -1000000000000 ≤ x.toInt := by
  rw [Int64.lt_iff_toInt_lt] at h
  have : (-1000000000000 : Int64).toInt = -1000000000000 := by decide
  omega
theorem q_hi {x : Int64} (h : ¬ 1000000000000 < x) : x.toInt ≤ 1000000000000 := by
  rw [Int64.lt_iff_toInt_lt] at h
  have : (1000000000000 : Int64).toInt = 1000000000000 := by decide
  omega
section JJ
variable (l : Launch) (D : va_G) (a : Nat → Nat) (k : Nat → ClassId) (ca a' : Nat → Nat) (k' : Nat → ClassId) (u : q_XS) (v : q_MS)

theorem l_add (h : q_R u v) (i j : Int32) (x : Int64) : q_JI l D a k ca a' k' u v y_X_add b_X_add 6 (some .int) 5 122 y_M_add b_M_add 5 (some .int) 3 73 [.int i, .int j, .long x] := by
  obtain ⟨n, al, fr, tt, cc, on, len, stp, dir, row, rm, rl⟩ := u
  obtain ⟨th, row', rl', lst, bl, bs⟩ := v
  obtain ⟨hI, hal, hrm, hrow, hr0, hr1⟩ := h
  have hn := hI.1
  have hft := hI.ft
  cases hb : q_bad i j x n with
  | true => exact ⟨-1, (n, al, fr, tt, cc, on, len, stp, dir, row, rm, rl), (nI 0, row', rl', lst, bl, bs), c_X_add_n l D a k ca n al fr tt cc on len stp dir row rm rl i j x hn hb, c_M_add_n l D a' k' th n fr tt cc on rm row' rl' lst bl bs i j x hn hb, ⟨hI, hal, hrm, hrow, hr0, hr1⟩⟩
  | false =>
    obtain ⟨i, j, hi, hj, rfl, rfl, hij, hx1, hx2, hn2⟩ := q_bad_of hb
    have hn3 : n < 120 := by omega
    cases hrf : q_ref len i j x with
    | true =>
      · obtain ⟨h1, h2, qs, l1, l2, l3, l4⟩ | ⟨h1, -, -⟩ := hI.best hj hi lst
        · have e1 : len (20 * j + i) = (q_bst (q_lst n fr tt cc on i lst) j).1 := by rw [h2]
          have e2 : stp (20 * j + i) = (q_bst (q_lst n fr tt cc on i lst) j).2 := by rw [h2]
          refine ⟨-2, (n, al, fr, tt, cc, on, len, stp, dir, q_app (upd (upd row 0 (nI i)) 1 (nI j)) 2 qs, 2 + qs.length, len (20 * j + i) + x), (nI 0, q_app (upd (upd row' 0 (nI i)) 1 (nI j)) 2 qs, x + (q_bst (q_lst n fr tt cc on i lst) j).1, (q_lst n fr tt cc on i lst), (q_bst (q_lst n fr tt cc on i lst) j).1, (q_bst (q_lst n fr tt cc on i lst) j).2), c_X_add_r l D a k ca n al fr tt cc on len stp dir row rm rl i j x hi hj hij hx1 hx2 hn3 hrf qs l2 l3 (by omega), c_M_add_r l D a' k' th n fr tt cc on rm row' rl' lst bl bs i j x hi hj hft hn hij hx1 hx2 hn3 (hI.ref hi hj x lst ▸ hrf) qs (e2 ▸ l2) (by omega) l4, hI, hal, by omega, ?_, fun q => absurd q (by omega), fun _ => by rw [← e1, Int64.add_comm]⟩
          exact fun t ht => q_app_eq qs 2 _ _ (q_up2 row row' _ _) t ht
        · rw [q_ref, h1] at hrf
          cases hrf
    | false =>
      refine ⟨nI n, (n + 1, al + nI 1, va_up fr n i, va_up tt n j, va_up cc n x, va_up on n true, (q_tk i j x (dir, (len, stp))).2.1, (q_tk i j x (dir, (len, stp))).2.2, (q_tk i j x (dir, (len, stp))).1, row, rm, rl), (nI 0, row', rl', (q_lst n fr tt cc on i lst), (q_bst (q_lst n fr tt cc on i lst) j).1, (q_bst (q_lst n fr tt cc on i lst) j).2), c_X_add_y l D a k ca n al fr tt cc on len stp dir row rm rl i j x hi hj hij hx1 hx2 hn3 hrf, c_M_add_y l D a' k' th n fr tt cc on rm row' rl' lst bl bs i j x hi hj hft hn hij hx1 hx2 hn3 (hI.ref hi hj x lst ▸ hrf), hI.add hn3 hi hj (q_lo hx1) (q_hi hx2) hrf, ?_, hrm, hrow, hr0, hr1⟩
      rw [hal, q_cnt, q_cnt_up on n true n (Nat.le_refl n), va_up_self]
      exact q_ii _

theorem l_off (h : q_R u v) (x : Int32) : q_JI l D a k ca a' k' u v y_X_off b_X_off 2 (some .boolean) 5 118 y_M_off b_M_off 2 (some .boolean) 1 21 [.int x] := by
  obtain ⟨n, al, fr, tt, cc, on, len, stp, dir, row, rm, rl⟩ := u
  obtain ⟨th, row', rl', lst, bl, bs⟩ := v
  obtain ⟨hI, hal, hrm, hrow, hr0, hr1⟩ := h
  have hn := hI.1
  have hft := hI.ft
  by_cases hp : ∃ j, j < n ∧ x = nI j ∧ on j = true
  · obtain ⟨j, hjn, rfl, ho⟩ := hp
    refine ⟨q_b true, (n, al - nI 1, fr, tt, cc, va_up on j false, (q_new n fr tt cc (va_up on j false) (dir, (len, stp))).2.1, (q_new n fr tt cc (va_up on j false) (dir, (len, stp))).2.2, (q_new n fr tt cc (va_up on j false) (dir, (len, stp))).1, row, rm, rl), (nI 0, row', rl', lst, bl, bs), c_X_off_y l D a k ca n al fr tt cc on len stp dir row rm rl j hn hft hjn ho, c_M_off_y l D a' k' th n fr tt cc on rm row' rl' lst bl bs j hft hn hjn ho, hI.off j, ?_, hrm, hrow, hr0, hr1⟩
    rw [hal, q_cnt_clr on ho n hjn, pk_sub (by omega), Nat.add_sub_cancel]
  · have hq : ∀ j, j < n → x = nI j → on j = false := fun j h1 h2 => by
      cases ho : on j with
      | false => rfl
      | true => exact absurd ⟨j, h1, h2, ho⟩ hp
    exact ⟨q_b false, (n, al, fr, tt, cc, on, len, stp, dir, row, rm, rl), (nI 0, row', rl', lst, bl, bs), c_X_off_n l D a k ca n al fr tt cc on len stp dir row rm rl x hn hq, c_M_off_n l D a' k' th n fr tt cc on rm row' rl' lst bl bs x hn hq, ⟨hI, hal, hrm, hrow, hr0, hr1⟩⟩

theorem l_on (h : q_R u v) (x : Int32) : q_JI l D a k ca a' k' u v y_X_on b_X_on 3 (some .int) 5 122 y_M_on b_M_on 2 (some .int) 3 73 [.int x] := by
  obtain ⟨n, al, fr, tt, cc, on, len, stp, dir, row, rm, rl⟩ := u
  obtain ⟨th, row', rl', lst, bl, bs⟩ := v
  obtain ⟨hI, hal, hrm, hrow, hr0, hr1⟩ := h
  have hn := hI.1
  have hft := hI.ft
  by_cases hp : ∃ j, j < n ∧ x = nI j ∧ on j = false
  · obtain ⟨j, hjn, rfl, ho⟩ := hp
    cases hrf : q_ref len (fr j) (tt j) (cc j) with
    | true =>
      · obtain ⟨h1, h2, qs, l1, l2, l3, l4⟩ | ⟨h1, -, -⟩ := hI.best (hft j hjn).2 (hft j hjn).1 lst
        · have e1 : len (20 * (tt j) + (fr j)) = (q_bst (q_lst n fr tt cc on (fr j) lst) (tt j)).1 := by rw [h2]
          have e2 : stp (20 * (tt j) + (fr j)) = (q_bst (q_lst n fr tt cc on (fr j) lst) (tt j)).2 := by rw [h2]
          refine ⟨-2, (n, al, fr, tt, cc, on, len, stp, dir, q_app (upd (upd row 0 (nI (fr j))) 1 (nI (tt j))) 2 qs, 2 + qs.length, len (20 * (tt j) + (fr j)) + cc j), (nI 0, q_app (upd (upd row' 0 (nI (fr j))) 1 (nI (tt j))) 2 qs, cc j + (q_bst (q_lst n fr tt cc on (fr j) lst) (tt j)).1, (q_lst n fr tt cc on (fr j) lst), (q_bst (q_lst n fr tt cc on (fr j) lst) (tt j)).1, (q_bst (q_lst n fr tt cc on (fr j) lst) (tt j)).2), c_X_on_r l D a k ca n al fr tt cc on len stp dir row rm rl j hn hft hjn ho hrf qs l2 l3 (by omega), c_M_on_r l D a' k' th n fr tt cc on rm row' rl' lst bl bs j hft hn hjn ho (hI.ref (hft j hjn).1 (hft j hjn).2 (cc j) lst ▸ hrf) qs (e2 ▸ l2) (by omega) l4, hI, hal, by omega, ?_, fun q => absurd q (by omega), fun _ => by rw [← e1, Int64.add_comm]⟩
          exact fun t ht => q_app_eq qs 2 _ _ (q_up2 row row' _ _) t ht
        · rw [q_ref, h1] at hrf
          cases hrf
    | false =>
      refine ⟨nI j, (n, al + nI 1, fr, tt, cc, va_up on j true, (q_tk (fr j) (tt j) (cc j) (dir, (len, stp))).2.1, (q_tk (fr j) (tt j) (cc j) (dir, (len, stp))).2.2, (q_tk (fr j) (tt j) (cc j) (dir, (len, stp))).1, row, rm, rl), (nI 0, row', rl', (q_lst n fr tt cc on (fr j) lst), (q_bst (q_lst n fr tt cc on (fr j) lst) (tt j)).1, (q_bst (q_lst n fr tt cc on (fr j) lst) (tt j)).2), c_X_on_y l D a k ca n al fr tt cc on len stp dir row rm rl j hn hft hjn ho hrf, c_M_on_y l D a' k' th n fr tt cc on rm row' rl' lst bl bs j hft hn hjn ho (hI.ref (hft j hjn).1 (hft j hjn).2 (cc j) lst ▸ hrf), hI.turn hjn hrf, ?_, hrm, hrow, hr0, hr1⟩
      rw [hal, q_cnt_set on ho n hjn]
      exact q_ii _
  · have hq : ∀ j, j < n → x = nI j → on j = true := fun j h1 h2 => by
      cases ho : on j with
      | true => rfl
      | false => exact absurd ⟨j, h1, h2, ho⟩ hp
    exact ⟨-1, (n, al, fr, tt, cc, on, len, stp, dir, row, rm, rl), (nI 0, row', rl', lst, bl, bs), c_X_on_n l D a k ca n al fr tt cc on len stp dir row rm rl x hn hq, c_M_on_n l D a' k' th n fr tt cc on rm row' rl' lst bl bs x hn hq, ⟨hI, hal, hrm, hrow, hr0, hr1⟩⟩

theorem l_slack (h : q_R u v) (x : Int32) : q_JL l D a k ca a' k' u v y_X_slack b_X_slack 2 (some .long) 1 21 y_M_slack b_M_slack 2 (some .long) 1 26 [.int x] := by
  obtain ⟨n, al, fr, tt, cc, on, len, stp, dir, row, rm, rl⟩ := u
  obtain ⟨th, row', rl', lst, bl, bs⟩ := v
  obtain ⟨hI, hal, hrm, hrow, hr0, hr1⟩ := h
  have hn := hI.1
  have hft := hI.ft
  by_cases hp : ∃ j, j < n ∧ x = nI j ∧ on j = true
  · obtain ⟨j, hjn, rfl, ho⟩ := hp
    obtain ⟨h1, h2, qs, l1, l2, -⟩ | ⟨h1, -, -⟩ := hI.best (hft j hjn).1 (hft j hjn).2 lst
    · have e1 : len (20 * fr j + tt j) = (q_bst (q_lst n fr tt cc on (tt j) lst) (fr j)).1 := by rw [h2]
      have l2 : stp (20 * fr j + tt j) = nI qs.length := l2
      refine ⟨cc j - len (20 * fr j + tt j), (n, al, fr, tt, cc, on, len, stp, dir, row, rm, rl), (nI 0, row', rl', (q_lst n fr tt cc on (tt j) lst), (q_bst (q_lst n fr tt cc on (tt j) lst) (fr j)).1, (q_bst (q_lst n fr tt cc on (tt j) lst) (fr j)).2), c_X_slack_y l D a k ca n al fr tt cc on len stp dir row rm rl j hn hft hjn ho, ?_, ⟨hI, hal, hrm, hrow, hr0, hr1⟩⟩
      have e3 : cc j - len (20 * fr j + tt j) = cc j - (q_bst (q_lst n fr tt cc on (tt j) lst) (fr j)).1 := by rw [e1]
      rw [e3]
      exact c_M_slack_y l D a' k' th n fr tt cc on rm row' rl' lst bl bs j hft hn hjn ho (by rw [h2]; show ¬ stp (20 * fr j + tt j) < 0; rw [l2]; exact q_nI_nn (by omega))
    · rw [hI.has hjn ho] at h1
      cases h1
  · have hq : ∀ j, j < n → x = nI j → on j = false := fun j h1 h2 => by
      cases ho : on j with
      | false => rfl
      | true => exact absurd ⟨j, h1, h2, ho⟩ hp
    exact ⟨-1, (n, al, fr, tt, cc, on, len, stp, dir, row, rm, rl), (nI 0, row', rl', lst, bl, bs), c_X_slack_n l D a k ca n al fr tt cc on len stp dir row rm rl x hn hq, c_M_slack_n l D a' k' th n fr tt cc on rm row' rl' lst bl bs x hn hq, ⟨hI, hal, hrm, hrow, hr0, hr1⟩⟩

theorem l_row (h : q_R u v)  : q_JI l D a k ca a' k' u v y_X_row b_X_row 1 (some .int) 0 0 y_M_row b_M_row 1 (some .int) 0 0 [] := by
  obtain ⟨n, al, fr, tt, cc, on, len, stp, dir, row, rm, rl⟩ := u
  obtain ⟨th, row', rl', lst, bl, bs⟩ := v
  obtain ⟨hI, hal, hrm, hrow, hr0, hr1⟩ := h
  have hn := hI.1
  have hft := hI.ft
  exact ⟨nI rm, (n, al, fr, tt, cc, on, len, stp, dir, row, rm, rl), (nI 0, row', rl', lst, bl, bs), c_X_row l D a k ca n al fr tt cc on len stp dir row rm rl , c_M_row l D a' k' th n fr tt cc on rm row' rl' lst bl bs , ⟨hI, hal, hrm, hrow, hr0, hr1⟩⟩

theorem l_alive (h : q_R u v)  : q_JI l D a k ca a' k' u v y_X_alive b_X_alive 1 (some .int) 0 0 y_M_alive b_M_alive 3 (some .int) 0 0 [] := by
  obtain ⟨n, al, fr, tt, cc, on, len, stp, dir, row, rm, rl⟩ := u
  obtain ⟨th, row', rl', lst, bl, bs⟩ := v
  obtain ⟨hI, hal, hrm, hrow, hr0, hr1⟩ := h
  have hn := hI.1
  have hft := hI.ft
  subst hal
  exact ⟨nI (q_cnt on n), (n, nI (q_cnt on n), fr, tt, cc, on, len, stp, dir, row, rm, rl), (nI 0, row', rl', lst, bl, bs), c_X_alive l D a k ca n (nI (q_cnt on n)) fr tt cc on len stp dir row rm rl , c_M_alive l D a' k' th n fr tt cc on rm row' rl' lst bl bs hn, hI, rfl, hrm, hrow, hr0, hr1⟩

theorem l_length (h : q_R u v)  : q_JL l D a k ca a' k' u v y_X_length b_X_length 1 (some .long) 0 0 y_M_length b_M_length 1 (some .long) 0 0 [] := by
  obtain ⟨n, al, fr, tt, cc, on, len, stp, dir, row, rm, rl⟩ := u
  obtain ⟨th, row', rl', lst, bl, bs⟩ := v
  obtain ⟨hI, hal, hrm, hrow, hr0, hr1⟩ := h
  have hn := hI.1
  have hft := hI.ft
  refine ⟨rl, (n, al, fr, tt, cc, on, len, stp, dir, row, rm, rl), (nI 0, row', rl', lst, bl, bs), c_X_length l D a k ca n al fr tt cc on len stp dir row rm rl , ?_, ⟨hI, hal, hrm, hrow, hr0, hr1⟩⟩
  have := c_M_length l D a' k' th n fr tt cc on rm row' rl' lst bl bs (by omega)
  have e : (if rm = 0 then 0 else rl') = rl := by
    by_cases q : rm = 0
    · rw [if_pos q, hr0 q]
    · rw [if_neg q, hr1 q]
  rw [e] at this
  exact this

theorem l_rowAt (h : q_R u v) (x : Int32) : q_JI l D a k ca a' k' u v y_X_rowAt b_X_rowAt 2 (some .int) 0 0 y_M_rowAt b_M_rowAt 2 (some .int) 0 0 [.int x] := by
  obtain ⟨n, al, fr, tt, cc, on, len, stp, dir, row, rm, rl⟩ := u
  obtain ⟨th, row', rl', lst, bl, bs⟩ := v
  obtain ⟨hI, hal, hrm, hrow, hr0, hr1⟩ := h
  have hn := hI.1
  have hft := hI.ft
  by_cases hp : ∃ j, j < rm ∧ x = nI j
  · obtain ⟨j, hj, rfl⟩ := hp
    refine ⟨row j, (n, al, fr, tt, cc, on, len, stp, dir, row, rm, rl), (nI 0, row', rl', lst, bl, bs), c_X_rowAt_y l D a k ca n al fr tt cc on len stp dir row rm rl j hrm hj, ?_, ⟨hI, hal, hrm, hrow, hr0, hr1⟩⟩
    rw [hrow j hj]
    exact c_M_rowAt_y l D a' k' th n fr tt cc on rm row' rl' lst bl bs j (by omega) hj
  · have hq : ∀ j, j < rm → x ≠ nI j := fun j h1 h2 => hp ⟨j, h1, h2⟩
    exact ⟨-1, (n, al, fr, tt, cc, on, len, stp, dir, row, rm, rl), (nI 0, row', rl', lst, bl, bs), c_X_rowAt_n l D a k ca n al fr tt cc on len stp dir row rm rl x hrm hq, c_M_rowAt_n l D a' k' th n fr tt cc on rm row' rl' lst bl bs x (by omega) hq, ⟨hI, hal, hrm, hrow, hr0, hr1⟩⟩

theorem l_steps (h : q_R u v) (i j : Int32) : q_JI l D a k ca a' k' u v y_X_steps b_X_steps 3 (some .int) 2 43 y_M_steps b_M_steps 3 (some .int) 1 26 [.int i, .int j] := by
  obtain ⟨n, al, fr, tt, cc, on, len, stp, dir, row, rm, rl⟩ := u
  obtain ⟨th, row', rl', lst, bl, bs⟩ := v
  obtain ⟨hI, hal, hrm, hrow, hr0, hr1⟩ := h
  have hn := hI.1
  have hft := hI.ft
  cases hp : (q_pt i && q_pt j) with
  | false => exact ⟨-1, (n, al, fr, tt, cc, on, len, stp, dir, row, rm, rl), (nI 0, row', rl', lst, bl, bs), c_X_steps_n l D a k ca n al fr tt cc on len stp dir row rm rl i j hp, c_M_steps_n l D a' k' th n fr tt cc on rm row' rl' lst bl bs i j hp, ⟨hI, hal, hrm, hrow, hr0, hr1⟩⟩
  | true =>
    rw [Bool.and_eq_true] at hp
    obtain ⟨i, hi, rfl⟩ := q_pt_of hp.1
    obtain ⟨j, hj, rfl⟩ := q_pt_of hp.2
    obtain ⟨h1, h2, qs, l1, l2, l3, l4⟩ | ⟨h1, h2, h3⟩ := hI.best hi hj lst
    · have e2 : stp (20 * i + j) = (q_bst (q_lst n fr tt cc on j lst) i).2 := by rw [h2]
      have l2 : stp (20 * i + j) = nI qs.length := l2
      have e3 : (if (q_bst (q_lst n fr tt cc on j lst) i).2 < 0 then (-1) else (q_bst (q_lst n fr tt cc on j lst) i).2) = stp (20 * i + j) := by
        rw [← e2, l2, if_neg (q_nI_nn (by omega))]
      exact ⟨stp (20 * i + j), (n, al, fr, tt, cc, on, len, stp, dir, row, rm, rl), (nI 0, row', rl', (q_lst n fr tt cc on j lst), (q_bst (q_lst n fr tt cc on j lst) i).1, (q_bst (q_lst n fr tt cc on j lst) i).2), c_X_steps_y l D a k ca n al fr tt cc on len stp dir row rm rl i j hi hj h1, e3 ▸ c_M_steps_y l D a' k' th n fr tt cc on rm row' rl' lst bl bs i j hi hj hft hn, ⟨hI, hal, hrm, hrow, hr0, hr1⟩⟩
    · have e3 : (if (q_bst (q_lst n fr tt cc on j lst) i).2 < 0 then (-1) else (q_bst (q_lst n fr tt cc on j lst) i).2) = -1 := by
        rw [h3]; rfl
      exact ⟨-1, (n, al, fr, tt, cc, on, len, stp, dir, row, rm, rl), (nI 0, row', rl', (q_lst n fr tt cc on j lst), (q_bst (q_lst n fr tt cc on j lst) i).1, (q_bst (q_lst n fr tt cc on j lst) i).2), c_X_steps_f l D a k ca n al fr tt cc on len stp dir row rm rl i j hi hj h1, e3 ▸ c_M_steps_y l D a' k' th n fr tt cc on rm row' rl' lst bl bs i j hi hj hft hn, ⟨hI, hal, hrm, hrow, hr0, hr1⟩⟩

theorem l_path (h : q_R u v) (i j : Int32) : q_JI l D a k ca a' k' u v y_X_path b_X_path 3 (some .int) 4 98 y_M_path b_M_path 3 (some .int) 2 49 [.int i, .int j] := by
  obtain ⟨n, al, fr, tt, cc, on, len, stp, dir, row, rm, rl⟩ := u
  obtain ⟨th, row', rl', lst, bl, bs⟩ := v
  obtain ⟨hI, hal, hrm, hrow, hr0, hr1⟩ := h
  have hn := hI.1
  have hft := hI.ft
  cases hp : (q_pt i && q_pt j) with
  | false => exact ⟨-1, (n, al, fr, tt, cc, on, len, stp, dir, row, rm, rl), (nI 0, row', rl', lst, bl, bs), c_X_path_n l D a k ca n al fr tt cc on len stp dir row rm rl i j hp, c_M_path_n l D a' k' th n fr tt cc on rm row' rl' lst bl bs i j hp, ⟨hI, hal, hrm, hrow, hr0, hr1⟩⟩
  | true =>
    rw [Bool.and_eq_true] at hp
    obtain ⟨i, hi, rfl⟩ := q_pt_of hp.1
    obtain ⟨j, hj, rfl⟩ := q_pt_of hp.2
    obtain ⟨h1, h2, qs, l1, l2, l3, l4⟩ | ⟨h1, h2, h3⟩ := hI.best hi hj lst
    · have e1 : len (20 * i + j) = (q_bst (q_lst n fr tt cc on j lst) i).1 := by rw [h2]
      have e2 : stp (20 * i + j) = (q_bst (q_lst n fr tt cc on j lst) i).2 := by rw [h2]
      exact ⟨nI (1 + qs.length), (n, al, fr, tt, cc, on, len, stp, dir, q_app (upd row 0 (nI i)) 1 qs, 1 + qs.length, len (20 * i + j)), (nI 0, q_app (upd row' 0 (nI i)) 1 qs, (q_bst (q_lst n fr tt cc on j lst) i).1, (q_lst n fr tt cc on j lst), (q_bst (q_lst n fr tt cc on j lst) i).1, (q_bst (q_lst n fr tt cc on j lst) i).2), c_X_path_y l D a k ca n al fr tt cc on len stp dir row rm rl i j hi hj h1 qs l2 l3 (by omega), c_M_path_y l D a' k' th n fr tt cc on rm row' rl' lst bl bs i j hi hj hft hn qs (e2 ▸ l2) (by omega) l4, hI, hal, by omega, fun t ht => q_app_eq qs 1 _ _ (q_up1 row row' _) t ht, fun q => absurd q (by omega), fun _ => e1⟩
    · exact ⟨-1, (n, al, fr, tt, cc, on, len, stp, dir, row, rm, rl), (nI 0, row', rl', (q_lst n fr tt cc on j lst), (q_bst (q_lst n fr tt cc on j lst) i).1, (q_bst (q_lst n fr tt cc on j lst) i).2), c_X_path_f l D a k ca n al fr tt cc on len stp dir row rm rl i j hi hj h1, c_M_path_f l D a' k' th n fr tt cc on rm row' rl' lst bl bs i j hi hj hft hn (by rw [h3]; decide), ⟨hI, hal, hrm, hrow, hr0, hr1⟩⟩

end JJ
end
section
section JT
variable (l : Launch) (D : va_G) (a : Nat → Nat) (k : Nat → ClassId) (ca a' : Nat → Nat) (k' : Nat → ClassId) (u : q_XS) (v : q_MS) (q : Nat) (cO : ClassId) (g : Nat → Int64)
theorem l_bound (htl : l.stackTraces = false) (h : q_R u v) (i j : Int32) : (CT l y_L_bound b_L_bound 5 [(0, 9, 12, 13)] (a 0) [.ref (a 0), .int i, .int j, .ref q] ∧ ∃ v' : q_MS, Ct l y_M_bound b_M_bound 3 (some .long) 1 26 D (mT k') [.ref (a' 0), .int i, .int j] (mS a' k' u v) (mS a' k' u v') (some (.long 0)) ∧ q_R u v' ∧ v'.1 = nI 1) ∨
    ∃ (z : Int64) (v' : q_MS), CtW l y_L_bound b_L_bound 5 [(0, 9, 12, 13)] D ((cO, .long) :: xT k) [.ref (a 0), .int i, .int j, .ref q] ([q_out q cO g] ++ xS a k ca u) ([q_out q cO (vp_updL g 0 z)] ++ xS a k ca u) (some (.int 0)) ∧ Ct l y_M_bound b_M_bound 3 (some .long) 1 26 D (mT k') [.ref (a' 0), .int i, .int j] (mS a' k' u v) (mS a' k' u v') (some (.long z)) ∧ q_R u v' ∧ v'.1 = nI 0 := by
  obtain ⟨n, al, fr, tt, cc, on, len, stp, dir, row, rm, rl⟩ := u
  obtain ⟨th, row', rl', lst, bl, bs⟩ := v
  obtain ⟨hI, hal, hrm, hrow, hr0, hr1⟩ := h
  have hn := hI.1
  have hft := hI.ft
  cases hp : (q_pt i && q_pt j) with
  | false => exact Or.inl ⟨c_L_bound_n l htl (a 0) q i j hp, (nI 1, row', rl', lst, bl, bs), c_M_bound_n l D a' k' th n fr tt cc on rm row' rl' lst bl bs i j hp, ⟨hI, hal, hrm, hrow, hr0, hr1⟩, rfl⟩
  | true =>
    rw [Bool.and_eq_true] at hp
    obtain ⟨i, hi, rfl⟩ := q_pt_of hp.1
    obtain ⟨j, hj, rfl⟩ := q_pt_of hp.2
    have e3 : (if (q_bst (q_lst n fr tt cc on j lst) i).2 < 0 then q_nev else (q_bst (q_lst n fr tt cc on j lst) i).1) = len (20 * i + j) := by
      obtain ⟨h1, h2, qs, l1, l2, l3, l4⟩ | ⟨h1, h2, h3⟩ := hI.best hi hj lst
      · have l2 : stp (20 * i + j) = nI qs.length := l2
        rw [h2]
        show (if stp (20 * i + j) < 0 then q_nev else len (20 * i + j)) = _
        rw [l2, if_neg (q_nI_nn (by omega))]
      · rw [h3]
        exact h2.symm
    exact Or.inr ⟨len (20 * i + j), (nI 0, row', rl', (q_lst n fr tt cc on j lst), (q_bst (q_lst n fr tt cc on j lst) i).1, (q_bst (q_lst n fr tt cc on j lst) i).2), c_L_bound_y l D a k ca n al fr tt cc on len stp dir row rm rl q cO g i j hi hj, e3 ▸ c_M_bound_y l D a' k' th n fr tt cc on rm row' rl' lst bl bs i j hi hj hft hn, ⟨hI, hal, hrm, hrow, hr0, hr1⟩, rfl⟩

theorem l_earliest (htl : l.stackTraces = false) (h : q_R u v) (i : Int32) : (CT l y_L_earliest b_L_earliest 4 [(0, 8, 11, 13)] (a 0) [.ref (a 0), .int i, .ref q] ∧ ∃ v' : q_MS, Ct l y_M_earliest b_M_earliest 2 (some .long) 1 26 D (mT k') [.ref (a' 0), .int i] (mS a' k' u v) (mS a' k' u v') (some (.long 0)) ∧ q_R u v' ∧ v'.1 = nI 1) ∨
    ∃ (z : Int64) (v' : q_MS), CtW l y_L_earliest b_L_earliest 4 [(0, 8, 11, 13)] D ((cO, .long) :: xT k) [.ref (a 0), .int i, .ref q] ([q_out q cO g] ++ xS a k ca u) ([q_out q cO (vp_updL g 0 z)] ++ xS a k ca u) (some (.int 0)) ∧ Ct l y_M_earliest b_M_earliest 2 (some .long) 1 26 D (mT k') [.ref (a' 0), .int i] (mS a' k' u v) (mS a' k' u v') (some (.long z)) ∧ q_R u v' ∧ v'.1 = nI 0 := by
  obtain ⟨n, al, fr, tt, cc, on, len, stp, dir, row, rm, rl⟩ := u
  obtain ⟨th, row', rl', lst, bl, bs⟩ := v
  obtain ⟨hI, hal, hrm, hrow, hr0, hr1⟩ := h
  have hn := hI.1
  have hft := hI.ft
  cases hp : q_pt i with
  | false => exact Or.inl ⟨c_L_earliest_n l htl (a 0) q i hp, (nI 1, row', rl', lst, bl, bs), c_M_earliest_n l D a' k' th n fr tt cc on rm row' rl' lst bl bs i hp, ⟨hI, hal, hrm, hrow, hr0, hr1⟩, rfl⟩
  | true =>
    obtain ⟨i, hi, rfl⟩ := q_pt_of hp
    obtain ⟨h1, h2, qs, l1, l2, l3, l4⟩ | ⟨h1, h2, h3⟩ := hI.best hi (j := 0) (by decide) lst
    · have l2 : stp (20 * i + 0) = nI qs.length := l2
      have e3 : (if (q_bst (q_lst n fr tt cc on 0 lst) i).2 < 0 then (-9223372036854775808) else -(q_bst (q_lst n fr tt cc on 0 lst) i).1) = -(len (20 * i + 0)) := by
        rw [h2]
        show (if stp (20 * i + 0) < 0 then _ else -(len (20 * i + 0))) = _
        rw [l2, if_neg (q_nI_nn (by omega))]
      exact Or.inr ⟨-(len (20 * i + 0)), (nI 0, row', rl', (q_lst n fr tt cc on 0 lst), (q_bst (q_lst n fr tt cc on 0 lst) i).1, (q_bst (q_lst n fr tt cc on 0 lst) i).2), c_L_earliest_y l D a k ca n al fr tt cc on len stp dir row rm rl q cO g i hi h1, e3 ▸ c_M_earliest_y l D a' k' th n fr tt cc on rm row' rl' lst bl bs i hi hft hn, ⟨hI, hal, hrm, hrow, hr0, hr1⟩, rfl⟩
    · have e3 : (if (q_bst (q_lst n fr tt cc on 0 lst) i).2 < 0 then (-9223372036854775808) else -(q_bst (q_lst n fr tt cc on 0 lst) i).1) = -9223372036854775808 := by
        rw [h3]
        rfl
      exact Or.inr ⟨-9223372036854775808, (nI 0, row', rl', (q_lst n fr tt cc on 0 lst), (q_bst (q_lst n fr tt cc on 0 lst) i).1, (q_bst (q_lst n fr tt cc on 0 lst) i).2), c_L_earliest_f l D a k ca n al fr tt cc on len stp dir row rm rl q cO g i hi h1, e3 ▸ c_M_earliest_y l D a' k' th n fr tt cc on rm row' rl' lst bl bs i hi hft hn, ⟨hI, hal, hrm, hrow, hr0, hr1⟩, rfl⟩

theorem l_thrown : Ct l y_M_thrown b_M_thrown 1 (some .int) 0 0 D (mT k') [.ref (a' 0)] (mS a' k' u v) (mS a' k' u v) (some (.int v.1)) := by
  obtain ⟨n, al, fr, tt, cc, on, len, stp, dir, row, rm, rl⟩ := u
  obtain ⟨th, row', rl', lst, bl, bs⟩ := v
  exact c_M_thrown l D a' k' th n fr tt cc on rm row' rl' lst bl bs 
end JT

def lw_P (b : Addr) (xs : List Int32) (args : Array Value) (s : State) : Prop := args = #[.ref b] ∧ s.IntsAt b xs ∧ xs.length ≤ 2560 ∧ (Jvm.Cond.and given_1 narrow_1).before args s = true
def lw_Q (_ : Array Value) (s : State) (o : Outcome) (t : State) : Prop := o = .returned (some (.int 1)) ∧ Framed s o t [] 601024 7293034
def lw_Z (below : List Frame) (a : Array Value) (s : State) : State → Prop := fun t => ∃ o, t.status = .running ∧ Ended t below o ∧ lw_Q a s o t
/-- the law's own end, with 1 on the stack, nothing written that was there before, its room as the claim has it -/
theorem lw_ret {p : Program} {l : Launch} {e : Env} {s : State} {m : MethodId} {below : List Frame} {meth : Method} {c : Code} {b : Nat} (hx : p.tables.exec = Jvm.exec) (hb : c.code = code) (hr : meth.sig.returnType = ret) (hlocks : meth.locks = false) {pc : Nat} {H : Heap} {ls : Array Slot} (hdg : decode code pc = .ok (.ireturn, 1)) : W p l e room_1 s m #[Value.ref b] below meth c H [] 601024 7293034 (lw_Z below #[Value.ref b] s) (F0 m pc ls [.int 1]) := by
  intro T hT X
  obtain ⟨fs, hret, hrun, hended, hW, hframe⟩ := X.leave (v := some (.int 1)) (hlocks := hlocks) (fun h => by rw [hr] at h; cases h)
  have hmeth' : T.vm.method? m = some meth := X.method'
  refine ⟨T.setFrames fs, ?_, .returned (some (.int 1)), hrun, hended, rfl, ⟨_, rfl⟩, hW, hframe⟩
  jvm_step X.here [X.here.top, hx, hb, hdg, hmeth', hr, ret, narrow_b1]
  (try refine ⟨rfl, ?_⟩); (try refine ⟨rfl, ?_⟩)
  first | (intro acts; rw [hret _ acts rfl rfl rfl]) | rw [hret _ _ rfl rfl rfl]
  exact Steps.refl _
/-- what holds at the law's entry: the machine, the code, the tables' words (any of lw_tbl by 'hts w (by decide +kernel)'), the script of L ints xs at the cell b, what the Statement gives of the start (any of its parts by flat_of_before) -/
def lw_At (p : Program) (s : State) (m : MethodId) (meth : Method) (c : Code) (b L : Nat) (xs : Nat → Int32) : Prop :=
  p.tables.exec = Jvm.exec ∧ c.code = code ∧ meth.sig.returnType = ret ∧ c.maxLocals = 8 ∧ s.vm.findClass R_law = some m.cls ∧ (∀ w ∈ lw_tbl, w.before #[Value.ref b] s = true) ∧ va_X b L xs s s.heap ∧ b < s.heap.size ∧ meth.locks = false ∧ (Jvm.Cond.and given_1 narrow_1).before #[Value.ref b] s = true

/-! the law's world: its array out, the class's world, the model's -/
def q_LW (q : Nat) (cO : ClassId) (g : Nat → Int64) (a : Nat → Nat) (k : Nat → ClassId) (ca : Nat → Nat) (u1 : q_XS) (a' : Nat → Nat) (k' : Nat → ClassId) (u : q_XS) (v : q_MS) : va_W := [q_out q cO g] ++ xS a k ca u1 ++ mS a' k' u v
theorem xS_0 (a : Nat → Nat) (k : Nat → ClassId) (ca : Nat → Nat) (u : q_XS) : ∃ fs : List Value, (xS a k ca u)[0]? = some (a 0, .inr (0, fs)) := by
  obtain ⟨n, al, fr, tt, cc, on, len, stp, dir, row, rm, rl⟩ := u
  exact ⟨_, rfl⟩
theorem mS_0 (a : Nat → Nat) (k : Nat → ClassId) (u : q_XS) (v : q_MS) : ∃ fs : List Value, (mS a k u v)[0]? = some (a 0, .inr (3, fs)) := by
  obtain ⟨n, al, fr, tt, cc, on, len, stp, dir, row, rm, rl⟩ := u
  obtain ⟨th, row', rl', lst, bl, bs⟩ := v
  exact ⟨_, rfl⟩
section LR
variable {p : Program} {l : Launch} {e : Env} {R : Room} {s : State} {m : MethodId} {args : Array Value} {below : List Frame} {meth : Method} {c : Code} {H : Heap} {locs : List Loc} {cells slots : Nat} {Q : State → Prop}
variable {cc : ByteArray} {pc : Nat} {ls : Array Slot} {rest st0 As : List Value} {D : va_G} {A : Nat → Prop} {H0 : Heap}
variable {y : MethodName} {b : ByteArray} {n : Nat} {r : Option FieldType} {f lo na idx nL : Nat} {own : String} {z : Value} {hh : List (Nat × Nat × Nat × Nat)}
variable {q : Nat} {cO : ClassId} {g g1 : Nat → Int64} {a : Nat → Nat} {k : Nat → ClassId} {ca a' : Nat → Nat} {k' : Nat → ClassId} {u u1 : q_XS} {v v1 : q_MS}
theorem w_lawX (S : CallFix p m c cc nL s args lw_g own) (hM : Ct l y b n r f lo D (xT k) (.ref (a 0) :: As) (xS a k ca u) (xS a k ca u1) (some z)) (hm : q_VM y b n r na) (hl : Cond.methodLink own idx y ∈ lw_g) (hR : f + 1 ≤ R.frames ∧ 8 + (n + 11) + lo ≤ R.locals) (hC : R_X = y.cls) (hK : va_K D classes ((cO, .long) :: xT k) s) (hP : va_P D classes (q_LW q cO g a k ca u a' k' u v) H) (hD : va_D A (q_LW q cO g a k ca u a' k' u v)) (hS : va_S A H0 H locs) (hA : ∀ q, H0.size ≤ q → A q)
    (hst : st0 = As.reverse ++ .ref (a 0) :: rest) (hn : As.length = na) (hsz : ls.size = nL) (hW : (rest.map fun v => v.category).sum ≤ 8) (hdg : decode cc pc = .ok (.invokevirtual idx, 3)) (hf : cells ≤ R.cells ∧ slots ≤ R.slots)
    (kk : ∀ (H1 : Heap) (locs1 : List Loc), va_P D classes (q_LW q cO g a k ca u1 a' k' u v) H1 → va_D A (q_LW q cO g a k ca u1 a' k' u v) → va_S A H0 H1 locs1 → W p l e R s m args below meth c H1 locs1 cells slots Q (F0 m (pc + 3) ls (z :: rest))) : W p l e R s m args below meth c H locs cells slots Q (F0 m pc ls st0) := by
  obtain ⟨fs, he⟩ := xS_0 a k ca u
  exact w_callVF (l1 := [q_out q cO g]) (l2 := mS a' k' u v) S hM (w_cwV S.2.2.2.2 hm hl hR) (hK.sub [1, 2, 3, 4, 5] rfl) hP hD hS hA 0 0 he rfl hC hst hn hsz hW hdg hf kk
theorem w_lawM (S : CallFix p m c cc nL s args lw_g own) (hM : Ct l y b n r f lo D (mT k') (.ref (a' 0) :: As) (mS a' k' u v) (mS a' k' u1 v1) (some z)) (hm : q_VM y b n r na) (hl : Cond.methodLink own idx y ∈ lw_g) (hR : f + 1 ≤ R.frames ∧ 8 + (n + 11) + lo ≤ R.locals) (hC : R_M = y.cls) (hK : va_K D classes (mT k') s) (hP : va_P D classes (q_LW q cO g a k ca u1 a' k' u v) H) (hD : va_D A (q_LW q cO g a k ca u1 a' k' u v)) (hS : va_S A H0 H locs) (hA : ∀ q, H0.size ≤ q → A q)
    (hst : st0 = As.reverse ++ .ref (a' 0) :: rest) (hn : As.length = na) (hsz : ls.size = nL) (hW : (rest.map fun v => v.category).sum ≤ 8) (hdg : decode cc pc = .ok (.invokevirtual idx, 3)) (hf : cells ≤ R.cells ∧ slots ≤ R.slots)
    (kk : ∀ (H1 : Heap) (locs1 : List Loc), va_P D classes (q_LW q cO g a k ca u1 a' k' u1 v1) H1 → va_D A (q_LW q cO g a k ca u1 a' k' u1 v1) → va_S A H0 H1 locs1 → W p l e R s m args below meth c H1 locs1 cells slots Q (F0 m (pc + 3) ls (z :: rest))) : W p l e R s m args below meth c H locs cells slots Q (F0 m pc ls st0) := by
  obtain ⟨fs, he⟩ := mS_0 a' k' u v
  refine w_callVF (l1 := [q_out q cO g] ++ xS a k ca u1) (l2 := []) S hM (w_cwV S.2.2.2.2 hm hl hR) hK (by rw [List.append_nil]; exact hP) (by rw [List.append_nil]; exact hD) hS hA 0 3 he rfl hC hst hn hsz hW hdg hf (fun H1 locs1 h1 h2 h3 => ?_)
  rw [List.append_nil] at h1 h2
  exact kk H1 locs1 h1 h2 h3
theorem w_lawB (S : CallFix p m c cc nL s args lw_g own) (hM : CtW l y b n hh D ((cO, .long) :: xT k) As ([q_out q cO g] ++ xS a k ca u) ([q_out q cO g1] ++ xS a k ca u) (some z)) (hm : q_WM y b n hh na) (hl : Cond.methodLink own idx y ∈ lw_g) (hR : 8 + 1 ≤ R.frames ∧ 8 + (n + 11) + 123 ≤ R.locals) (hK : va_K D classes ((cO, .long) :: xT k) s) (hP : va_P D classes (q_LW q cO g a k ca u a' k' u v) H) (hD : va_D A (q_LW q cO g a k ca u a' k' u v)) (hS : va_S A H0 H locs) (hA : ∀ q, H0.size ≤ q → A q)
    (hst : st0 = As.reverse ++ rest) (hn : As.length = na) (hsz : ls.size = nL) (hW : (rest.map fun v => v.category).sum ≤ 8) (hdg : decode cc pc = .ok (.invokestatic idx, 3)) (hf : cells ≤ R.cells ∧ slots ≤ R.slots)
    (kk : ∀ (H1 : Heap) (locs1 : List Loc), va_P D classes (q_LW q cO g1 a k ca u a' k' u v) H1 → va_D A (q_LW q cO g1 a k ca u a' k' u v) → va_S A H0 H1 locs1 → W p l e R s m args below meth c H1 locs1 cells slots Q (F0 m (pc + 3) ls (z :: rest))) : W p l e R s m args below meth c H locs cells slots Q (F0 m pc ls st0) :=
  w_callSW (l1 := []) (l2 := mS a' k' u v) S hM hm hl hR hK hP hD hS hA hst hn hsz hW hdg hf kk
theorem w_lawT (S : CallFix p m c cc nL s args lw_g own) (hM : CT l y b n hh (a 0) As) (hm : q_WM y b n hh na) (hl : Cond.methodLink own idx y ∈ lw_g) (hR : 8 + 1 ≤ R.frames ∧ 8 + (n + 11) + 123 ≤ R.locals) (hK : va_K D classes ((cO, .long) :: xT k) s) (hTA : q_TA s) (hP : va_P D classes (q_LW q cO g a k ca u a' k' u v) H) (hS : va_S (fun q => s.heap.size ≤ q) s.heap H locs)
    (hst : st0 = As.reverse ++ rest) (hn : As.length = na) (hsz : ls.size = nL) (hW : (rest.map fun v => v.category).sum ≤ 8) (hdg : decode cc pc = .ok (.invokestatic idx, 3)) (hf : cells + 1 ≤ R.cells ∧ slots + 6 ≤ R.slots)
    (kk : ∀ (H1 : Heap), va_P D classes (q_LW q cO g a k ca u a' k' u v) H1 → va_S (fun q => s.heap.size ≤ q) s.heap H1 locs → W p l e R s m args below meth c H1 locs (cells + 1) (slots + 6) Q (F0 m (pc + 3) ls (.int 1 :: rest))) : W p l e R s m args below meth c H locs cells slots Q (F0 m pc ls st0) := by
  obtain ⟨fs, he⟩ := xS_0 a k ca u
  have he1 : (q_LW q cO g a k ca u a' k' u v)[1]? = some (a 0, .inr (0, fs)) := by
    have hl := (List.getElem?_eq_some_iff.mp he).1
    show (q_out q cO g :: (xS a k ca u ++ mS a' k' u v))[1]? = _
    rw [List.getElem?_cons_succ, List.getElem?_append_left hl]
    exact he
  exact w_callST S hM hm hl hR (fun U hU hW => hTA.moved hW (fun q hq => by rw [hU]; exact hS.2.1 q hq (Nat.not_le.mpr hq))) (va_recv hK hP (ci := 0) rfl he1) hP hS hst hn hsz hW hdg hf kk
end LR
end
section
section LC
variable {p : Program} {l : Launch} {e : Env} {s : State} {m : MethodId} {below : List Frame} {meth : Method} {c : Code} {H : Heap} {locs : List Loc} {cells slots : Nat} {Q : State → Prop} {b L : Nat} {xs : Nat → Int32} {D : va_G}
variable {ls : Array Slot} {q : Nat} {cO : ClassId} {g : Nat → Int64} {a : Nat → Nat} {k : Nat → ClassId} {ca a' : Nat → Nat} {k' : Nat → ClassId} {u : q_XS} {v : q_MS} {i : Nat}
/-- what a round of the law's loop ends with -/
def q_KK (p : Program) (l : Launch) (e : Env) (s : State) (m : MethodId) (below : List Frame) (meth : Method) (c : Code) (b : Nat) (D : va_G) (q : Nat) (cO : ClassId) (a : Nat → Nat) (k : Nat → ClassId) (ca a' : Nat → Nat) (k' : Nat → ClassId) (i cells slots : Nat) (Q : State → Prop) : Prop :=
  ∀ (g : Nat → Int64) (u : q_XS) (v : q_MS) (H : Heap) (locs : List Loc) (ls : Array Slot), q_R u v → va_P D classes (q_LW q cO g a k ca u a' k' u v) H → va_D (fun q1 : Nat => s.heap.size ≤ q1) (q_LW q cO g a k ca u a' k' u v) → va_S (fun q1 : Nat => s.heap.size ≤ q1) s.heap H locs → lv_has ls 8 [(4, .int (nI i)), (3, .ref q), (2, .ref (a' 0)), (1, .ref (a 0)), (0, .ref b)] →
    W p l e room_1 s m #[Value.ref b] below meth c H locs cells slots Q (F0 m 518 ls [])

set_option maxHeartbeats 4000000 in
set_option maxRecDepth 100000 in
/-- case 0: add -/
theorem law_c0 (htl : l.stackTraces = false) (hL : L ≤ 2560) (C0 : lw_At p s m meth c b L xs) (hK1 : va_K D classes ((cO, .long) :: xT k) s) (hK2 : va_K D classes (mT k') s) (hTA : q_TA s) (hi : i + 5 ≤ L) (hR : q_R u v) (hP : va_P D classes (q_LW q cO g a k ca u a' k' u v) H) (hD : va_D (fun q1 : Nat => s.heap.size ≤ q1) (q_LW q cO g a k ca u a' k' u v)) (hS : va_S (fun q1 : Nat => s.heap.size ≤ q1) s.heap H locs) (hl : lv_has ls 8 [(4, .int (nI i)), (3, .ref q), (2, .ref (a' 0)), (1, .ref (a 0)), (0, .ref b)]) (hc : cells + 1 ≤ room_1.cells ∧ slots + 6 ≤ room_1.slots) (kk : q_KK p l e s m below meth c b D q cO a k ca a' k' i (cells + 1) (slots + 6) Q) : W p l e room_1 s m #[Value.ref b] below meth c H locs cells slots Q (F0 m 100 ls []) := by
  obtain ⟨hx, hb, hr, hml, hown, hts, hX, hbl, hlocks, hgv⟩ := C0
  have hT : ∀ w ∈ lw_g, w.before #[Value.ref b] s = true := fun w hw => hts w (lw_g_in w hw)
  have hbA : ¬ s.heap.size ≤ b := Nat.not_le.mpr hbl
  have hA : ∀ q1, s.heap.size ≤ q1 → s.heap.size ≤ q1 := fun _ h => h
  have hc0 : cells ≤ room_1.cells ∧ slots ≤ room_1.slots := ⟨Nat.le_trans (Nat.le_add_right _ _) hc.1, Nat.le_trans (Nat.le_add_right _ _) hc.2⟩
  obtain ⟨z, u1, v1, c1, c2, hR1⟩ := l_add l D a k ca a' k' u v hR (xs (i + 1)) (xs (i + 2)) ((xs (i + 3)).toInt64 <<< ((nI 32).toInt64 &&& 63) ||| (xs (i + 4)).toInt64 &&& 4294967295)
  refine lv_aload_n hx hb d_L_law_100 rfl (lv_at hl 3 rfl) ?_
  refine lv_aload_n hx hb d_L_law_101 rfl (lv_at hl 4 rfl) ?_
  refine lv_iload hx hb d_L_law_102 (lv_at hl 0 rfl) ?_
  refine lv_iconst (v := nI 1) hx hb d_L_law_104 (by decide) ?_
  refine w_iadd hx hb d_L_law_105 ?_
  refine va_sld hx hb hX hbl hbA hS (vp_in_nI (by omega) (by omega)) d_L_law_106 ?_
  refine w_top (y := .int (xs (i + 1))) (by rw [nI_clamp (by omega)]) ?_
  refine lv_aload_n hx hb d_L_law_107 rfl (lv_at hl 4 rfl) ?_
  refine lv_iload hx hb d_L_law_108 (lv_at hl 0 rfl) ?_
  refine lv_iconst (v := nI 2) hx hb d_L_law_110 (by decide) ?_
  refine w_iadd hx hb d_L_law_111 ?_
  refine va_sld hx hb hX hbl hbA hS (vp_in_nI (by omega) (by omega)) d_L_law_112 ?_
  refine w_top (y := .int (xs (i + 2))) (by rw [nI_clamp (by omega)]) ?_
  refine lv_aload_n hx hb d_L_law_113 rfl (lv_at hl 4 rfl) ?_
  refine lv_iload hx hb d_L_law_114 (lv_at hl 0 rfl) ?_
  refine lv_iconst (v := nI 3) hx hb d_L_law_116 (by decide) ?_
  refine w_iadd hx hb d_L_law_117 ?_
  refine va_sld hx hb hX hbl hbA hS (vp_in_nI (by omega) (by omega)) d_L_law_118 ?_
  refine w_top (y := .int (xs (i + 3))) (by rw [nI_clamp (by omega)]) ?_
  refine lv_i2l hx hb d_L_law_119 rfl ?_
  refine lv_bipush (v := nI 32) hx hb d_L_law_120 (by decide) ?_
  refine lv_lshl hx hb d_L_law_122 rfl ?_
  refine lv_aload_n hx hb d_L_law_123 rfl (lv_at hl 4 rfl) ?_
  refine lv_iload hx hb d_L_law_124 (lv_at hl 0 rfl) ?_
  refine lv_iconst (v := nI 4) hx hb d_L_law_126 (by decide) ?_
  refine w_iadd hx hb d_L_law_127 ?_
  refine va_sld hx hb hX hbl hbA hS (vp_in_nI (by omega) (by omega)) d_L_law_128 ?_
  refine w_top (y := .int (xs (i + 4))) (by rw [nI_clamp (by omega)]) ?_
  refine lv_i2l hx hb d_L_law_129 rfl ?_
  refine lv_ldc2 (v := 4294967295) hx hb hown (hT _ tb_385) d_L_law_130 ?_
  refine lv_land hx hb d_L_law_133 ?_
  refine lv_lor hx hb d_L_law_134 ?_
  refine w_lawX (As := [.int (xs (i + 1)), .int (xs (i + 2)), .long ((xs (i + 3)).toInt64 <<< ((nI 32).toInt64 &&& 63) ||| (xs (i + 4)).toInt64 &&& 4294967295)]) (rest := []) ⟨hx, hb, hml, hown, hT⟩ c1 ms_X_add tb_113 ⟨by decide, by decide⟩ rfl hK1 hP hD hS hA rfl rfl hl.1 (Nat.le_of_ble_eq_true rfl) d_L_law_135 hc0 (fun H locs hP hD hS => ?_)
  refine lv_aload_n hx hb d_L_law_138 rfl (lv_at hl 2 rfl) ?_
  refine lv_aload_n hx hb d_L_law_139 rfl (lv_at hl 4 rfl) ?_
  refine lv_iload hx hb d_L_law_140 (lv_at hl 0 rfl) ?_
  refine lv_iconst (v := nI 1) hx hb d_L_law_142 (by decide) ?_
  refine w_iadd hx hb d_L_law_143 ?_
  refine va_sld hx hb hX hbl hbA hS (vp_in_nI (by omega) (by omega)) d_L_law_144 ?_
  refine w_top (y := .int (xs (i + 1))) (by rw [nI_clamp (by omega)]) ?_
  refine lv_aload_n hx hb d_L_law_145 rfl (lv_at hl 4 rfl) ?_
  refine lv_iload hx hb d_L_law_146 (lv_at hl 0 rfl) ?_
  refine lv_iconst (v := nI 2) hx hb d_L_law_148 (by decide) ?_
  refine w_iadd hx hb d_L_law_149 ?_
  refine va_sld hx hb hX hbl hbA hS (vp_in_nI (by omega) (by omega)) d_L_law_150 ?_
  refine w_top (y := .int (xs (i + 2))) (by rw [nI_clamp (by omega)]) ?_
  refine lv_aload_n hx hb d_L_law_151 rfl (lv_at hl 4 rfl) ?_
  refine lv_iload hx hb d_L_law_152 (lv_at hl 0 rfl) ?_
  refine lv_iconst (v := nI 3) hx hb d_L_law_154 (by decide) ?_
  refine w_iadd hx hb d_L_law_155 ?_
  refine va_sld hx hb hX hbl hbA hS (vp_in_nI (by omega) (by omega)) d_L_law_156 ?_
  refine w_top (y := .int (xs (i + 3))) (by rw [nI_clamp (by omega)]) ?_
  refine lv_i2l hx hb d_L_law_157 rfl ?_
  refine lv_bipush (v := nI 32) hx hb d_L_law_158 (by decide) ?_
  refine lv_lshl hx hb d_L_law_160 rfl ?_
  refine lv_aload_n hx hb d_L_law_161 rfl (lv_at hl 4 rfl) ?_
  refine lv_iload hx hb d_L_law_162 (lv_at hl 0 rfl) ?_
  refine lv_iconst (v := nI 4) hx hb d_L_law_164 (by decide) ?_
  refine w_iadd hx hb d_L_law_165 ?_
  refine va_sld hx hb hX hbl hbA hS (vp_in_nI (by omega) (by omega)) d_L_law_166 ?_
  refine w_top (y := .int (xs (i + 4))) (by rw [nI_clamp (by omega)]) ?_
  refine lv_i2l hx hb d_L_law_167 rfl ?_
  refine lv_ldc2 (v := 4294967295) hx hb hown (hT _ tb_385) d_L_law_168 ?_
  refine lv_land hx hb d_L_law_171 ?_
  refine lv_lor hx hb d_L_law_172 ?_
  refine w_lawM (As := [.int (xs (i + 1)), .int (xs (i + 2)), .long ((xs (i + 3)).toInt64 <<< ((nI 32).toInt64 &&& 63) ||| (xs (i + 4)).toInt64 &&& 4294967295)]) (rest := [.int z]) ⟨hx, hb, hml, hown, hT⟩ c2 ms_M_add tb_309 ⟨by decide, by decide⟩ rfl hK2 hP hD hS hA rfl rfl hl.1 (Nat.le_of_ble_eq_true rfl) d_L_law_173 hc0 (fun H locs hP hD hS => ?_)
  refine lv_icmp_eq (tgt := 518) hx hb d_L_law_176 (by decide) (fun _ => ?_) (fun h9 => absurd rfl h9)
  exact W.widen (Nat.le_add_right _ _) (Nat.le_add_right _ _) (kk _ _ _ _ _ _ hR1 hP hD hS hl)

set_option maxHeartbeats 4000000 in
set_option maxRecDepth 100000 in
/-- case 1: off -/
theorem law_c1 (htl : l.stackTraces = false) (hL : L ≤ 2560) (C0 : lw_At p s m meth c b L xs) (hK1 : va_K D classes ((cO, .long) :: xT k) s) (hK2 : va_K D classes (mT k') s) (hTA : q_TA s) (hi : i + 5 ≤ L) (hR : q_R u v) (hP : va_P D classes (q_LW q cO g a k ca u a' k' u v) H) (hD : va_D (fun q1 : Nat => s.heap.size ≤ q1) (q_LW q cO g a k ca u a' k' u v)) (hS : va_S (fun q1 : Nat => s.heap.size ≤ q1) s.heap H locs) (hl : lv_has ls 8 [(4, .int (nI i)), (3, .ref q), (2, .ref (a' 0)), (1, .ref (a 0)), (0, .ref b)]) (hc : cells + 1 ≤ room_1.cells ∧ slots + 6 ≤ room_1.slots) (kk : q_KK p l e s m below meth c b D q cO a k ca a' k' i (cells + 1) (slots + 6) Q) : W p l e room_1 s m #[Value.ref b] below meth c H locs cells slots Q (F0 m 181 ls []) := by
  obtain ⟨hx, hb, hr, hml, hown, hts, hX, hbl, hlocks, hgv⟩ := C0
  have hT : ∀ w ∈ lw_g, w.before #[Value.ref b] s = true := fun w hw => hts w (lw_g_in w hw)
  have hbA : ¬ s.heap.size ≤ b := Nat.not_le.mpr hbl
  have hA : ∀ q1, s.heap.size ≤ q1 → s.heap.size ≤ q1 := fun _ h => h
  have hc0 : cells ≤ room_1.cells ∧ slots ≤ room_1.slots := ⟨Nat.le_trans (Nat.le_add_right _ _) hc.1, Nat.le_trans (Nat.le_add_right _ _) hc.2⟩
  obtain ⟨z, u1, v1, c1, c2, hR1⟩ := l_off l D a k ca a' k' u v hR (xs (i + 1))
  refine lv_aload_n hx hb d_L_law_181 rfl (lv_at hl 3 rfl) ?_
  refine lv_aload_n hx hb d_L_law_182 rfl (lv_at hl 4 rfl) ?_
  refine lv_iload hx hb d_L_law_183 (lv_at hl 0 rfl) ?_
  refine lv_iconst (v := nI 1) hx hb d_L_law_185 (by decide) ?_
  refine w_iadd hx hb d_L_law_186 ?_
  refine va_sld hx hb hX hbl hbA hS (vp_in_nI (by omega) (by omega)) d_L_law_187 ?_
  refine w_top (y := .int (xs (i + 1))) (by rw [nI_clamp (by omega)]) ?_
  refine w_lawX (As := [.int (xs (i + 1))]) (rest := []) ⟨hx, hb, hml, hown, hT⟩ c1 ms_X_off tb_143 ⟨by decide, by decide⟩ rfl hK1 hP hD hS hA rfl rfl hl.1 (Nat.le_of_ble_eq_true rfl) d_L_law_188 hc0 (fun H locs hP hD hS => ?_)
  refine lv_aload_n hx hb d_L_law_191 rfl (lv_at hl 2 rfl) ?_
  refine lv_aload_n hx hb d_L_law_192 rfl (lv_at hl 4 rfl) ?_
  refine lv_iload hx hb d_L_law_193 (lv_at hl 0 rfl) ?_
  refine lv_iconst (v := nI 1) hx hb d_L_law_195 (by decide) ?_
  refine w_iadd hx hb d_L_law_196 ?_
  refine va_sld hx hb hX hbl hbA hS (vp_in_nI (by omega) (by omega)) d_L_law_197 ?_
  refine w_top (y := .int (xs (i + 1))) (by rw [nI_clamp (by omega)]) ?_
  refine w_lawM (As := [.int (xs (i + 1))]) (rest := [.int z]) ⟨hx, hb, hml, hown, hT⟩ c2 ms_M_off tb_335 ⟨by decide, by decide⟩ rfl hK2 hP hD hS hA rfl rfl hl.1 (Nat.le_of_ble_eq_true rfl) d_L_law_198 hc0 (fun H locs hP hD hS => ?_)
  refine lv_icmp_eq (tgt := 518) hx hb d_L_law_201 (by decide) (fun _ => ?_) (fun h9 => absurd rfl h9)
  exact W.widen (Nat.le_add_right _ _) (Nat.le_add_right _ _) (kk _ _ _ _ _ _ hR1 hP hD hS hl)

set_option maxHeartbeats 4000000 in
set_option maxRecDepth 100000 in
/-- case 2: on -/
theorem law_c2 (htl : l.stackTraces = false) (hL : L ≤ 2560) (C0 : lw_At p s m meth c b L xs) (hK1 : va_K D classes ((cO, .long) :: xT k) s) (hK2 : va_K D classes (mT k') s) (hTA : q_TA s) (hi : i + 5 ≤ L) (hR : q_R u v) (hP : va_P D classes (q_LW q cO g a k ca u a' k' u v) H) (hD : va_D (fun q1 : Nat => s.heap.size ≤ q1) (q_LW q cO g a k ca u a' k' u v)) (hS : va_S (fun q1 : Nat => s.heap.size ≤ q1) s.heap H locs) (hl : lv_has ls 8 [(4, .int (nI i)), (3, .ref q), (2, .ref (a' 0)), (1, .ref (a 0)), (0, .ref b)]) (hc : cells + 1 ≤ room_1.cells ∧ slots + 6 ≤ room_1.slots) (kk : q_KK p l e s m below meth c b D q cO a k ca a' k' i (cells + 1) (slots + 6) Q) : W p l e room_1 s m #[Value.ref b] below meth c H locs cells slots Q (F0 m 206 ls []) := by
  obtain ⟨hx, hb, hr, hml, hown, hts, hX, hbl, hlocks, hgv⟩ := C0
  have hT : ∀ w ∈ lw_g, w.before #[Value.ref b] s = true := fun w hw => hts w (lw_g_in w hw)
  have hbA : ¬ s.heap.size ≤ b := Nat.not_le.mpr hbl
  have hA : ∀ q1, s.heap.size ≤ q1 → s.heap.size ≤ q1 := fun _ h => h
  have hc0 : cells ≤ room_1.cells ∧ slots ≤ room_1.slots := ⟨Nat.le_trans (Nat.le_add_right _ _) hc.1, Nat.le_trans (Nat.le_add_right _ _) hc.2⟩
  obtain ⟨z, u1, v1, c1, c2, hR1⟩ := l_on l D a k ca a' k' u v hR (xs (i + 1))
  refine lv_aload_n hx hb d_L_law_206 rfl (lv_at hl 3 rfl) ?_
  refine lv_aload_n hx hb d_L_law_207 rfl (lv_at hl 4 rfl) ?_
  refine lv_iload hx hb d_L_law_208 (lv_at hl 0 rfl) ?_
  refine lv_iconst (v := nI 1) hx hb d_L_law_210 (by decide) ?_
  refine w_iadd hx hb d_L_law_211 ?_
  refine va_sld hx hb hX hbl hbA hS (vp_in_nI (by omega) (by omega)) d_L_law_212 ?_
  refine w_top (y := .int (xs (i + 1))) (by rw [nI_clamp (by omega)]) ?_
  refine w_lawX (As := [.int (xs (i + 1))]) (rest := []) ⟨hx, hb, hml, hown, hT⟩ c1 ms_X_on tb_147 ⟨by decide, by decide⟩ rfl hK1 hP hD hS hA rfl rfl hl.1 (Nat.le_of_ble_eq_true rfl) d_L_law_213 hc0 (fun H locs hP hD hS => ?_)
  refine lv_aload_n hx hb d_L_law_216 rfl (lv_at hl 2 rfl) ?_
  refine lv_aload_n hx hb d_L_law_217 rfl (lv_at hl 4 rfl) ?_
  refine lv_iload hx hb d_L_law_218 (lv_at hl 0 rfl) ?_
  refine lv_iconst (v := nI 1) hx hb d_L_law_220 (by decide) ?_
  refine w_iadd hx hb d_L_law_221 ?_
  refine va_sld hx hb hX hbl hbA hS (vp_in_nI (by omega) (by omega)) d_L_law_222 ?_
  refine w_top (y := .int (xs (i + 1))) (by rw [nI_clamp (by omega)]) ?_
  refine w_lawM (As := [.int (xs (i + 1))]) (rest := [.int z]) ⟨hx, hb, hml, hown, hT⟩ c2 ms_M_on tb_343 ⟨by decide, by decide⟩ rfl hK2 hP hD hS hA rfl rfl hl.1 (Nat.le_of_ble_eq_true rfl) d_L_law_223 hc0 (fun H locs hP hD hS => ?_)
  refine lv_icmp_eq (tgt := 518) hx hb d_L_law_226 (by decide) (fun _ => ?_) (fun h9 => absurd rfl h9)
  exact W.widen (Nat.le_add_right _ _) (Nat.le_add_right _ _) (kk _ _ _ _ _ _ hR1 hP hD hS hl)

set_option maxHeartbeats 4000000 in
set_option maxRecDepth 100000 in
/-- case 4: steps -/
theorem law_c4 (htl : l.stackTraces = false) (hL : L ≤ 2560) (C0 : lw_At p s m meth c b L xs) (hK1 : va_K D classes ((cO, .long) :: xT k) s) (hK2 : va_K D classes (mT k') s) (hTA : q_TA s) (hi : i + 5 ≤ L) (hR : q_R u v) (hP : va_P D classes (q_LW q cO g a k ca u a' k' u v) H) (hD : va_D (fun q1 : Nat => s.heap.size ≤ q1) (q_LW q cO g a k ca u a' k' u v)) (hS : va_S (fun q1 : Nat => s.heap.size ≤ q1) s.heap H locs) (hl : lv_has ls 8 [(4, .int (nI i)), (3, .ref q), (2, .ref (a' 0)), (1, .ref (a 0)), (0, .ref b)]) (hc : cells + 1 ≤ room_1.cells ∧ slots + 6 ≤ room_1.slots) (kk : q_KK p l e s m below meth c b D q cO a k ca a' k' i (cells + 1) (slots + 6) Q) : W p l e room_1 s m #[Value.ref b] below meth c H locs cells slots Q (F0 m 298 ls []) := by
  obtain ⟨hx, hb, hr, hml, hown, hts, hX, hbl, hlocks, hgv⟩ := C0
  have hT : ∀ w ∈ lw_g, w.before #[Value.ref b] s = true := fun w hw => hts w (lw_g_in w hw)
  have hbA : ¬ s.heap.size ≤ b := Nat.not_le.mpr hbl
  have hA : ∀ q1, s.heap.size ≤ q1 → s.heap.size ≤ q1 := fun _ h => h
  have hc0 : cells ≤ room_1.cells ∧ slots ≤ room_1.slots := ⟨Nat.le_trans (Nat.le_add_right _ _) hc.1, Nat.le_trans (Nat.le_add_right _ _) hc.2⟩
  obtain ⟨z, u1, v1, c1, c2, hR1⟩ := l_steps l D a k ca a' k' u v hR (xs (i + 1)) (xs (i + 2))
  refine lv_aload_n hx hb d_L_law_298 rfl (lv_at hl 3 rfl) ?_
  refine lv_aload_n hx hb d_L_law_299 rfl (lv_at hl 4 rfl) ?_
  refine lv_iload hx hb d_L_law_300 (lv_at hl 0 rfl) ?_
  refine lv_iconst (v := nI 1) hx hb d_L_law_302 (by decide) ?_
  refine w_iadd hx hb d_L_law_303 ?_
  refine va_sld hx hb hX hbl hbA hS (vp_in_nI (by omega) (by omega)) d_L_law_304 ?_
  refine w_top (y := .int (xs (i + 1))) (by rw [nI_clamp (by omega)]) ?_
  refine lv_aload_n hx hb d_L_law_305 rfl (lv_at hl 4 rfl) ?_
  refine lv_iload hx hb d_L_law_306 (lv_at hl 0 rfl) ?_
  refine lv_iconst (v := nI 2) hx hb d_L_law_308 (by decide) ?_
  refine w_iadd hx hb d_L_law_309 ?_
  refine va_sld hx hb hX hbl hbA hS (vp_in_nI (by omega) (by omega)) d_L_law_310 ?_
  refine w_top (y := .int (xs (i + 2))) (by rw [nI_clamp (by omega)]) ?_
  refine w_lawX (As := [.int (xs (i + 1)), .int (xs (i + 2))]) (rest := []) ⟨hx, hb, hml, hown, hT⟩ c1 ms_X_steps tb_151 ⟨by decide, by decide⟩ rfl hK1 hP hD hS hA rfl rfl hl.1 (Nat.le_of_ble_eq_true rfl) d_L_law_311 hc0 (fun H locs hP hD hS => ?_)
  refine lv_aload_n hx hb d_L_law_314 rfl (lv_at hl 2 rfl) ?_
  refine lv_aload_n hx hb d_L_law_315 rfl (lv_at hl 4 rfl) ?_
  refine lv_iload hx hb d_L_law_316 (lv_at hl 0 rfl) ?_
  refine lv_iconst (v := nI 1) hx hb d_L_law_318 (by decide) ?_
  refine w_iadd hx hb d_L_law_319 ?_
  refine va_sld hx hb hX hbl hbA hS (vp_in_nI (by omega) (by omega)) d_L_law_320 ?_
  refine w_top (y := .int (xs (i + 1))) (by rw [nI_clamp (by omega)]) ?_
  refine lv_aload_n hx hb d_L_law_321 rfl (lv_at hl 4 rfl) ?_
  refine lv_iload hx hb d_L_law_322 (lv_at hl 0 rfl) ?_
  refine lv_iconst (v := nI 2) hx hb d_L_law_324 (by decide) ?_
  refine w_iadd hx hb d_L_law_325 ?_
  refine va_sld hx hb hX hbl hbA hS (vp_in_nI (by omega) (by omega)) d_L_law_326 ?_
  refine w_top (y := .int (xs (i + 2))) (by rw [nI_clamp (by omega)]) ?_
  refine w_lawM (As := [.int (xs (i + 1)), .int (xs (i + 2))]) (rest := [.int z]) ⟨hx, hb, hml, hown, hT⟩ c2 ms_M_steps tb_351 ⟨by decide, by decide⟩ rfl hK2 hP hD hS hA rfl rfl hl.1 (Nat.le_of_ble_eq_true rfl) d_L_law_327 hc0 (fun H locs hP hD hS => ?_)
  refine lv_icmp_eq (tgt := 518) hx hb d_L_law_330 (by decide) (fun _ => ?_) (fun h9 => absurd rfl h9)
  exact W.widen (Nat.le_add_right _ _) (Nat.le_add_right _ _) (kk _ _ _ _ _ _ hR1 hP hD hS hl)

set_option maxHeartbeats 4000000 in
set_option maxRecDepth 100000 in
/-- case 5: path -/
theorem law_c5 (htl : l.stackTraces = false) (hL : L ≤ 2560) (C0 : lw_At p s m meth c b L xs) (hK1 : va_K D classes ((cO, .long) :: xT k) s) (hK2 : va_K D classes (mT k') s) (hTA : q_TA s) (hi : i + 5 ≤ L) (hR : q_R u v) (hP : va_P D classes (q_LW q cO g a k ca u a' k' u v) H) (hD : va_D (fun q1 : Nat => s.heap.size ≤ q1) (q_LW q cO g a k ca u a' k' u v)) (hS : va_S (fun q1 : Nat => s.heap.size ≤ q1) s.heap H locs) (hl : lv_has ls 8 [(4, .int (nI i)), (3, .ref q), (2, .ref (a' 0)), (1, .ref (a 0)), (0, .ref b)]) (hc : cells + 1 ≤ room_1.cells ∧ slots + 6 ≤ room_1.slots) (kk : q_KK p l e s m below meth c b D q cO a k ca a' k' i (cells + 1) (slots + 6) Q) : W p l e room_1 s m #[Value.ref b] below meth c H locs cells slots Q (F0 m 335 ls []) := by
  obtain ⟨hx, hb, hr, hml, hown, hts, hX, hbl, hlocks, hgv⟩ := C0
  have hT : ∀ w ∈ lw_g, w.before #[Value.ref b] s = true := fun w hw => hts w (lw_g_in w hw)
  have hbA : ¬ s.heap.size ≤ b := Nat.not_le.mpr hbl
  have hA : ∀ q1, s.heap.size ≤ q1 → s.heap.size ≤ q1 := fun _ h => h
  have hc0 : cells ≤ room_1.cells ∧ slots ≤ room_1.slots := ⟨Nat.le_trans (Nat.le_add_right _ _) hc.1, Nat.le_trans (Nat.le_add_right _ _) hc.2⟩
  obtain ⟨z, u1, v1, c1, c2, hR1⟩ := l_path l D a k ca a' k' u v hR (xs (i + 1)) (xs (i + 2))
  refine lv_aload_n hx hb d_L_law_335 rfl (lv_at hl 3 rfl) ?_
  refine lv_aload_n hx hb d_L_law_336 rfl (lv_at hl 4 rfl) ?_
  refine lv_iload hx hb d_L_law_337 (lv_at hl 0 rfl) ?_
  refine lv_iconst (v := nI 1) hx hb d_L_law_339 (by decide) ?_
  refine w_iadd hx hb d_L_law_340 ?_
  refine va_sld hx hb hX hbl hbA hS (vp_in_nI (by omega) (by omega)) d_L_law_341 ?_
  refine w_top (y := .int (xs (i + 1))) (by rw [nI_clamp (by omega)]) ?_
  refine lv_aload_n hx hb d_L_law_342 rfl (lv_at hl 4 rfl) ?_
  refine lv_iload hx hb d_L_law_343 (lv_at hl 0 rfl) ?_
  refine lv_iconst (v := nI 2) hx hb d_L_law_345 (by decide) ?_
  refine w_iadd hx hb d_L_law_346 ?_
  refine va_sld hx hb hX hbl hbA hS (vp_in_nI (by omega) (by omega)) d_L_law_347 ?_
  refine w_top (y := .int (xs (i + 2))) (by rw [nI_clamp (by omega)]) ?_
  refine w_lawX (As := [.int (xs (i + 1)), .int (xs (i + 2))]) (rest := []) ⟨hx, hb, hml, hown, hT⟩ c1 ms_X_path tb_155 ⟨by decide, by decide⟩ rfl hK1 hP hD hS hA rfl rfl hl.1 (Nat.le_of_ble_eq_true rfl) d_L_law_348 hc0 (fun H locs hP hD hS => ?_)
  refine lv_aload_n hx hb d_L_law_351 rfl (lv_at hl 2 rfl) ?_
  refine lv_aload_n hx hb d_L_law_352 rfl (lv_at hl 4 rfl) ?_
  refine lv_iload hx hb d_L_law_353 (lv_at hl 0 rfl) ?_
  refine lv_iconst (v := nI 1) hx hb d_L_law_355 (by decide) ?_
  refine w_iadd hx hb d_L_law_356 ?_
  refine va_sld hx hb hX hbl hbA hS (vp_in_nI (by omega) (by omega)) d_L_law_357 ?_
  refine w_top (y := .int (xs (i + 1))) (by rw [nI_clamp (by omega)]) ?_
  refine lv_aload_n hx hb d_L_law_358 rfl (lv_at hl 4 rfl) ?_
  refine lv_iload hx hb d_L_law_359 (lv_at hl 0 rfl) ?_
  refine lv_iconst (v := nI 2) hx hb d_L_law_361 (by decide) ?_
  refine w_iadd hx hb d_L_law_362 ?_
  refine va_sld hx hb hX hbl hbA hS (vp_in_nI (by omega) (by omega)) d_L_law_363 ?_
  refine w_top (y := .int (xs (i + 2))) (by rw [nI_clamp (by omega)]) ?_
  refine w_lawM (As := [.int (xs (i + 1)), .int (xs (i + 2))]) (rest := [.int z]) ⟨hx, hb, hml, hown, hT⟩ c2 ms_M_path tb_355 ⟨by decide, by decide⟩ rfl hK2 hP hD hS hA rfl rfl hl.1 (Nat.le_of_ble_eq_true rfl) d_L_law_364 hc0 (fun H locs hP hD hS => ?_)
  refine lv_icmp_eq (tgt := 518) hx hb d_L_law_367 (by decide) (fun _ => ?_) (fun h9 => absurd rfl h9)
  exact W.widen (Nat.le_add_right _ _) (Nat.le_add_right _ _) (kk _ _ _ _ _ _ hR1 hP hD hS hl)

set_option maxHeartbeats 4000000 in
set_option maxRecDepth 100000 in
/-- case 6: row -/
theorem law_c6 (htl : l.stackTraces = false) (hL : L ≤ 2560) (C0 : lw_At p s m meth c b L xs) (hK1 : va_K D classes ((cO, .long) :: xT k) s) (hK2 : va_K D classes (mT k') s) (hTA : q_TA s) (hi : i + 5 ≤ L) (hR : q_R u v) (hP : va_P D classes (q_LW q cO g a k ca u a' k' u v) H) (hD : va_D (fun q1 : Nat => s.heap.size ≤ q1) (q_LW q cO g a k ca u a' k' u v)) (hS : va_S (fun q1 : Nat => s.heap.size ≤ q1) s.heap H locs) (hl : lv_has ls 8 [(4, .int (nI i)), (3, .ref q), (2, .ref (a' 0)), (1, .ref (a 0)), (0, .ref b)]) (hc : cells + 1 ≤ room_1.cells ∧ slots + 6 ≤ room_1.slots) (kk : q_KK p l e s m below meth c b D q cO a k ca a' k' i (cells + 1) (slots + 6) Q) : W p l e room_1 s m #[Value.ref b] below meth c H locs cells slots Q (F0 m 372 ls []) := by
  obtain ⟨hx, hb, hr, hml, hown, hts, hX, hbl, hlocks, hgv⟩ := C0
  have hT : ∀ w ∈ lw_g, w.before #[Value.ref b] s = true := fun w hw => hts w (lw_g_in w hw)
  have hbA : ¬ s.heap.size ≤ b := Nat.not_le.mpr hbl
  have hA : ∀ q1, s.heap.size ≤ q1 → s.heap.size ≤ q1 := fun _ h => h
  have hc0 : cells ≤ room_1.cells ∧ slots ≤ room_1.slots := ⟨Nat.le_trans (Nat.le_add_right _ _) hc.1, Nat.le_trans (Nat.le_add_right _ _) hc.2⟩
  obtain ⟨z, u1, v1, c1, c2, hR1⟩ := l_row l D a k ca a' k' u v hR 
  refine lv_aload_n hx hb d_L_law_372 rfl (lv_at hl 3 rfl) ?_
  refine w_lawX (As := []) (rest := []) ⟨hx, hb, hml, hown, hT⟩ c1 ms_X_row tb_160 ⟨by decide, by decide⟩ rfl hK1 hP hD hS hA rfl rfl hl.1 (Nat.le_of_ble_eq_true rfl) d_L_law_373 hc0 (fun H locs hP hD hS => ?_)
  refine lv_aload_n hx hb d_L_law_376 rfl (lv_at hl 2 rfl) ?_
  refine w_lawM (As := []) (rest := [.int z]) ⟨hx, hb, hml, hown, hT⟩ c2 ms_M_row tb_359 ⟨by decide, by decide⟩ rfl hK2 hP hD hS hA rfl rfl hl.1 (Nat.le_of_ble_eq_true rfl) d_L_law_377 hc0 (fun H locs hP hD hS => ?_)
  refine lv_icmp_eq (tgt := 518) hx hb d_L_law_380 (by decide) (fun _ => ?_) (fun h9 => absurd rfl h9)
  exact W.widen (Nat.le_add_right _ _) (Nat.le_add_right _ _) (kk _ _ _ _ _ _ hR1 hP hD hS hl)

set_option maxHeartbeats 4000000 in
set_option maxRecDepth 100000 in
/-- case 7: rowAt -/
theorem law_c7 (htl : l.stackTraces = false) (hL : L ≤ 2560) (C0 : lw_At p s m meth c b L xs) (hK1 : va_K D classes ((cO, .long) :: xT k) s) (hK2 : va_K D classes (mT k') s) (hTA : q_TA s) (hi : i + 5 ≤ L) (hR : q_R u v) (hP : va_P D classes (q_LW q cO g a k ca u a' k' u v) H) (hD : va_D (fun q1 : Nat => s.heap.size ≤ q1) (q_LW q cO g a k ca u a' k' u v)) (hS : va_S (fun q1 : Nat => s.heap.size ≤ q1) s.heap H locs) (hl : lv_has ls 8 [(4, .int (nI i)), (3, .ref q), (2, .ref (a' 0)), (1, .ref (a 0)), (0, .ref b)]) (hc : cells + 1 ≤ room_1.cells ∧ slots + 6 ≤ room_1.slots) (kk : q_KK p l e s m below meth c b D q cO a k ca a' k' i (cells + 1) (slots + 6) Q) : W p l e room_1 s m #[Value.ref b] below meth c H locs cells slots Q (F0 m 385 ls []) := by
  obtain ⟨hx, hb, hr, hml, hown, hts, hX, hbl, hlocks, hgv⟩ := C0
  have hT : ∀ w ∈ lw_g, w.before #[Value.ref b] s = true := fun w hw => hts w (lw_g_in w hw)
  have hbA : ¬ s.heap.size ≤ b := Nat.not_le.mpr hbl
  have hA : ∀ q1, s.heap.size ≤ q1 → s.heap.size ≤ q1 := fun _ h => h
  have hc0 : cells ≤ room_1.cells ∧ slots ≤ room_1.slots := ⟨Nat.le_trans (Nat.le_add_right _ _) hc.1, Nat.le_trans (Nat.le_add_right _ _) hc.2⟩
  obtain ⟨z, u1, v1, c1, c2, hR1⟩ := l_rowAt l D a k ca a' k' u v hR (xs (i + 1))
  refine lv_aload_n hx hb d_L_law_385 rfl (lv_at hl 3 rfl) ?_
  refine lv_aload_n hx hb d_L_law_386 rfl (lv_at hl 4 rfl) ?_
  refine lv_iload hx hb d_L_law_387 (lv_at hl 0 rfl) ?_
  refine lv_iconst (v := nI 1) hx hb d_L_law_389 (by decide) ?_
  refine w_iadd hx hb d_L_law_390 ?_
  refine va_sld hx hb hX hbl hbA hS (vp_in_nI (by omega) (by omega)) d_L_law_391 ?_
  refine w_top (y := .int (xs (i + 1))) (by rw [nI_clamp (by omega)]) ?_
  refine w_lawX (As := [.int (xs (i + 1))]) (rest := []) ⟨hx, hb, hml, hown, hT⟩ c1 ms_X_rowAt tb_164 ⟨by decide, by decide⟩ rfl hK1 hP hD hS hA rfl rfl hl.1 (Nat.le_of_ble_eq_true rfl) d_L_law_392 hc0 (fun H locs hP hD hS => ?_)
  refine lv_aload_n hx hb d_L_law_395 rfl (lv_at hl 2 rfl) ?_
  refine lv_aload_n hx hb d_L_law_396 rfl (lv_at hl 4 rfl) ?_
  refine lv_iload hx hb d_L_law_397 (lv_at hl 0 rfl) ?_
  refine lv_iconst (v := nI 1) hx hb d_L_law_399 (by decide) ?_
  refine w_iadd hx hb d_L_law_400 ?_
  refine va_sld hx hb hX hbl hbA hS (vp_in_nI (by omega) (by omega)) d_L_law_401 ?_
  refine w_top (y := .int (xs (i + 1))) (by rw [nI_clamp (by omega)]) ?_
  refine w_lawM (As := [.int (xs (i + 1))]) (rest := [.int z]) ⟨hx, hb, hml, hown, hT⟩ c2 ms_M_rowAt tb_363 ⟨by decide, by decide⟩ rfl hK2 hP hD hS hA rfl rfl hl.1 (Nat.le_of_ble_eq_true rfl) d_L_law_402 hc0 (fun H locs hP hD hS => ?_)
  refine lv_icmp_eq (tgt := 518) hx hb d_L_law_405 (by decide) (fun _ => ?_) (fun h9 => absurd rfl h9)
  exact W.widen (Nat.le_add_right _ _) (Nat.le_add_right _ _) (kk _ _ _ _ _ _ hR1 hP hD hS hl)

set_option maxHeartbeats 4000000 in
set_option maxRecDepth 100000 in
/-- case 8: length -/
theorem law_c8 (htl : l.stackTraces = false) (hL : L ≤ 2560) (C0 : lw_At p s m meth c b L xs) (hK1 : va_K D classes ((cO, .long) :: xT k) s) (hK2 : va_K D classes (mT k') s) (hTA : q_TA s) (hi : i + 5 ≤ L) (hR : q_R u v) (hP : va_P D classes (q_LW q cO g a k ca u a' k' u v) H) (hD : va_D (fun q1 : Nat => s.heap.size ≤ q1) (q_LW q cO g a k ca u a' k' u v)) (hS : va_S (fun q1 : Nat => s.heap.size ≤ q1) s.heap H locs) (hl : lv_has ls 8 [(4, .int (nI i)), (3, .ref q), (2, .ref (a' 0)), (1, .ref (a 0)), (0, .ref b)]) (hc : cells + 1 ≤ room_1.cells ∧ slots + 6 ≤ room_1.slots) (kk : q_KK p l e s m below meth c b D q cO a k ca a' k' i (cells + 1) (slots + 6) Q) : W p l e room_1 s m #[Value.ref b] below meth c H locs cells slots Q (F0 m 410 ls []) := by
  obtain ⟨hx, hb, hr, hml, hown, hts, hX, hbl, hlocks, hgv⟩ := C0
  have hT : ∀ w ∈ lw_g, w.before #[Value.ref b] s = true := fun w hw => hts w (lw_g_in w hw)
  have hbA : ¬ s.heap.size ≤ b := Nat.not_le.mpr hbl
  have hA : ∀ q1, s.heap.size ≤ q1 → s.heap.size ≤ q1 := fun _ h => h
  have hc0 : cells ≤ room_1.cells ∧ slots ≤ room_1.slots := ⟨Nat.le_trans (Nat.le_add_right _ _) hc.1, Nat.le_trans (Nat.le_add_right _ _) hc.2⟩
  obtain ⟨z, u1, v1, c1, c2, hR1⟩ := l_length l D a k ca a' k' u v hR 
  refine lv_aload_n hx hb d_L_law_410 rfl (lv_at hl 3 rfl) ?_
  refine w_lawX (As := []) (rest := []) ⟨hx, hb, hml, hown, hT⟩ c1 ms_X_length tb_168 ⟨by decide, by decide⟩ rfl hK1 hP hD hS hA rfl rfl hl.1 (Nat.le_of_ble_eq_true rfl) d_L_law_411 hc0 (fun H locs hP hD hS => ?_)
  refine lv_aload_n hx hb d_L_law_414 rfl (lv_at hl 2 rfl) ?_
  refine w_lawM (As := []) (rest := [.long z]) ⟨hx, hb, hml, hown, hT⟩ c2 ms_M_length tb_367 ⟨by decide, by decide⟩ rfl hK2 hP hD hS hA rfl rfl hl.1 (Nat.le_of_ble_eq_true rfl) d_L_law_415 hc0 (fun H locs hP hD hS => ?_)
  refine w_lceq (tgt := 518) hx hb d_L_law_418 d_L_law_419 (by decide) (fun _ => ?_) (fun h9 => absurd rfl h9)
  exact W.widen (Nat.le_add_right _ _) (Nat.le_add_right _ _) (kk _ _ _ _ _ _ hR1 hP hD hS hl)

set_option maxHeartbeats 4000000 in
set_option maxRecDepth 100000 in
/-- case 10: slack -/
theorem law_c10 (htl : l.stackTraces = false) (hL : L ≤ 2560) (C0 : lw_At p s m meth c b L xs) (hK1 : va_K D classes ((cO, .long) :: xT k) s) (hK2 : va_K D classes (mT k') s) (hTA : q_TA s) (hi : i + 5 ≤ L) (hR : q_R u v) (hP : va_P D classes (q_LW q cO g a k ca u a' k' u v) H) (hD : va_D (fun q1 : Nat => s.heap.size ≤ q1) (q_LW q cO g a k ca u a' k' u v)) (hS : va_S (fun q1 : Nat => s.heap.size ≤ q1) s.heap H locs) (hl : lv_has ls 8 [(4, .int (nI i)), (3, .ref q), (2, .ref (a' 0)), (1, .ref (a 0)), (0, .ref b)]) (hc : cells + 1 ≤ room_1.cells ∧ slots + 6 ≤ room_1.slots) (kk : q_KK p l e s m below meth c b D q cO a k ca a' k' i (cells + 1) (slots + 6) Q) : W p l e room_1 s m #[Value.ref b] below meth c H locs cells slots Q (F0 m 479 ls []) := by
  obtain ⟨hx, hb, hr, hml, hown, hts, hX, hbl, hlocks, hgv⟩ := C0
  have hT : ∀ w ∈ lw_g, w.before #[Value.ref b] s = true := fun w hw => hts w (lw_g_in w hw)
  have hbA : ¬ s.heap.size ≤ b := Nat.not_le.mpr hbl
  have hA : ∀ q1, s.heap.size ≤ q1 → s.heap.size ≤ q1 := fun _ h => h
  have hc0 : cells ≤ room_1.cells ∧ slots ≤ room_1.slots := ⟨Nat.le_trans (Nat.le_add_right _ _) hc.1, Nat.le_trans (Nat.le_add_right _ _) hc.2⟩
  obtain ⟨z, u1, v1, c1, c2, hR1⟩ := l_slack l D a k ca a' k' u v hR (xs (i + 1))
  refine lv_aload_n hx hb d_L_law_479 rfl (lv_at hl 3 rfl) ?_
  refine lv_aload_n hx hb d_L_law_480 rfl (lv_at hl 4 rfl) ?_
  refine lv_iload hx hb d_L_law_481 (lv_at hl 0 rfl) ?_
  refine lv_iconst (v := nI 1) hx hb d_L_law_483 (by decide) ?_
  refine w_iadd hx hb d_L_law_484 ?_
  refine va_sld hx hb hX hbl hbA hS (vp_in_nI (by omega) (by omega)) d_L_law_485 ?_
  refine w_top (y := .int (xs (i + 1))) (by rw [nI_clamp (by omega)]) ?_
  refine w_lawX (As := [.int (xs (i + 1))]) (rest := []) ⟨hx, hb, hml, hown, hT⟩ c1 ms_X_slack tb_172 ⟨by decide, by decide⟩ rfl hK1 hP hD hS hA rfl rfl hl.1 (Nat.le_of_ble_eq_true rfl) d_L_law_486 hc0 (fun H locs hP hD hS => ?_)
  refine lv_aload_n hx hb d_L_law_489 rfl (lv_at hl 2 rfl) ?_
  refine lv_aload_n hx hb d_L_law_490 rfl (lv_at hl 4 rfl) ?_
  refine lv_iload hx hb d_L_law_491 (lv_at hl 0 rfl) ?_
  refine lv_iconst (v := nI 1) hx hb d_L_law_493 (by decide) ?_
  refine w_iadd hx hb d_L_law_494 ?_
  refine va_sld hx hb hX hbl hbA hS (vp_in_nI (by omega) (by omega)) d_L_law_495 ?_
  refine w_top (y := .int (xs (i + 1))) (by rw [nI_clamp (by omega)]) ?_
  refine w_lawM (As := [.int (xs (i + 1))]) (rest := [.long z]) ⟨hx, hb, hml, hown, hT⟩ c2 ms_M_slack tb_376 ⟨by decide, by decide⟩ rfl hK2 hP hD hS hA rfl rfl hl.1 (Nat.le_of_ble_eq_true rfl) d_L_law_496 hc0 (fun H locs hP hD hS => ?_)
  refine w_lceq (tgt := 518) hx hb d_L_law_499 d_L_law_500 (by decide) (fun _ => ?_) (fun h9 => absurd rfl h9)
  exact W.widen (Nat.le_add_right _ _) (Nat.le_add_right _ _) (kk _ _ _ _ _ _ hR1 hP hD hS hl)

set_option maxHeartbeats 4000000 in
set_option maxRecDepth 100000 in
/-- case 11: alive -/
theorem law_c11 (htl : l.stackTraces = false) (hL : L ≤ 2560) (C0 : lw_At p s m meth c b L xs) (hK1 : va_K D classes ((cO, .long) :: xT k) s) (hK2 : va_K D classes (mT k') s) (hTA : q_TA s) (hi : i + 5 ≤ L) (hR : q_R u v) (hP : va_P D classes (q_LW q cO g a k ca u a' k' u v) H) (hD : va_D (fun q1 : Nat => s.heap.size ≤ q1) (q_LW q cO g a k ca u a' k' u v)) (hS : va_S (fun q1 : Nat => s.heap.size ≤ q1) s.heap H locs) (hl : lv_has ls 8 [(4, .int (nI i)), (3, .ref q), (2, .ref (a' 0)), (1, .ref (a 0)), (0, .ref b)]) (hc : cells + 1 ≤ room_1.cells ∧ slots + 6 ≤ room_1.slots) (kk : q_KK p l e s m below meth c b D q cO a k ca a' k' i (cells + 1) (slots + 6) Q) : W p l e room_1 s m #[Value.ref b] below meth c H locs cells slots Q (F0 m 505 ls []) := by
  obtain ⟨hx, hb, hr, hml, hown, hts, hX, hbl, hlocks, hgv⟩ := C0
  have hT : ∀ w ∈ lw_g, w.before #[Value.ref b] s = true := fun w hw => hts w (lw_g_in w hw)
  have hbA : ¬ s.heap.size ≤ b := Nat.not_le.mpr hbl
  have hA : ∀ q1, s.heap.size ≤ q1 → s.heap.size ≤ q1 := fun _ h => h
  have hc0 : cells ≤ room_1.cells ∧ slots ≤ room_1.slots := ⟨Nat.le_trans (Nat.le_add_right _ _) hc.1, Nat.le_trans (Nat.le_add_right _ _) hc.2⟩
  obtain ⟨z, u1, v1, c1, c2, hR1⟩ := l_alive l D a k ca a' k' u v hR 
  refine lv_aload_n hx hb d_L_law_505 rfl (lv_at hl 3 rfl) ?_
  refine w_lawX (As := []) (rest := []) ⟨hx, hb, hml, hown, hT⟩ c1 ms_X_alive tb_177 ⟨by decide, by decide⟩ rfl hK1 hP hD hS hA rfl rfl hl.1 (Nat.le_of_ble_eq_true rfl) d_L_law_506 hc0 (fun H locs hP hD hS => ?_)
  refine lv_aload_n hx hb d_L_law_509 rfl (lv_at hl 2 rfl) ?_
  refine w_lawM (As := []) (rest := [.int z]) ⟨hx, hb, hml, hown, hT⟩ c2 ms_M_alive tb_381 ⟨by decide, by decide⟩ rfl hK2 hP hD hS hA rfl rfl hl.1 (Nat.le_of_ble_eq_true rfl) d_L_law_510 hc0 (fun H locs hP hD hS => ?_)
  refine lv_icmp_eq (tgt := 518) hx hb d_L_law_513 (by decide) (fun _ => ?_) (fun h9 => absurd rfl h9)
  exact W.widen (Nat.le_add_right _ _) (Nat.le_add_right _ _) (kk _ _ _ _ _ _ hR1 hP hD hS hl)

set_option maxHeartbeats 4000000 in
set_option maxRecDepth 100000 in
/-- case 3: bound -/
theorem law_c3 (htl : l.stackTraces = false) (hL : L ≤ 2560) (C0 : lw_At p s m meth c b L xs) (hK1 : va_K D classes ((cO, .long) :: xT k) s) (hK2 : va_K D classes (mT k') s) (hTA : q_TA s) (hi : i + 5 ≤ L) (hR : q_R u v) (hP : va_P D classes (q_LW q cO g a k ca u a' k' u v) H) (hD : va_D (fun q1 : Nat => s.heap.size ≤ q1) (q_LW q cO g a k ca u a' k' u v)) (hS : va_S (fun q1 : Nat => s.heap.size ≤ q1) s.heap H locs) (hl : lv_has ls 8 [(4, .int (nI i)), (3, .ref q), (2, .ref (a' 0)), (1, .ref (a 0)), (0, .ref b)]) (hc : cells + 1 ≤ room_1.cells ∧ slots + 6 ≤ room_1.slots) (kk : q_KK p l e s m below meth c b D q cO a k ca a' k' i (cells + 1) (slots + 6) Q) : W p l e room_1 s m #[Value.ref b] below meth c H locs cells slots Q (F0 m 231 ls []) := by
  obtain ⟨hx, hb, hr, hml, hown, hts, hX, hbl, hlocks, hgv⟩ := C0
  have hT : ∀ w ∈ lw_g, w.before #[Value.ref b] s = true := fun w hw => hts w (lw_g_in w hw)
  have hbA : ¬ s.heap.size ≤ b := Nat.not_le.mpr hbl
  have hA : ∀ q1, s.heap.size ≤ q1 → s.heap.size ≤ q1 := fun _ h => h
  have hc0 : cells ≤ room_1.cells ∧ slots ≤ room_1.slots := ⟨Nat.le_trans (Nat.le_add_right _ _) hc.1, Nat.le_trans (Nat.le_add_right _ _) hc.2⟩
  refine lv_aload_n hx hb d_L_law_231 rfl (lv_at hl 3 rfl) ?_
  refine lv_aload_n hx hb d_L_law_232 rfl (lv_at hl 4 rfl) ?_
  refine lv_iload hx hb d_L_law_233 (lv_at hl 0 rfl) ?_
  refine lv_iconst (v := nI 1) hx hb d_L_law_235 (by decide) ?_
  refine w_iadd hx hb d_L_law_236 ?_
  refine va_sld hx hb hX hbl hbA hS (vp_in_nI (by omega) (by omega)) d_L_law_237 ?_
  refine w_top (y := .int (xs (i + 1))) (by rw [nI_clamp (by omega)]) ?_
  refine lv_aload_n hx hb d_L_law_238 rfl (lv_at hl 4 rfl) ?_
  refine lv_iload hx hb d_L_law_239 (lv_at hl 0 rfl) ?_
  refine lv_iconst (v := nI 2) hx hb d_L_law_241 (by decide) ?_
  refine w_iadd hx hb d_L_law_242 ?_
  refine va_sld hx hb hX hbl hbA hS (vp_in_nI (by omega) (by omega)) d_L_law_243 ?_
  refine w_top (y := .int (xs (i + 2))) (by rw [nI_clamp (by omega)]) ?_
  refine lv_aload_n hx hb d_L_law_244 rfl (lv_at hl 1 rfl) ?_
  rcases l_bound l D a k ca a' k' u v q cO g htl hR (xs (i + 1)) (xs (i + 2)) with ⟨cT, v1, c2, hR1, hv1⟩ | ⟨z, v1, cB, c2, hR1, hv1⟩
  · refine w_lawT (As := [.ref (a 0), .int (xs (i + 1)), .int (xs (i + 2)), .ref q]) (rest := []) ⟨hx, hb, hml, hown, hT⟩ cT ms_L_bound tb_181 ⟨by decide, by decide⟩ hK1 hTA hP hS rfl rfl hl.1 (Nat.le_of_ble_eq_true rfl) d_L_law_245 hc (fun H hP hS => ?_)
    have hc0 := hc
    refine lv_istore (lv' := [(5, .int 1), (4, .int (nI i)), (3, .ref q), (2, .ref (a' 0)), (1, .ref (a 0)), (0, .ref b)]) hx hb d_L_law_248 hl (by decide) rfl (fun ls hl => ?_)
    refine lv_aload_n hx hb d_L_law_250 rfl (lv_at hl 3 rfl) ?_
    refine lv_aload_n hx hb d_L_law_251 rfl (lv_at hl 5 rfl) ?_
    refine lv_iload hx hb d_L_law_252 (lv_at hl 1 rfl) ?_
    refine lv_iconst (v := nI 1) hx hb d_L_law_254 (by decide) ?_
    refine w_iadd hx hb d_L_law_255 ?_
    refine va_sld hx hb hX hbl hbA hS (vp_in_nI (by omega) (by omega)) d_L_law_256 ?_
    refine w_top (y := .int (xs (i + 1))) (by rw [nI_clamp (by omega)]) ?_
    refine lv_aload_n hx hb d_L_law_257 rfl (lv_at hl 5 rfl) ?_
    refine lv_iload hx hb d_L_law_258 (lv_at hl 1 rfl) ?_
    refine lv_iconst (v := nI 2) hx hb d_L_law_260 (by decide) ?_
    refine w_iadd hx hb d_L_law_261 ?_
    refine va_sld hx hb hX hbl hbA hS (vp_in_nI (by omega) (by omega)) d_L_law_262 ?_
    refine w_top (y := .int (xs (i + 2))) (by rw [nI_clamp (by omega)]) ?_
    refine w_lawM (As := [.int (xs (i + 1)), .int (xs (i + 2))]) (rest := []) ⟨hx, hb, hml, hown, hT⟩ c2 ms_M_bound tb_347 ⟨by decide, by decide⟩ rfl hK2 hP hD hS hA rfl rfl hl.1 (Nat.le_of_ble_eq_true rfl) d_L_law_263 hc0 (fun H locs hP hD hS => ?_)
    refine lv_lstore (lv' := [(6, .long 0), (5, .int 1), (4, .int (nI i)), (3, .ref q), (2, .ref (a' 0)), (1, .ref (a 0)), (0, .ref b)]) hx hb d_L_law_266 hl (by decide) rfl (fun ls hl => ?_)
    refine lv_aload_n hx hb d_L_law_268 rfl (lv_at hl 4 rfl) ?_
    refine w_lawM (As := []) (rest := []) ⟨hx, hb, hml, hown, hT⟩ (l_thrown l D a' k' u v1) ms_M_thrown tb_305 ⟨by decide, by decide⟩ rfl hK2 hP hD hS hA rfl rfl hl.1 (Nat.le_of_ble_eq_true rfl) d_L_law_269 hc0 (fun H locs hP hD hS => ?_)
    refine lv_iload hx hb d_L_law_272 (lv_at hl 1 rfl) ?_
    refine lv_icmp_eq (tgt := 279) hx hb d_L_law_274 (by decide) (fun _ => ?_) (fun h9 => absurd (by rw [hv1]; rfl) h9)
    refine lv_iload hx hb d_L_law_279 (lv_at hl 1 rfl) ?_
    refine lv_if_ne (tgt := 295) hx hb d_L_law_281 (by decide) (fun _ => ?_) (fun h9 => absurd h9 (by decide))
    refine lv_goto (tgt := 518) hx hb d_L_law_295 (by decide) ?_
    exact kk _ _ _ _ _ _ hR1 hP hD hS (lv_sub hl [2, 3, 4, 5, 6] rfl)
  · refine w_lawB (As := [.ref (a 0), .int (xs (i + 1)), .int (xs (i + 2)), .ref q]) (rest := []) ⟨hx, hb, hml, hown, hT⟩ cB ms_L_bound tb_181 ⟨by decide, by decide⟩ hK1 hP hD hS hA rfl rfl hl.1 (Nat.le_of_ble_eq_true rfl) d_L_law_245 hc0 (fun H locs hP hD hS => ?_)
    refine lv_istore (lv' := [(5, .int 0), (4, .int (nI i)), (3, .ref q), (2, .ref (a' 0)), (1, .ref (a 0)), (0, .ref b)]) hx hb d_L_law_248 hl (by decide) rfl (fun ls hl => ?_)
    refine lv_aload_n hx hb d_L_law_250 rfl (lv_at hl 3 rfl) ?_
    refine lv_aload_n hx hb d_L_law_251 rfl (lv_at hl 5 rfl) ?_
    refine lv_iload hx hb d_L_law_252 (lv_at hl 1 rfl) ?_
    refine lv_iconst (v := nI 1) hx hb d_L_law_254 (by decide) ?_
    refine w_iadd hx hb d_L_law_255 ?_
    refine va_sld hx hb hX hbl hbA hS (vp_in_nI (by omega) (by omega)) d_L_law_256 ?_
    refine w_top (y := .int (xs (i + 1))) (by rw [nI_clamp (by omega)]) ?_
    refine lv_aload_n hx hb d_L_law_257 rfl (lv_at hl 5 rfl) ?_
    refine lv_iload hx hb d_L_law_258 (lv_at hl 1 rfl) ?_
    refine lv_iconst (v := nI 2) hx hb d_L_law_260 (by decide) ?_
    refine w_iadd hx hb d_L_law_261 ?_
    refine va_sld hx hb hX hbl hbA hS (vp_in_nI (by omega) (by omega)) d_L_law_262 ?_
    refine w_top (y := .int (xs (i + 2))) (by rw [nI_clamp (by omega)]) ?_
    refine w_lawM (As := [.int (xs (i + 1)), .int (xs (i + 2))]) (rest := []) ⟨hx, hb, hml, hown, hT⟩ c2 ms_M_bound tb_347 ⟨by decide, by decide⟩ rfl hK2 hP hD hS hA rfl rfl hl.1 (Nat.le_of_ble_eq_true rfl) d_L_law_263 hc0 (fun H locs hP hD hS => ?_)
    refine lv_lstore (lv' := [(6, .long z), (5, .int 0), (4, .int (nI i)), (3, .ref q), (2, .ref (a' 0)), (1, .ref (a 0)), (0, .ref b)]) hx hb d_L_law_266 hl (by decide) rfl (fun ls hl => ?_)
    refine lv_aload_n hx hb d_L_law_268 rfl (lv_at hl 4 rfl) ?_
    refine w_lawM (As := []) (rest := []) ⟨hx, hb, hml, hown, hT⟩ (l_thrown l D a' k' u v1) ms_M_thrown tb_305 ⟨by decide, by decide⟩ rfl hK2 hP hD hS hA rfl rfl hl.1 (Nat.le_of_ble_eq_true rfl) d_L_law_269 hc0 (fun H locs hP hD hS => ?_)
    refine lv_iload hx hb d_L_law_272 (lv_at hl 1 rfl) ?_
    refine lv_icmp_eq (tgt := 279) hx hb d_L_law_274 (by decide) (fun _ => ?_) (fun h9 => absurd (by rw [hv1]; rfl) h9)
    refine lv_iload hx hb d_L_law_279 (lv_at hl 1 rfl) ?_
    refine lv_if_ne (tgt := 295) hx hb d_L_law_281 (by decide) (fun h9 => absurd rfl h9) (fun _ => ?_)
    refine lv_aload_n hx hb d_L_law_284 rfl (lv_at hl 3 rfl) ?_
    refine lv_iconst (v := nI 0) hx hb d_L_law_285 (by decide) ?_
    refine w_lald hx hb hK1 hP 0 0 rfl rfl (by decide) (by decide) d_L_law_286 ?_
    refine w_top (y := .long z) (by simp [vp_updL]) ?_
    refine lv_lload hx hb d_L_law_287 (lv_at hl 0 rfl) ?_
    refine w_lceq (tgt := 295) hx hb d_L_law_289 d_L_law_290 (by decide) (fun _ => ?_) (fun h9 => absurd rfl h9)
    refine lv_goto (tgt := 518) hx hb d_L_law_295 (by decide) ?_
    exact W.widen (Nat.le_add_right _ _) (Nat.le_add_right _ _) (kk _ _ _ _ _ _ hR1 hP hD hS (lv_sub hl [2, 3, 4, 5, 6] rfl))

set_option maxHeartbeats 4000000 in
set_option maxRecDepth 100000 in
/-- case 9: earliest -/
theorem law_c9 (htl : l.stackTraces = false) (hL : L ≤ 2560) (C0 : lw_At p s m meth c b L xs) (hK1 : va_K D classes ((cO, .long) :: xT k) s) (hK2 : va_K D classes (mT k') s) (hTA : q_TA s) (hi : i + 5 ≤ L) (hR : q_R u v) (hP : va_P D classes (q_LW q cO g a k ca u a' k' u v) H) (hD : va_D (fun q1 : Nat => s.heap.size ≤ q1) (q_LW q cO g a k ca u a' k' u v)) (hS : va_S (fun q1 : Nat => s.heap.size ≤ q1) s.heap H locs) (hl : lv_has ls 8 [(4, .int (nI i)), (3, .ref q), (2, .ref (a' 0)), (1, .ref (a 0)), (0, .ref b)]) (hc : cells + 1 ≤ room_1.cells ∧ slots + 6 ≤ room_1.slots) (kk : q_KK p l e s m below meth c b D q cO a k ca a' k' i (cells + 1) (slots + 6) Q) : W p l e room_1 s m #[Value.ref b] below meth c H locs cells slots Q (F0 m 424 ls []) := by
  obtain ⟨hx, hb, hr, hml, hown, hts, hX, hbl, hlocks, hgv⟩ := C0
  have hT : ∀ w ∈ lw_g, w.before #[Value.ref b] s = true := fun w hw => hts w (lw_g_in w hw)
  have hbA : ¬ s.heap.size ≤ b := Nat.not_le.mpr hbl
  have hA : ∀ q1, s.heap.size ≤ q1 → s.heap.size ≤ q1 := fun _ h => h
  have hc0 : cells ≤ room_1.cells ∧ slots ≤ room_1.slots := ⟨Nat.le_trans (Nat.le_add_right _ _) hc.1, Nat.le_trans (Nat.le_add_right _ _) hc.2⟩
  refine lv_aload_n hx hb d_L_law_424 rfl (lv_at hl 3 rfl) ?_
  refine lv_aload_n hx hb d_L_law_425 rfl (lv_at hl 4 rfl) ?_
  refine lv_iload hx hb d_L_law_426 (lv_at hl 0 rfl) ?_
  refine lv_iconst (v := nI 1) hx hb d_L_law_428 (by decide) ?_
  refine w_iadd hx hb d_L_law_429 ?_
  refine va_sld hx hb hX hbl hbA hS (vp_in_nI (by omega) (by omega)) d_L_law_430 ?_
  refine w_top (y := .int (xs (i + 1))) (by rw [nI_clamp (by omega)]) ?_
  refine lv_aload_n hx hb d_L_law_431 rfl (lv_at hl 1 rfl) ?_
  rcases l_earliest l D a k ca a' k' u v q cO g htl hR (xs (i + 1)) with ⟨cT, v1, c2, hR1, hv1⟩ | ⟨z, v1, cB, c2, hR1, hv1⟩
  · refine w_lawT (As := [.ref (a 0), .int (xs (i + 1)), .ref q]) (rest := []) ⟨hx, hb, hml, hown, hT⟩ cT ms_L_earliest tb_253 ⟨by decide, by decide⟩ hK1 hTA hP hS rfl rfl hl.1 (Nat.le_of_ble_eq_true rfl) d_L_law_432 hc (fun H hP hS => ?_)
    have hc0 := hc
    refine lv_istore (lv' := [(5, .int 1), (4, .int (nI i)), (3, .ref q), (2, .ref (a' 0)), (1, .ref (a 0)), (0, .ref b)]) hx hb d_L_law_435 hl (by decide) rfl (fun ls hl => ?_)
    refine lv_aload_n hx hb d_L_law_437 rfl (lv_at hl 3 rfl) ?_
    refine lv_aload_n hx hb d_L_law_438 rfl (lv_at hl 5 rfl) ?_
    refine lv_iload hx hb d_L_law_439 (lv_at hl 1 rfl) ?_
    refine lv_iconst (v := nI 1) hx hb d_L_law_441 (by decide) ?_
    refine w_iadd hx hb d_L_law_442 ?_
    refine va_sld hx hb hX hbl hbA hS (vp_in_nI (by omega) (by omega)) d_L_law_443 ?_
    refine w_top (y := .int (xs (i + 1))) (by rw [nI_clamp (by omega)]) ?_
    refine w_lawM (As := [.int (xs (i + 1))]) (rest := []) ⟨hx, hb, hml, hown, hT⟩ c2 ms_M_earliest tb_371 ⟨by decide, by decide⟩ rfl hK2 hP hD hS hA rfl rfl hl.1 (Nat.le_of_ble_eq_true rfl) d_L_law_444 hc0 (fun H locs hP hD hS => ?_)
    refine lv_lstore (lv' := [(6, .long 0), (5, .int 1), (4, .int (nI i)), (3, .ref q), (2, .ref (a' 0)), (1, .ref (a 0)), (0, .ref b)]) hx hb d_L_law_447 hl (by decide) rfl (fun ls hl => ?_)
    refine lv_aload_n hx hb d_L_law_449 rfl (lv_at hl 4 rfl) ?_
    refine w_lawM (As := []) (rest := []) ⟨hx, hb, hml, hown, hT⟩ (l_thrown l D a' k' u v1) ms_M_thrown tb_305 ⟨by decide, by decide⟩ rfl hK2 hP hD hS hA rfl rfl hl.1 (Nat.le_of_ble_eq_true rfl) d_L_law_450 hc0 (fun H locs hP hD hS => ?_)
    refine lv_iload hx hb d_L_law_453 (lv_at hl 1 rfl) ?_
    refine lv_icmp_eq (tgt := 460) hx hb d_L_law_455 (by decide) (fun _ => ?_) (fun h9 => absurd (by rw [hv1]; rfl) h9)
    refine lv_iload hx hb d_L_law_460 (lv_at hl 1 rfl) ?_
    refine lv_if_ne (tgt := 476) hx hb d_L_law_462 (by decide) (fun _ => ?_) (fun h9 => absurd h9 (by decide))
    refine lv_goto (tgt := 518) hx hb d_L_law_476 (by decide) ?_
    exact kk _ _ _ _ _ _ hR1 hP hD hS (lv_sub hl [2, 3, 4, 5, 6] rfl)
  · refine w_lawB (As := [.ref (a 0), .int (xs (i + 1)), .ref q]) (rest := []) ⟨hx, hb, hml, hown, hT⟩ cB ms_L_earliest tb_253 ⟨by decide, by decide⟩ hK1 hP hD hS hA rfl rfl hl.1 (Nat.le_of_ble_eq_true rfl) d_L_law_432 hc0 (fun H locs hP hD hS => ?_)
    refine lv_istore (lv' := [(5, .int 0), (4, .int (nI i)), (3, .ref q), (2, .ref (a' 0)), (1, .ref (a 0)), (0, .ref b)]) hx hb d_L_law_435 hl (by decide) rfl (fun ls hl => ?_)
    refine lv_aload_n hx hb d_L_law_437 rfl (lv_at hl 3 rfl) ?_
    refine lv_aload_n hx hb d_L_law_438 rfl (lv_at hl 5 rfl) ?_
    refine lv_iload hx hb d_L_law_439 (lv_at hl 1 rfl) ?_
    refine lv_iconst (v := nI 1) hx hb d_L_law_441 (by decide) ?_
    refine w_iadd hx hb d_L_law_442 ?_
    refine va_sld hx hb hX hbl hbA hS (vp_in_nI (by omega) (by omega)) d_L_law_443 ?_
    refine w_top (y := .int (xs (i + 1))) (by rw [nI_clamp (by omega)]) ?_
    refine w_lawM (As := [.int (xs (i + 1))]) (rest := []) ⟨hx, hb, hml, hown, hT⟩ c2 ms_M_earliest tb_371 ⟨by decide, by decide⟩ rfl hK2 hP hD hS hA rfl rfl hl.1 (Nat.le_of_ble_eq_true rfl) d_L_law_444 hc0 (fun H locs hP hD hS => ?_)
    refine lv_lstore (lv' := [(6, .long z), (5, .int 0), (4, .int (nI i)), (3, .ref q), (2, .ref (a' 0)), (1, .ref (a 0)), (0, .ref b)]) hx hb d_L_law_447 hl (by decide) rfl (fun ls hl => ?_)
    refine lv_aload_n hx hb d_L_law_449 rfl (lv_at hl 4 rfl) ?_
    refine w_lawM (As := []) (rest := []) ⟨hx, hb, hml, hown, hT⟩ (l_thrown l D a' k' u v1) ms_M_thrown tb_305 ⟨by decide, by decide⟩ rfl hK2 hP hD hS hA rfl rfl hl.1 (Nat.le_of_ble_eq_true rfl) d_L_law_450 hc0 (fun H locs hP hD hS => ?_)
    refine lv_iload hx hb d_L_law_453 (lv_at hl 1 rfl) ?_
    refine lv_icmp_eq (tgt := 460) hx hb d_L_law_455 (by decide) (fun _ => ?_) (fun h9 => absurd (by rw [hv1]; rfl) h9)
    refine lv_iload hx hb d_L_law_460 (lv_at hl 1 rfl) ?_
    refine lv_if_ne (tgt := 476) hx hb d_L_law_462 (by decide) (fun h9 => absurd rfl h9) (fun _ => ?_)
    refine lv_aload_n hx hb d_L_law_465 rfl (lv_at hl 3 rfl) ?_
    refine lv_iconst (v := nI 0) hx hb d_L_law_466 (by decide) ?_
    refine w_lald hx hb hK1 hP 0 0 rfl rfl (by decide) (by decide) d_L_law_467 ?_
    refine w_top (y := .long z) (by simp [vp_updL]) ?_
    refine lv_lload hx hb d_L_law_468 (lv_at hl 0 rfl) ?_
    refine w_lceq (tgt := 476) hx hb d_L_law_470 d_L_law_471 (by decide) (fun _ => ?_) (fun h9 => absurd rfl h9)
    refine lv_goto (tgt := 518) hx hb d_L_law_476 (by decide) ?_
    exact W.widen (Nat.le_add_right _ _) (Nat.le_add_right _ _) (kk _ _ _ _ _ _ hR1 hP hD hS (lv_sub hl [2, 3, 4, 5, 6] rfl))

end LC
end
section
section LL
variable {p : Program} {l : Launch} {e : Env} {s : State} {m : MethodId} {below : List Frame} {meth : Method} {c : Code} {b L : Nat} {xs : Nat → Int32} {D : va_G}
variable {q : Nat} {cO : ClassId} {a : Nat → Nat} {k : Nat → ClassId} {ca a' : Nat → Nat} {k' : Nat → ClassId}
theorem q_i5 {L i : Nat} (hL : L ≤ 2560) (hi : i ≤ 2564) (h : ¬ Int32.ofNat L - nI 5 < nI i) : i + 5 ≤ L := by
  rw [Int32.lt_iff_toInt_lt, show Int32.ofNat L = nI L from rfl, pk_sub_toInt (by omega) (by omega), nI_toInt (by omega)] at h
  omega
theorem q_p5 (t : Nat) : nI (5 * t) + Int32.ofInt 5 = nI (5 * (t + 1)) := by
  rw [show Int32.ofInt 5 = nI 5 from by decide, nI_add, Nat.mul_succ]

set_option maxHeartbeats 4000000 in
set_option maxRecDepth 100000 in
/-- the law's loop -/
theorem law_loop (htl : l.stackTraces = false) (hL : L ≤ 2560) (C0 : lw_At p s m meth c b L xs) (hK1 : va_K D classes ((cO, .long) :: xT k) s) (hK2 : va_K D classes (mT k') s) (hTA : q_TA s) : ∀ (d t : Nat), 5 * t ≤ L + 4 → L + 5 ≤ 5 * t + d → ∀ (g : Nat → Int64) (u : q_XS) (v : q_MS) (H : Heap) (locs : List Loc) (ls : Array Slot), q_R u v → va_P D classes (q_LW q cO g a k ca u a' k' u v) H → va_D (fun q1 : Nat => s.heap.size ≤ q1) (q_LW q cO g a k ca u a' k' u v) → va_S (fun q1 : Nat => s.heap.size ≤ q1) s.heap H locs → lv_has ls 8 [(4, .int (nI (5 * t))), (3, .ref q), (2, .ref (a' 0)), (1, .ref (a 0)), (0, .ref b)] →
    W p l e room_1 s m #[Value.ref b] below meth c H locs (135 + t) (2769 + 6 * t) (lw_Z below #[Value.ref b] s) (F0 m 23 ls []) := by
  have hx := C0.1
  have hb := C0.2.1
  have hr := C0.2.2.1
  have hX := C0.2.2.2.2.2.2.1
  have hbl := C0.2.2.2.2.2.2.2.1
  have hlocks := C0.2.2.2.2.2.2.2.2.1
  have hbA : ¬ s.heap.size ≤ b := Nat.not_le.mpr hbl
  intro d
  induction d with
  | zero => intro t h1 h2; exact absurd h2 (by omega)
  | succ d ih =>
    intro t h1 h2 g u v H locs ls hR hP hD hS hl
    refine lv_iload hx hb d_L_law_23 (lv_at hl 0 rfl) ?_
    refine lv_aload_n hx hb d_L_law_25 rfl (lv_at hl 4 rfl) ?_
    refine va_slen hx hb hX hbl hbA hS d_L_law_26 ?_
    refine lv_iconst (v := nI 5) hx hb d_L_law_27 (by decide) ?_
    refine lv_isub hx hb d_L_law_28 ?_
    refine lv_icmp_gt (tgt := 524) hx hb d_L_law_29 (by decide) (fun _ => ?_) (fun h3 => ?_)
    · refine lv_iconst (v := 1) hx hb d_L_law_524 (by decide) ?_
      refine va_forget (fun q1 hq => hS.2.2 q1 hq) ?_
      refine W.widen (k := 601024) (n := 7293034) (by omega) (by omega) ?_
      exact lw_ret hx hb hr hlocks d_L_law_525
    · have hi := q_i5 hL (by omega) h3
      have kk : q_KK p l e s m below meth c b D q cO a k ca a' k' (5 * t) (135 + t + 1) (2769 + 6 * t + 6) (lw_Z below #[Value.ref b] s) := by
        intro g u v H locs ls hR hP hD hS hl
        refine lv_iinc (v := nI (5 * (t + 1))) (lv' := [(4, .int (nI (5 * (t + 1)))), (3, .ref q), (2, .ref (a' 0)), (1, .ref (a 0)), (0, .ref b)]) hx hb d_L_law_518 hl (k := 0) rfl (q_p5 t) (by decide) rfl (fun ls hl => ?_)
        refine lv_goto (tgt := 23) hx hb d_L_law_521 (by decide) ?_
        exact ih (t + 1) (by omega) (by omega) g u v H locs ls hR hP hD hS hl
      have hc : 135 + t + 1 ≤ room_1.cells ∧ 2769 + 6 * t + 6 ≤ room_1.slots := ⟨show 135 + t + 1 ≤ 601024 by omega, show 2769 + 6 * t + 6 ≤ 7293034 by omega⟩
      refine lv_aload_n hx hb d_L_law_32 rfl (lv_at hl 4 rfl) ?_
      refine lv_iload hx hb d_L_law_33 (lv_at hl 0 rfl) ?_
      refine va_sld hx hb hX hbl hbA hS (vp_in_nI (by omega) (by omega)) d_L_law_35 ?_
      refine lv_bipush (v := nI 15) hx hb d_L_law_36 (by decide) ?_
      refine lv_iand hx hb d_L_law_38 ?_
      obtain ⟨j, hj, ej⟩ := pk_andE (xs (nI (5 * t)).toNatClampNeg) (m := nI 15) 4 (by decide)
      rw [ej]
      have hj : j < 16 := hj
      rcases (show j = 0 ∨ j = 1 ∨ j = 2 ∨ j = 3 ∨ j = 4 ∨ j = 5 ∨ j = 6 ∨ j = 7 ∨ j = 8 ∨ j = 9 ∨ j = 10 ∨ j = 11 ∨ 12 ≤ j by omega) with rfl | rfl | rfl | rfl | rfl | rfl | rfl | rfl | rfl | rfl | rfl | rfl | h12
      · refine lv_tableIn (tgt := 100) (off := 61) hx hb d_L_law_39 (by decide) (by decide) (by decide) (by decide) ?_
        exact law_c0 htl hL C0 hK1 hK2 hTA hi hR hP hD hS hl hc kk
      · refine lv_tableIn (tgt := 181) (off := 142) hx hb d_L_law_39 (by decide) (by decide) (by decide) (by decide) ?_
        exact law_c1 htl hL C0 hK1 hK2 hTA hi hR hP hD hS hl hc kk
      · refine lv_tableIn (tgt := 206) (off := 167) hx hb d_L_law_39 (by decide) (by decide) (by decide) (by decide) ?_
        exact law_c2 htl hL C0 hK1 hK2 hTA hi hR hP hD hS hl hc kk
      · refine lv_tableIn (tgt := 231) (off := 192) hx hb d_L_law_39 (by decide) (by decide) (by decide) (by decide) ?_
        exact law_c3 htl hL C0 hK1 hK2 hTA hi hR hP hD hS hl hc kk
      · refine lv_tableIn (tgt := 298) (off := 259) hx hb d_L_law_39 (by decide) (by decide) (by decide) (by decide) ?_
        exact law_c4 htl hL C0 hK1 hK2 hTA hi hR hP hD hS hl hc kk
      · refine lv_tableIn (tgt := 335) (off := 296) hx hb d_L_law_39 (by decide) (by decide) (by decide) (by decide) ?_
        exact law_c5 htl hL C0 hK1 hK2 hTA hi hR hP hD hS hl hc kk
      · refine lv_tableIn (tgt := 372) (off := 333) hx hb d_L_law_39 (by decide) (by decide) (by decide) (by decide) ?_
        exact law_c6 htl hL C0 hK1 hK2 hTA hi hR hP hD hS hl hc kk
      · refine lv_tableIn (tgt := 385) (off := 346) hx hb d_L_law_39 (by decide) (by decide) (by decide) (by decide) ?_
        exact law_c7 htl hL C0 hK1 hK2 hTA hi hR hP hD hS hl hc kk
      · refine lv_tableIn (tgt := 410) (off := 371) hx hb d_L_law_39 (by decide) (by decide) (by decide) (by decide) ?_
        exact law_c8 htl hL C0 hK1 hK2 hTA hi hR hP hD hS hl hc kk
      · refine lv_tableIn (tgt := 424) (off := 385) hx hb d_L_law_39 (by decide) (by decide) (by decide) (by decide) ?_
        exact law_c9 htl hL C0 hK1 hK2 hTA hi hR hP hD hS hl hc kk
      · refine lv_tableIn (tgt := 479) (off := 440) hx hb d_L_law_39 (by decide) (by decide) (by decide) (by decide) ?_
        exact law_c10 htl hL C0 hK1 hK2 hTA hi hR hP hD hS hl hc kk
      · refine lv_tableIn (tgt := 505) (off := 466) hx hb d_L_law_39 (by decide) (by decide) (by decide) (by decide) ?_
        exact law_c11 htl hL C0 hK1 hK2 hTA hi hR hP hD hS hl hc kk
      · refine lv_tableOut (tgt := 518) hx hb d_L_law_39 (Or.inr (by rw [nI_toInt (by omega)]; omega)) (by decide) ?_
        exact W.widen (Nat.le_add_right _ _) (Nat.le_add_right _ _) (kk _ _ _ _ _ _ hR hP hD hS hl)
end LL
end
section
theorem q_midP {D : va_G} {l1 w0 l2 : va_W} {H : Heap} (hP : va_P D classes (l1 ++ w0 ++ l2) H) : va_P D classes w0 H := fun i q h => by
  have hl := (List.getElem?_eq_some_iff.mp h).1
  exact hP (l1.length + i) q (by rw [List.append_assoc, List.getElem?_append_right (by omega), Nat.add_sub_cancel_left, List.getElem?_append_left hl]; exact h)
theorem q_midD {A : Nat → Prop} {l1 w0 l2 : va_W} (hD : va_D A (l1 ++ w0 ++ l2)) : va_D (fun _ => True) w0 := by
  refine ⟨fun i j x z hi hj hxz => ?_, fun _ _ _ => trivial⟩
  have e0 : ∀ (i : Nat) (q : Nat × va_E), w0[i]? = some q → (l1 ++ w0 ++ l2)[l1.length + i]? = some q := fun i q h => by
    have hl := (List.getElem?_eq_some_iff.mp h).1
    rw [List.append_assoc, List.getElem?_append_right (by omega), Nat.add_sub_cancel_left, List.getElem?_append_left hl]; exact h
  have := hD.1 _ _ x z (e0 i x hi) (e0 j z hj) hxz
  omega
theorem q_swap {D : va_G} {A : Nat → Prop} {l1 l2 : va_W} {H : Heap} (hP : va_P D classes (l1 ++ l2) H) (hD : va_D A (l1 ++ l2)) : va_P D classes (l2 ++ l1) H ∧ va_D A (l2 ++ l1) := by
  have e1 : ∀ (i : Nat) (q : Nat × va_E), l1[i]? = some q → (l1 ++ l2)[i]? = some q := fun i q h => by
    rw [List.getElem?_append_left (List.getElem?_eq_some_iff.mp h).1]; exact h
  have e2 : ∀ (i : Nat) (q : Nat × va_E), l2[i]? = some q → (l1 ++ l2)[l1.length + i]? = some q := fun i q h => by
    rw [List.getElem?_append_right (by omega), Nat.add_sub_cancel_left]; exact h
  have P1 : va_P D classes l1 H := fun i q h => hP i q (e1 i q h)
  have P2 : va_P D classes l2 H := fun i q h => hP _ q (e2 i q h)
  have D1 : va_D A l1 := ⟨fun i j x y hi hj hxy => hD.1 i j x y (e1 i x hi) (e1 j y hj) hxy, fun k q hq => hD.2 k q (e1 k q hq)⟩
  have D2 : va_D A l2 := ⟨fun i j x y hi hj hxy => by
    have := hD.1 _ _ x y (e2 i x hi) (e2 j y hj) hxy
    omega, fun k q hq => hD.2 _ q (e2 k q hq)⟩
  refine ⟨P2.app P1, D2.app D1 (fun i j x y hx hy hxy => ?_)⟩
  have h1 := (List.getElem?_eq_some_iff.mp hy).1
  have := hD.1 _ _ y x (e1 j y hy) (e2 i x hx) hxy.symm
  omega
theorem q_preX_blind {D : va_G} {o sz : Nat} {av : List Value} : FrameBlind (va_Pc av (q_preX D o sz)) := fun a U g mk q => by
  obtain ⟨q0, ⟨q1, qP, qK, qD⟩, h1, h2, h3⟩ := q
  exact ⟨q0, ⟨q1, qP, va_K.moved (u := U) (U := U.calling g mk a) (Vm.Alike.refl U.vm) qK, qD⟩, va_AO.moved (u := U) (U := U.calling g mk a) (Vm.Alike.refl U.vm) h1, va_Nw.same rfl (u := U) rfl h2, va_Nw.same rfl (u := U) rfl h3⟩
theorem q_flags {l : Launch} (h : l.flags = flags0) : l.stackTraces = false := by
  rw [Launch.stackTraces, h]
  decide +kernel

set_option maxHeartbeats 4000000 in
set_option maxRecDepth 100000 in
/-- THE LAW, from its entry -/
theorem whole_start {p : Program} {e : Env} {s : State} {m : MethodId} {below : List Frame} {meth : Method} {c : Code} (l : Launch) (htl : l.stackTraces = false) {b L : Nat} {xs : Nat → Int32} (hL : L ≤ 2560) (C0 : lw_At p s m meth c b L xs) : W p l e room_1 s m #[Value.ref b] below meth c s.heap [] 0 0 (lw_Z below #[Value.ref b] s) (entryFrame m ([Value.ref b] : List Value).toArray 8) := by
  obtain ⟨hx, hb, hr, hml, hown, hts, hX, hbl, hlocks, hgv⟩ := id C0
  have hT : ∀ w ∈ lw_g, w.before #[Value.ref b] s = true := fun w hw => hts w (lw_g_in w hw)
  have hA : ∀ q : Nat, s.heap.size ≤ q → (fun q : Nat => s.heap.size ≤ q) q := fun _ h => h
  have hfl := flat_of_before _ hgv
  have hTA : q_TA s := by
    have h0 : ∀ w ∈ q_bw, w.before #[Value.ref b] s = true :=
      List.forall_mem_cons.mpr ⟨hts _ tb_194, List.forall_mem_cons.mpr ⟨hts _ (List.mem_of_getElem? (i := 208) (by decide +kernel)), List.forall_mem_cons.mpr ⟨hts _ (List.mem_of_getElem? (i := 210) (by decide +kernel)), List.forall_mem_cons.mpr ⟨hts _ (List.mem_of_getElem? (i := 212) (by decide +kernel)), List.forall_mem_cons.mpr ⟨hts _ tb_219, List.forall_mem_cons.mpr ⟨hts _ tb_221, List.forall_mem_cons.mpr ⟨hfl _ (by decide +kernel), List.forall_mem_cons.mpr ⟨hfl _ (by decide +kernel), fun _ h => by cases h⟩⟩⟩⟩⟩⟩⟩⟩
    intro a
    have g : ∀ (i : Nat) (w : Cond), q_bw[i]? = some w → w.before #[Value.ref b] s = true := fun i w hw => h0 w (List.mem_of_getElem? hw)
    refine List.forall_mem_cons.mpr ⟨va_Nw.use rfl (va_Nw.of rfl (g 0 _ rfl)), List.forall_mem_cons.mpr ⟨va_Nw.use rfl (va_Nw.of rfl (g 1 _ rfl)), List.forall_mem_cons.mpr ⟨va_Nw.use rfl (va_Nw.of rfl (g 2 _ rfl)), List.forall_mem_cons.mpr ⟨va_Nw.use rfl (va_Nw.of rfl (g 3 _ rfl)),
      List.forall_mem_cons.mpr ⟨q_stat (State.WarmedH.refl s) (fun _ _ => rfl) (g 4 _ rfl) a, List.forall_mem_cons.mpr ⟨q_stat (State.WarmedH.refl s) (fun _ _ => rfl) (g 5 _ rfl) a, List.forall_mem_cons.mpr ⟨q_isr (State.WarmedH.refl s) (fun _ _ => rfl) (g 4 _ rfl) (g 6 _ rfl) a, List.forall_mem_cons.mpr ⟨q_isr (State.WarmedH.refl s) (fun _ _ => rfl) (g 5 _ rfl) (g 7 _ rfl) a, fun _ h => by cases h⟩⟩⟩⟩⟩⟩⟩⟩
  have hAO : va_AO "TimeNet$Constraint" s := va_AO.of (hts _ tb_19)
  have hN1 : va_Nw (.methodLinkNest "TimeNet" 19 y_P_init "TimeNet") s := va_Nw.of rfl (hts _ tb_22)
  have hN2 : va_Nw (.methodLinkNest "TimeNet" 32 y_C_init "TimeNet") s := va_Nw.of rfl (hts _ tb_38)
  obtain ⟨c0, iS0, hKn0⟩ := u_known (C := R_X) (T := F_X) (N := 8) (n := 8) hT i_X (hT _ tb_11)
  obtain ⟨c1, iS1, hKn1⟩ := u_known (C := R_P) (T := F_P) (N := 2) (n := 2) hT i_P (hT _ tb_21)
  obtain ⟨c2, iS2, hKn2⟩ := u_known (C := R_C) (T := F_C) (N := 4) (n := 4) hT i_C (hT _ tb_37)
  obtain ⟨c3, iS3, hKn3⟩ := u_known (C := R_M) (T := F_M) (N := 12) (n := 12) hT i_M (hT _ tb_262)
  obtain ⟨dC, dI, hKc⟩ : ∃ (dC : Nat → ClassId) (dI : Nat → Nat → Nat), ∀ (k : Nat) (q : vw_C), classes[k]? = some q → u_Kn s q.1 q.2.1 q.2.2 (dC k) (dI k) := by
    refine ⟨fun k => if k = 0 then c0 else if k = 1 then c1 else if k = 2 then c2 else c3, fun k => if k = 0 then iS0 else if k = 1 then iS1 else if k = 2 then iS2 else iS3, ?_⟩
    intro k q hq
    match k, hq with
    | 0, hq => cases hq; exact hKn0
    | 1, hq => cases hq; exact hKn1
    | 2, hq => cases hq; exact hKn2
    | 3, hq => cases hq; exact hKn3
    | k + 4, hq => simp [classes] at hq
  have hS : va_S (fun q : Nat => s.heap.size ≤ q) s.heap s.heap [] := va_S.rf
  have hK0 : va_K (dC, dI) classes [] s := ⟨hKc, fun k q h => by simp at h⟩
  have hP : va_P (dC, dI) classes [] s.heap := fun k q h => by simp at h
  have hD : va_D (fun q : Nat => s.heap.size ≤ q) [] := ⟨fun i j p q h => by simp at h, fun k q h => by simp at h⟩
  generalize (dC, dI) = D at hK0 hP
  have hl := lv_entry ([.ref b]) (n := 8) (Nat.le_of_ble_eq_true rfl)
  rw [lg_entry_eq]
  generalize (lg_sl ([.ref b]) ++ List.replicate (8 - (lg_sl ([.ref b])).length) Slot.unset).toArray = ls at hl ⊢
  have hl : lv_has ls 8 [(0, .ref b)] := hl
  refine va_new (ci := 0) (fs := [.null, .int 0, .int 0, .null, .null, .null, .int 0, .long 0]) (C := R_X) (T := F_X) (N := 8) hx hb hT i_X t_X t_X_ok hown (hT _ tb_10) (hT _ tb_11) (hT _ tb_1) hK0 hP hD hS hA rfl (fun j hj => by rcases (show j = 0 ∨ j = 1 ∨ j = 2 ∨ j = 3 ∨ j = 4 ∨ j = 5 ∨ j = 6 ∨ j = 7 by omega) with rfl | rfl | rfl | rfl | rfl | rfl | rfl | rfl <;> rfl) (by decide) (by decide) d_L_law_0 (fun q0 H hP hD hS => ?_)
  have hP : va_P D classes ([] ++ q_X0 q0 ++ []) H := hP
  have hD : va_D (fun q : Nat => s.heap.size ≤ q) ([] ++ q_X0 q0 ++ []) := hD
  refine lv_dup hx hb d_L_law_3 rfl ?_
  have hFc := w_free hD hS hA
  refine va_callv (va_runI (As := []) (rest := [.ref q0]) ⟨hx, hb, hml, hown, hT⟩ (c_X_init l D q0 H.size) (cwI 0 hT (wd_good tb_14) rfl rfl rfl (hT _ tb_1) (hT _ tb_12) (hT _ tb_13) rfl (by decide +kernel) ⟨by decide, by decide⟩) ⟨q_preX_blind, fun U hU hW => ⟨rfl, ⟨by rw [hU], by rw [hU]; exact q_midP hP, va_K.moved hW.alike hK0, q_midD hD⟩, va_AO.moved hW.alike hAO, va_Nw.warmM hW hN1, va_Nw.warmM hW hN2⟩⟩ rfl rfl hl.1 rfl (lv_room (Nat.le_of_ble_eq_true rfl)) d_L_law_4 ⟨by decide, by decide⟩) hS (fun q _ h => hFc q h) hFc (fun u t H1 locs ht hvm _ hB hz1 hk1 hS => ?_)
  obtain ⟨hP1, hK1, hD1⟩ := hB
  rw [ht] at hP1
  have hKx := va_K.moved hvm.symm hK1
  have hD : va_D (fun q : Nat => s.heap.size ≤ q) (q_X1 q0 u) := hD1.weaken (fun k q _ h => hFc q.1 h)
  have hP : va_P D classes (q_X1 q0 u) H1 := hP1
  refine lv_astore_n (lv' := [(1, .ref q0), (0, .ref b)]) hx hb d_L_law_7 rfl hl (by decide) rfl (fun ls hl => ?_)
  refine va_new (ci := 3) (fs := [.int 0, .int 0, .null, .null, .null, .null, .int 0, .null, .long 0, .null, .long 0, .int 0]) (C := R_M) (T := F_M) (N := 12) hx hb hT i_M t_M t_M_ok hown (hT _ tb_261) (hT _ tb_262) (hT _ tb_5) hK0 hP hD hS hA rfl (fun j hj => by rcases (show j = 0 ∨ j = 1 ∨ j = 2 ∨ j = 3 ∨ j = 4 ∨ j = 5 ∨ j = 6 ∨ j = 7 ∨ j = 8 ∨ j = 9 ∨ j = 10 ∨ j = 11 by omega) with rfl | rfl | rfl | rfl | rfl | rfl | rfl | rfl | rfl | rfl | rfl | rfl <;> rfl) (by decide) (by decide) d_L_law_8 (fun q1 H hP hD hS => ?_)
  have hP : va_P D classes (q_X1 q0 u ++ q_M0 q1 ++ []) H := by rw [List.append_nil]; exact hP
  have hD : va_D (fun q : Nat => s.heap.size ≤ q) (q_X1 q0 u ++ q_M0 q1 ++ []) := by rw [List.append_nil]; exact hD
  refine lv_dup hx hb d_L_law_11 rfl ?_
  have hFc := w_free hD hS hA
  refine va_callv (va_runI (As := []) (rest := [.ref q1]) ⟨hx, hb, hml, hown, hT⟩ (c_M_init l D q1 H.size) (cwI 0 hT (wd_good tb_265) rfl rfl rfl (hT _ tb_5) (hT _ tb_263) (hT _ tb_264) rfl (by decide +kernel) ⟨by decide, by decide⟩) ⟨q_blind, fun U hU hW => ⟨rfl, by rw [hU], by rw [hU]; exact q_midP hP, va_K.moved hW.alike hK0, q_midD hD⟩⟩ rfl rfl hl.1 rfl (lv_room (Nat.le_of_ble_eq_true rfl)) d_L_law_12 ⟨by decide, by decide⟩) hS (fun q _ h => hFc q h) hFc (fun w t H1 locs ht hvm _ hB hz1 hk1 hS => ?_)
  obtain ⟨hP1, hK1, hD1⟩ := hB
  rw [ht] at hP1
  have hKm := va_K.moved hvm.symm hK1
  obtain ⟨hP, hD⟩ := w_frame hP hD hFc hk1 hP1 hD1
  rw [List.append_nil] at hP hD
  refine lv_astore_n (lv' := [(2, .ref q1), (1, .ref q0), (0, .ref b)]) hx hb d_L_law_15 rfl hl (by decide) rfl (fun ls hl => ?_)
  refine lv_iconst (v := nI 1) hx hb d_L_law_16 (by decide) ?_
  refine va_newa (atype := .long) (ty := .long) (N' := 1) (a0 := (1, .inr (.inl (fun _ => 0)))) hx hb (hT _ tb_35) rfl hKx hP hD hS hA (fun _ => rfl) (nI_pos (by decide)) (nI_clamp (by decide)) (by decide) (by decide) (by decide) d_L_law_17 (fun q2 cO H hK hP hD hS => ?_)
  have hKo : va_K D classes ((cO, .long) :: xT u.2.1) s := hK.sub [5, 0, 1, 2, 3, 4] rfl
  refine lv_astore_n (lv' := [(3, .ref q2), (2, .ref q1), (1, .ref q0), (0, .ref b)]) hx hb d_L_law_19 rfl hl (by decide) rfl (fun ls hl => ?_)
  refine lv_iconst (v := nI 0) hx hb d_L_law_20 (by decide) ?_
  refine lv_istore (lv' := [(4, .int (nI 0)), (3, .ref q2), (2, .ref q1), (1, .ref q0), (0, .ref b)]) hx hb d_L_law_21 hl (by decide) rfl (fun ls hl => ?_)
  obtain ⟨hP, hD⟩ := q_swap hP hD
  have hR : q_R (0, 0, fun _ => 0, fun _ => 0, fun _ => 0, fun _ => false, q_n0.2.1, q_n0.2.2, q_n0.1, fun _ => 0, 0, 0) (0, fun _ => 0, 0, fun _ => 0, 0, 0) := ⟨g_In.zero _ _ _ _ q_d0, rfl, by decide, fun t ht => absurd ht (by omega), fun _ => rfl, fun h => absurd rfl h⟩
  have hP : va_P D classes (q_LW q2 cO (fun _ => 0) (va_up u.1 0 q0) u.2.1 u.2.2 (0, 0, fun _ => 0, fun _ => 0, fun _ => 0, fun _ => false, q_n0.2.1, q_n0.2.2, q_n0.1, fun _ => 0, 0, 0) (va_up w.1 0 q1) w.2 (0, 0, fun _ => 0, fun _ => 0, fun _ => 0, fun _ => false, q_n0.2.1, q_n0.2.2, q_n0.1, fun _ => 0, 0, 0) (0, fun _ => 0, 0, fun _ => 0, 0, 0)) H := by
    rw [q_LW, List.append_assoc]; exact hP
  have hD : va_D (fun q : Nat => s.heap.size ≤ q) (q_LW q2 cO (fun _ => 0) (va_up u.1 0 q0) u.2.1 u.2.2 (0, 0, fun _ => 0, fun _ => 0, fun _ => 0, fun _ => false, q_n0.2.1, q_n0.2.2, q_n0.1, fun _ => 0, 0, 0) (va_up w.1 0 q1) w.2 (0, 0, fun _ => 0, fun _ => 0, fun _ => 0, fun _ => false, q_n0.2.1, q_n0.2.2, q_n0.1, fun _ => 0, 0, 0) (0, fun _ => 0, 0, fun _ => 0, 0, 0)) := by
    rw [q_LW, List.append_assoc]; exact hD
  refine W.widen (k := 135 + 0) (n := 2769 + 6 * 0) (by decide) (by decide) ?_
  exact law_loop htl hL C0 hKo hKm hTA (L + 5) 0 (by omega) (by omega) _ _ _ _ _ ls hR hP hD hS (by rw [va_up_self, va_up_self]; exact hl)
end
section
set_option maxHeartbeats 4000000 in
theorem lw_walk (l : Launch) (htl : l.stackTraces = false) (b : Addr) (xs : List Int32) : MetFree l x (headSpec (Jvm.Cond.code x code maxLocals ret :: tables_1) room_1) (lw_P b xs) (fun _ _ _ _ _ => True) lw_Q := by
  refine MetFree.of_bodyS (code := code) (maxLocals := maxLocals) (ret := ret) (by decide) ?_ ?_
  · intro args s m h hn
    obtain ⟨meth, c, h1, h2, h3, h4, h5, h6, -, -⟩ := Cond.code_spec hn (atoms_spec (ws := Jvm.Cond.code x code maxLocals ret :: tables_1) h _ List.mem_cons_self)
    exact ⟨meth, c, h1, h2, h3, h4, h5, h6⟩
  · intro p e s m args below meth c s₁ B hml0 hP _
    obtain ⟨rfl, hx, hbd, hgv⟩ := hP
    obtain ⟨scr, harrAt, hlist, hof, hsmall⟩ := hx
    obtain ⟨hcb, hkn, -, -⟩ := State.arrayAt?_spec harrAt
    have hown : s.vm.findClass R_law = some m.cls := findClass_of_methodNamed B.named
    have hts0 : ∀ c ∈ (Jvm.Cond.code x code maxLocals ret :: tables_1), c.before #[Value.ref b] s = true := atoms_spec (ws := Jvm.Cond.code x code maxLocals ret :: tables_1) B.pre
    have hts : ∀ w ∈ lw_tbl, w.before #[Value.ref b] s = true := k2_hts_sels lw_privs (fun w hw => hts0 w (List.mem_cons_of_mem _ hw)) lw_privs_ok
    have hml : c.maxLocals = 8 := B.maxLocals_eq (hts0 _ List.mem_cons_self)
    have X₀ : Stand p l e room_1 s m #[Value.ref b] below meth c s₁ [] 0 0 := Stand.of_body B
    have hh0 : s₁.heap = s.heap := by rw [B.state]; rfl
    have hsz : scr.slots.size = xs.length := by rw [← Array.length_toList, hlist, List.length_map]
    have hval : ∀ j : Nat, j < xs.length → scr.slots[j]? = some (.int (xs.getD j 0)) := fun j hj => by
      rw [← Array.getElem?_toList, hlist]
      simp [hj]
    have hbl : b < s.heap.size := (Array.getElem?_eq_some_iff.mp hcb).1
    have hX : va_X b xs.length (fun j => xs.getD j 0) s s.heap := ⟨scr, hcb, hof, hkn, hsz, hval⟩
    have K : W p l e room_1 s m #[Value.ref b] below meth c s₁.heap [] 0 0 (lw_Z below #[Value.ref b] s) (entryFrame m ([Value.ref b] : List Value).toArray 8) := by
      rw [hh0]
      exact whole_start l htl hbd ⟨B.exec, B.bytes, B.returns, hml, hown, hts, hX, hbl, B.notSynchronized, hgv⟩
    obtain ⟨t, a1, o, b1, b2, b3⟩ := K s₁ rfl X₀
    exact ⟨t, o, a1, b1, b2, b3⟩
theorem lw_pre_spec {args : Array Value} {s : State} (h : (Jvm.Cond.and given_1 narrow_1).before args s = true) (hr : rest_1_c.before args s = true) : ∃ (b : Addr) (xs : List Int32), lw_P b xs args s := by
  have hs := flat_of_before _ h
  have hq := flat_of_before _ hr
  have hc : (Cond.count 1).before args s = true := hs _ (by decide +kernel)
  have harr : (Cond.arrayOf (.arg 0) .int).before args s = true := hs _ (by decide +kernel)
  have hle : (Cond.le (.length (.arg 0)) (.int 2560)).before args s = true := hs _ (by decide +kernel)
  have hlen : (Cond.isInt (.length (.arg 0))).before args s = true := hq _ (by decide +kernel)
  have hall : (Cond.all (.arg 0) (.isInt (.elem (.arg 0) (.index 0)))).before args s = true := hq _ (by decide +kernel)
  obtain ⟨b, xs, hb, hx⟩ := State.ints_of_pre rfl harr hlen hall
  have hsm : xs.length < 2 ^ 31 := hx.choose_spec.2.2.2
  have hev : (Term.length (.arg 0)).eval args s none [] s = some (.int xs.length.toInt32) := hx.length_eval hb
  have hv := Cond.le_ints hev (show (Term.int 2560).eval args s none [] s = some (.int 2560) from rfl)
  have hd : xs.length.toInt32 ≤ 2560 := by
    simpa [Cond.before, Cond.holds, hv] using hle
  have hN : xs.length ≤ 2560 := (Int32.ofNat_le_ofNat hsm (by decide)).mp (show Int32.ofNat xs.length ≤ Int32.ofNat 2560 from hd)
  exact ⟨b, xs, Cond.one_arg hc (show args[0]? = some (.ref b) from hb), hx, hN, h⟩
theorem lw_comes (l : Launch) (htl : l.stackTraces = false) : Comes l x (Jvm.Cond.code x code maxLocals ret :: tables_1) room_1 (fun tb e args s => Calls_1 tb e args s ∧ rest_1 tb e args s ∧ Pre_1 tb e args s)
    (fun _ _ args s o t => lw_Q args s o t) := by
  intro p e ha hc hk s m args below hf hfit hheap happ hpre
  obtain ⟨b, xs, hP⟩ := lw_pre_spec hpre.2.2 hpre.2.1
  obtain ⟨k, o, h1, h2, h3, hQ⟩ := lw_walk l htl b xs p e ha hc hk s m args below hf ((Spec.applies_iff_loose hf).mp happ).1 hP trivial
  exact ⟨k, o, h1, h2, h3, hQ⟩
theorem lw_frame {s t : State} {o : Outcome} {args : Array Value} (h : Framed s o t [] 601024 7293034) :
    Framed s o t (fieldLocs frame_1_writes args s ++ arrayLocs frame_1_arrays args s ++ staticLocs frame_1_statics s) 601024 7293034 := h
theorem lw_limb (L : Cond) (hL : ∀ (args : Array Value) (s t : State), L.after args s (.returned (some (.int 1))) t = true) :
    ArmFor flags0 classFile x code maxLocals ret World_1 tables_1 room_1 Calls_1 rest_1 Pre_1
      (fun tb e a s o t => postC L tb e a s o t ∧ Framed s o t (fieldLocs frame_1_writes a s ++ arrayLocs frame_1_arrays a s ++ staticLocs frame_1_statics s) 601024 7293034) := by
  intro l hfl0 _ _ p e ha hc hk s m args below hf hfit hheap happ hpre
  obtain ⟨k, o, h1, h2, h3, rfl, hF⟩ := lw_comes l (q_flags hfl0) p e ha hc hk s m args below hf hfit hheap happ hpre
  exact ⟨k, _, h1, h2, h3, hL args s _, lw_frame hF⟩
theorem i_vc : Claimed_1_1 ∧ Claimed_1_2 := ⟨lw_limb limb_1_1 (fun args s t => by simp [limb_1_1, Cond.after, Cond.holds, Cond.value]), lw_limb limb_1_2 (fun args s t => Cond.after_iff.mpr (by
  first | (rw [show limb_1_2 = Cond.eq .result (.int 1) from rfl, Cond.eq_ints (x := 1) (y := 1) rfl rfl]; simp; done) | (simp [limb_1_2, Cond.value, Term.eval]; done)))⟩
end
