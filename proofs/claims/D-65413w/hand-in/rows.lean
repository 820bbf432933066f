section
/-- a private method of a class that the tables say can be made, by its rows of tables_1 -/
def lw_okq (q : MethodName × Nat) : Prop := (q.1.cls ≠ "java/lang/invoke/MethodHandle" ∧ q.1.cls ≠ "java/lang/invoke/VarHandle") ∧ Cond.instantiable q.1.cls q.2 ∈ tables_1 ∧ Cond.privateMethod q.1 ∈ tables_1 ∧ Cond.instanceMethod q.1 ∈ tables_1
theorem lw_p0 : lw_okq (⟨"GradeRows", "add", "(LGradeRows$Step;)I"⟩, 11) := ⟨⟨by decide +kernel, by decide +kernel⟩, List.mem_of_getElem? (i := 11) (by decide +kernel), List.mem_of_getElem? (i := 91) (by decide +kernel), List.mem_of_getElem? (i := 92) (by decide +kernel)⟩
theorem lw_p1 : lw_okq (⟨"GradeRows", "isFirst", "(II)Z"⟩, 11) := ⟨⟨by decide +kernel, by decide +kernel⟩, List.mem_of_getElem? (i := 11) (by decide +kernel), List.mem_of_getElem? (i := 139) (by decide +kernel), List.mem_of_getElem? (i := 140) (by decide +kernel)⟩
theorem lw_p2 : lw_okq (⟨"GradeRows", "classOf", "(J)I"⟩, 11) := ⟨⟨by decide +kernel, by decide +kernel⟩, List.mem_of_getElem? (i := 11) (by decide +kernel), List.mem_of_getElem? (i := 159) (by decide +kernel), List.mem_of_getElem? (i := 160) (by decide +kernel)⟩
theorem lw_p3 : lw_okq (⟨"GradeRows", "isStuckAhead", "(II)Z"⟩, 11) := ⟨⟨by decide +kernel, by decide +kernel⟩, List.mem_of_getElem? (i := 11) (by decide +kernel), List.mem_of_getElem? (i := 192) (by decide +kernel), List.mem_of_getElem? (i := 193) (by decide +kernel)⟩
theorem lw_p4 : lw_okq (⟨"GradeRows", "sortedCosts", "()[J"⟩, 11) := ⟨⟨by decide +kernel, by decide +kernel⟩, List.mem_of_getElem? (i := 11) (by decide +kernel), List.mem_of_getElem? (i := 238) (by decide +kernel), List.mem_of_getElem? (i := 239) (by decide +kernel)⟩
theorem lw_p5 : lw_okq (⟨"GradeRows", "sortedCodes", "()[I"⟩, 11) := ⟨⟨by decide +kernel, by decide +kernel⟩, List.mem_of_getElem? (i := 11) (by decide +kernel), List.mem_of_getElem? (i := 242) (by decide +kernel), List.mem_of_getElem? (i := 243) (by decide +kernel)⟩
theorem lw_p6 : lw_okq (⟨"GradeRows", "isKept", "(I)Z"⟩, 11) := ⟨⟨by decide +kernel, by decide +kernel⟩, List.mem_of_getElem? (i := 11) (by decide +kernel), List.mem_of_getElem? (i := 272) (by decide +kernel), List.mem_of_getElem? (i := 273) (by decide +kernel)⟩
theorem lw_p7 : lw_okq (⟨"GradeRowsModel", "count", "()I"⟩, 16) := ⟨⟨by decide +kernel, by decide +kernel⟩, List.mem_of_getElem? (i := 288) (by decide +kernel), List.mem_of_getElem? (i := 353) (by decide +kernel), List.mem_of_getElem? (i := 354) (by decide +kernel)⟩
theorem lw_p8 : lw_okq (⟨"GradeRowsModel", "add", "(III)I"⟩, 16) := ⟨⟨by decide +kernel, by decide +kernel⟩, List.mem_of_getElem? (i := 288) (by decide +kernel), List.mem_of_getElem? (i := 357) (by decide +kernel), List.mem_of_getElem? (i := 358) (by decide +kernel)⟩
theorem lw_p9 : lw_okq (⟨"GradeRowsModel", "costOf", "(II)J"⟩, 16) := ⟨⟨by decide +kernel, by decide +kernel⟩, List.mem_of_getElem? (i := 288) (by decide +kernel), List.mem_of_getElem? (i := 374) (by decide +kernel), List.mem_of_getElem? (i := 375) (by decide +kernel)⟩
theorem lw_p10 : lw_okq (⟨"GradeRowsModel", "sumOf", "(II)J"⟩, 16) := ⟨⟨by decide +kernel, by decide +kernel⟩, List.mem_of_getElem? (i := 288) (by decide +kernel), List.mem_of_getElem? (i := 384) (by decide +kernel), List.mem_of_getElem? (i := 385) (by decide +kernel)⟩
theorem lw_p11 : lw_okq (⟨"GradeRowsModel", "all", "()J"⟩, 16) := ⟨⟨by decide +kernel, by decide +kernel⟩, List.mem_of_getElem? (i := 288) (by decide +kernel), List.mem_of_getElem? (i := 397) (by decide +kernel), List.mem_of_getElem? (i := 398) (by decide +kernel)⟩
theorem lw_p12 : lw_okq (⟨"GradeRowsModel", "classOf", "(J)I"⟩, 16) := ⟨⟨by decide +kernel, by decide +kernel⟩, List.mem_of_getElem? (i := 288) (by decide +kernel), List.mem_of_getElem? (i := 401) (by decide +kernel), List.mem_of_getElem? (i := 402) (by decide +kernel)⟩
theorem lw_p13 : lw_okq (⟨"GradeRowsModel", "like", "(II)I"⟩, 16) := ⟨⟨by decide +kernel, by decide +kernel⟩, List.mem_of_getElem? (i := 288) (by decide +kernel), List.mem_of_getElem? (i := 448) (by decide +kernel), List.mem_of_getElem? (i := 449) (by decide +kernel)⟩
def lw_privs_1 : List (MethodName × Nat) := [(⟨"GradeRows", "add", "(LGradeRows$Step;)I"⟩, 11), (⟨"GradeRows", "isFirst", "(II)Z"⟩, 11), (⟨"GradeRows", "classOf", "(J)I"⟩, 11), (⟨"GradeRows", "isStuckAhead", "(II)Z"⟩, 11), (⟨"GradeRows", "sortedCosts", "()[J"⟩, 11), (⟨"GradeRows", "sortedCodes", "()[I"⟩, 11), (⟨"GradeRows", "isKept", "(I)Z"⟩, 11), (⟨"GradeRowsModel", "count", "()I"⟩, 16), (⟨"GradeRowsModel", "add", "(III)I"⟩, 16), (⟨"GradeRowsModel", "costOf", "(II)J"⟩, 16), (⟨"GradeRowsModel", "sumOf", "(II)J"⟩, 16), (⟨"GradeRowsModel", "all", "()J"⟩, 16), (⟨"GradeRowsModel", "classOf", "(J)I"⟩, 16), (⟨"GradeRowsModel", "like", "(II)I"⟩, 16)]
theorem lw_r1 : ∀ q ∈ lw_privs_1, lw_okq q := List.forall_mem_cons.mpr ⟨lw_p0, List.forall_mem_cons.mpr ⟨lw_p1, List.forall_mem_cons.mpr ⟨lw_p2, List.forall_mem_cons.mpr ⟨lw_p3, List.forall_mem_cons.mpr ⟨lw_p4, List.forall_mem_cons.mpr ⟨lw_p5, List.forall_mem_cons.mpr ⟨lw_p6, List.forall_mem_cons.mpr ⟨lw_p7, List.forall_mem_cons.mpr ⟨lw_p8, List.forall_mem_cons.mpr ⟨lw_p9, List.forall_mem_cons.mpr ⟨lw_p10, List.forall_mem_cons.mpr ⟨lw_p11, List.forall_mem_cons.mpr ⟨lw_p12, List.forall_mem_cons.mpr ⟨lw_p13, fun _ h => absurd h List.not_mem_nil⟩⟩⟩⟩⟩⟩⟩⟩⟩⟩⟩⟩⟩⟩
def lw_privs : List (MethodName × Nat) := lw_privs_1
def lw_tbl : List Cond := k2_sels lw_privs ++ tables_1
theorem lw_privs_ok : ∀ q ∈ lw_privs, lw_okq q := lw_r1
def lw_T : List Cond := lw_tbl.filter goodWord
theorem T_good : ∀ w ∈ lw_T, (w.onTables && w.keeps) = true ∨ ∃ ty, w = .arrayClass ty := fun _ h => good_of_word (List.mem_filter.mp h).2
theorem in_T1 {w : Cond} (i : Nat) (h : tables_1_1[i]? = some w) (hg : goodWord w = true) : w ∈ lw_T := List.mem_filter.mpr ⟨List.mem_append_right _ (List.mem_append_left _ (List.mem_of_getElem? h)), hg⟩
theorem in_T2 {w : Cond} (i : Nat) (h : tables_1_2[i]? = some w) (hg : goodWord w = true) : w ∈ lw_T := List.mem_filter.mpr ⟨List.mem_append_right _ (List.mem_append_right _ (List.mem_of_getElem? h)), hg⟩
theorem in_S {w : Cond} (i : Nat) (h : (k2_sels lw_privs)[i]? = some w) (hg : goodWord w = true) : w ∈ lw_T := List.mem_filter.mpr ⟨List.mem_append_left _ (List.mem_of_getElem? h), hg⟩
theorem in_N1 {w : Cond} (i : Nat) (h : tables_1_1[i]? = some w) : w ∈ tables_1 := List.mem_append_left _ (List.mem_of_getElem? h)
theorem in_N2 {w : Cond} (i : Nat) (h : tables_1_2[i]? = some w) : w ∈ tables_1 := List.mem_append_right _ (List.mem_of_getElem? h)
/-- a method's words: its own code, and all words of the tables that keep -/
def wd (y : MethodName) (b : ByteArray) (n : Nat) (r : Option FieldType) : List Cond := .code y b n r :: lw_T
abbrev R_GR : String := "GradeRows"
abbrev R_GU : String := "GradeRows$Use"
abbrev R_GG : String := "GradeRows$Guess"
abbrev R_GS : String := "GradeRows$Step"
abbrev R_GK : String := "GradeRows$Kept"
abbrev R_GM : String := "GradeRowsModel"
def F_GR : u_T := fun k => match k with
  | 0 => ("GradeRows", "weights", "[I", true)
  | 1 => ("GradeRows", "extras", "[I", true)
  | 2 => ("GradeRows", "rules", "I", false)
  | 3 => ("GradeRows", "steps", "[LGradeRows$Step;", true)
  | 4 => ("GradeRows", "many", "I", false)
  | 5 => ("GradeRows", "cursor", "I", false)
  | 6 => ("GradeRows", "lows", "[J", true)
  | 7 => ("GradeRows", "highs", "[J", true)
  | 8 => ("GradeRows", "classes", "I", false)
  | 9 => ("GradeRows", "kept", "[LGradeRows$Kept;", true)
  | _ => ("GradeRows", "keeps", "I", false)
def t_GR : Nat → FieldType := fun k => match k with
  | 0 => .array .int
  | 1 => .array .int
  | 2 => .int
  | 3 => .array (.object "GradeRows$Step")
  | 4 => .int
  | 5 => .int
  | 6 => .array .long
  | 7 => .array .long
  | 8 => .int
  | 9 => .array (.object "GradeRows$Kept")
  | _ => .int
def F_GU : u_T := fun k => match k with
  | 0 => ("GradeRows$Use", "rule", "I", true)
  | 1 => ("GradeRows$Use", "place", "I", true)
  | _ => ("GradeRows$Use", "width", "I", true)
def t_GU : Nat → FieldType := fun k => match k with
  | 0 => .int
  | 1 => .int
  | _ => .int
def F_GG : u_T := fun k => match k with
  | _ => ("GradeRows$Guess", "depth", "I", true)
def t_GG : Nat → FieldType := fun k => match k with
  | _ => .int
def F_GK : u_T := fun k => match k with
  | 0 => ("GradeRows$Kept", "sum", "J", true)
  | 1 => ("GradeRows$Kept", "costs", "[J", true)
  | _ => ("GradeRows$Kept", "codes", "[I", true)
def t_GK : Nat → FieldType := fun k => match k with
  | 0 => .long
  | 1 => .array .long
  | _ => .array .int
def F_GM : u_T := fun k => match k with
  | 0 => ("GradeRowsModel", "thrown", "I", false)
  | 1 => ("GradeRowsModel", "rules", "I", false)
  | 2 => ("GradeRowsModel", "weights", "[I", true)
  | 3 => ("GradeRowsModel", "extras", "[I", true)
  | 4 => ("GradeRowsModel", "sizes", "[I", true)
  | 5 => ("GradeRowsModel", "byRule", "[I", true)
  | 6 => ("GradeRowsModel", "where", "[I", true)
  | 7 => ("GradeRowsModel", "widths", "[I", true)
  | 8 => ("GradeRowsModel", "kept", "I", false)
  | 9 => ("GradeRowsModel", "classes", "I", false)
  | 10 => ("GradeRowsModel", "lows", "[J", true)
  | 11 => ("GradeRowsModel", "highs", "[J", true)
  | 12 => ("GradeRowsModel", "cursor", "I", false)
  | 13 => ("GradeRowsModel", "seen", "[Z", true)
  | 14 => ("GradeRowsModel", "mine", "[J", true)
  | _ => ("GradeRowsModel", "theirs", "[J", true)
def t_GM : Nat → FieldType := fun k => match k with
  | 0 => .int
  | 1 => .int
  | 2 => .array .int
  | 3 => .array .int
  | 4 => .array .int
  | 5 => .array .int
  | 6 => .array .int
  | 7 => .array .int
  | 8 => .int
  | 9 => .int
  | 10 => .array .long
  | 11 => .array .long
  | 12 => .int
  | 13 => .array .boolean
  | 14 => .array .long
  | _ => .array .long
/-- the classes whose objects the worlds hold -/
abbrev classes : List vw_C := [(R_GR, F_GR, 11), (R_GU, F_GU, 3), (R_GG, F_GG, 1), (R_GK, F_GK, 3), (R_GM, F_GM, 16)]
theorem n_GR : ∀ a, a < 11 → ∀ b, b < 11 → a ≠ b → (F_GR a).2.1 ≠ (F_GR b).2.1 := by decide +kernel
theorem t_GR_ok : ∀ k, k < 11 → parseFieldDescriptor (F_GR k).2.2.1 = some (t_GR k) := by decide +kernel
theorem i_GR : ∀ w ∈ u_ws R_GR F_GR 11, w ∈ lw_T := by decide +kernel
theorem n_GU : ∀ a, a < 3 → ∀ b, b < 3 → a ≠ b → (F_GU a).2.1 ≠ (F_GU b).2.1 := by decide +kernel
theorem t_GU_ok : ∀ k, k < 3 → parseFieldDescriptor (F_GU k).2.2.1 = some (t_GU k) := by decide +kernel
theorem i_GU : ∀ w ∈ u_ws R_GU F_GU 3, w ∈ lw_T := by decide +kernel
theorem n_GG : ∀ a, a < 1 → ∀ b, b < 1 → a ≠ b → (F_GG a).2.1 ≠ (F_GG b).2.1 := by decide +kernel
theorem t_GG_ok : ∀ k, k < 1 → parseFieldDescriptor (F_GG k).2.2.1 = some (t_GG k) := by decide +kernel
theorem i_GG : ∀ w ∈ u_ws R_GG F_GG 1, w ∈ lw_T := by decide +kernel
theorem n_GK : ∀ a, a < 3 → ∀ b, b < 3 → a ≠ b → (F_GK a).2.1 ≠ (F_GK b).2.1 := by decide +kernel
theorem t_GK_ok : ∀ k, k < 3 → parseFieldDescriptor (F_GK k).2.2.1 = some (t_GK k) := by decide +kernel
theorem i_GK : ∀ w ∈ u_ws R_GK F_GK 3, w ∈ lw_T := by decide +kernel
theorem n_GM : ∀ a, a < 16 → ∀ b, b < 16 → a ≠ b → (F_GM a).2.1 ≠ (F_GM b).2.1 := by decide +kernel
theorem t_GM_ok : ∀ k, k < 16 → parseFieldDescriptor (F_GM k).2.2.1 = some (t_GM k) := by decide +kernel
theorem i_GM : ∀ w ∈ u_ws R_GM F_GM 16, w ∈ lw_T := by decide +kernel
abbrev b_GR_init : ByteArray := prog_1_method_1_code
abbrev y_GR_init : MethodName := ⟨"GradeRows", "<init>", "()V"⟩
abbrev b_GR_rule : ByteArray := prog_1_method_2_code
abbrev y_GR_rule : MethodName := ⟨"GradeRows", "rule", "(II)I"⟩
abbrev b_GR_used : ByteArray := prog_1_method_4_code
abbrev y_GR_used : MethodName := ⟨"GradeRows", "used", "(III)I"⟩
abbrev b_GU_init : ByteArray := prog_5_method_1_code
abbrev y_GU_init : MethodName := ⟨"GradeRows$Use", "<init>", "(III)V"⟩
abbrev b_GS_init : ByteArray := prog_4_method_1_code
abbrev y_GS_init : MethodName := ⟨"GradeRows$Step", "<init>", "()V"⟩
abbrev b_GR_add : ByteArray := prog_1_method_3_code
abbrev y_GR_add : MethodName := ⟨"GradeRows", "add", "(LGradeRows$Step;)I"⟩
abbrev b_GR_guess : ByteArray := prog_1_method_5_code
abbrev y_GR_guess : MethodName := ⟨"GradeRows", "guess", "(I)I"⟩
abbrev b_GG_init : ByteArray := prog_2_method_1_code
abbrev y_GG_init : MethodName := ⟨"GradeRows$Guess", "<init>", "(I)V"⟩
abbrev b_GR_drop : ByteArray := prog_1_method_6_code
abbrev y_GR_drop : MethodName := ⟨"GradeRows", "drop", "()Z"⟩
abbrev b_MA_min : ByteArray := prog_10_method_69_code
abbrev y_MA_min : MethodName := ⟨"java/lang/Math", "min", "(II)I"⟩
abbrev b_GR_cost : ByteArray := prog_1_method_8_code
abbrev y_GR_cost : MethodName := ⟨"GradeRows", "cost", "(I)J"⟩
abbrev b_GG_cost : ByteArray := prog_2_method_2_code
abbrev y_GG_cost : MethodName := ⟨"GradeRows$Guess", "cost", "(LGradeRows;I)J"⟩
abbrev b_GU_rule : ByteArray := prog_5_method_5_code
abbrev y_GU_rule : MethodName := ⟨"GradeRows$Use", "rule", "()I"⟩
abbrev b_GS_rule : ByteArray := prog_4_method_5_code
abbrev y_GS_rule : MethodName := ⟨"GradeRows$Step", "rule", "()I"⟩
abbrev b_GU_cost : ByteArray := prog_5_method_2_code
abbrev y_GU_cost : MethodName := ⟨"GradeRows$Use", "cost", "(LGradeRows;I)J"⟩
abbrev b_GR_isFirst : ByteArray := prog_1_method_7_code
abbrev y_GR_isFirst : MethodName := ⟨"GradeRows", "isFirst", "(II)Z"⟩
abbrev b_GR_sum : ByteArray := prog_1_method_9_code
abbrev y_GR_sum : MethodName := ⟨"GradeRows", "sum", "(I)J"⟩
abbrev b_GR_cls : ByteArray := prog_1_method_10_code
abbrev y_GR_cls : MethodName := ⟨"GradeRows", "cls", "(JJ)I"⟩
abbrev b_GR_grade : ByteArray := prog_1_method_12_code
abbrev y_GR_grade : MethodName := ⟨"GradeRows", "grade", "()I"⟩
abbrev b_GR_classOf : ByteArray := prog_1_method_11_code
abbrev y_GR_classOf : MethodName := ⟨"GradeRows", "classOf", "(J)I"⟩
abbrev b_GR_rank : ByteArray := prog_1_method_13_code
abbrev y_GR_rank : MethodName := ⟨"GradeRows", "rank", "()I"⟩
abbrev b_GR_gap : ByteArray := prog_1_method_14_code
abbrev y_GR_gap : MethodName := ⟨"GradeRows", "gap", "(J)J"⟩
abbrev b_GR_stuck : ByteArray := prog_1_method_16_code
abbrev y_GR_stuck : MethodName := ⟨"GradeRows", "stuck", "(I)I"⟩
abbrev b_GU_isAlone : ByteArray := prog_5_method_7_code
abbrev y_GU_isAlone : MethodName := ⟨"GradeRows$Use", "isAlone", "()Z"⟩
abbrev b_GS_isAlone : ByteArray := prog_4_method_7_code
abbrev y_GS_isAlone : MethodName := ⟨"GradeRows$Step", "isAlone", "()Z"⟩
abbrev b_GU_place : ByteArray := prog_5_method_6_code
abbrev y_GU_place : MethodName := ⟨"GradeRows$Use", "place", "()I"⟩
abbrev b_GS_place : ByteArray := prog_4_method_6_code
abbrev y_GS_place : MethodName := ⟨"GradeRows$Step", "place", "()I"⟩
abbrev b_GR_isStuckAhead : ByteArray := prog_1_method_15_code
abbrev y_GR_isStuckAhead : MethodName := ⟨"GradeRows", "isStuckAhead", "(II)Z"⟩
abbrev b_GR_run : ByteArray := prog_1_method_17_code
abbrev y_GR_run : MethodName := ⟨"GradeRows", "run", "()I"⟩
abbrev b_MA_max : ByteArray := prog_10_method_65_code
abbrev y_MA_max : MethodName := ⟨"java/lang/Math", "max", "(II)I"⟩
abbrev b_GR_hardest : ByteArray := prog_1_method_18_code
abbrev y_GR_hardest : MethodName := ⟨"GradeRows", "hardest", "()I"⟩
abbrev b_MA_max_l : ByteArray := prog_10_method_66_code
abbrev y_MA_max_l : MethodName := ⟨"java/lang/Math", "max", "(JJ)J"⟩
abbrev b_GR_go : ByteArray := prog_1_method_19_code
abbrev y_GR_go : MethodName := ⟨"GradeRows", "go", "(I)Z"⟩
abbrev b_GR_hint : ByteArray := prog_1_method_20_code
abbrev y_GR_hint : MethodName := ⟨"GradeRows", "hint", "(I)I"⟩
abbrev b_GG_hint : ByteArray := prog_2_method_4_code
abbrev y_GG_hint : MethodName := ⟨"GradeRows$Guess", "hint", "(I)I"⟩
abbrev b_GU_hint : ByteArray := prog_5_method_4_code
abbrev y_GU_hint : MethodName := ⟨"GradeRows$Use", "hint", "(I)I"⟩
abbrev b_GR_keep : ByteArray := prog_1_method_23_code
abbrev y_GR_keep : MethodName := ⟨"GradeRows", "keep", "()I"⟩
abbrev b_GK_init : ByteArray := prog_3_method_1_code
abbrev y_GK_init : MethodName := ⟨"GradeRows$Kept", "<init>", "(LGradeRows;)V"⟩
abbrev b_GR_sortedCosts : ByteArray := prog_1_method_21_code
abbrev y_GR_sortedCosts : MethodName := ⟨"GradeRows", "sortedCosts", "()[J"⟩
abbrev b_GR_sortedCodes : ByteArray := prog_1_method_22_code
abbrev y_GR_sortedCodes : MethodName := ⟨"GradeRows", "sortedCodes", "()[I"⟩
abbrev b_GG_code : ByteArray := prog_2_method_3_code
abbrev y_GG_code : MethodName := ⟨"GradeRows$Guess", "code", "()I"⟩
abbrev b_GU_code : ByteArray := prog_5_method_3_code
abbrev y_GU_code : MethodName := ⟨"GradeRows$Use", "code", "()I"⟩
abbrev b_GR_compare : ByteArray := prog_1_method_25_code
abbrev y_GR_compare : MethodName := ⟨"GradeRows", "compare", "(I)I"⟩
abbrev b_GR_isKept : ByteArray := prog_1_method_24_code
abbrev y_GR_isKept : MethodName := ⟨"GradeRows", "isKept", "(I)Z"⟩
abbrev b_LO_compare : ByteArray := prog_9_method_42_code
abbrev y_LO_compare : MethodName := ⟨"java/lang/Long", "compare", "(JJ)I"⟩
abbrev b_IN_compare : ByteArray := prog_8_method_40_code
abbrev y_IN_compare : MethodName := ⟨"java/lang/Integer", "compare", "(II)I"⟩
abbrev b_GR_same : ByteArray := prog_1_method_26_code
abbrev y_GR_same : MethodName := ⟨"GradeRows", "same", "(I)Z"⟩
abbrev b_GM_init : ByteArray := prog_7_method_1_code
abbrev y_GM_init : MethodName := ⟨"GradeRowsModel", "<init>", "()V"⟩
abbrev b_GM_rule : ByteArray := prog_7_method_4_code
abbrev y_GM_rule : MethodName := ⟨"GradeRowsModel", "rule", "(II)I"⟩
abbrev b_GM_used : ByteArray := prog_7_method_6_code
abbrev y_GM_used : MethodName := ⟨"GradeRowsModel", "used", "(III)I"⟩
abbrev b_GM_count : ByteArray := prog_7_method_3_code
abbrev y_GM_count : MethodName := ⟨"GradeRowsModel", "count", "()I"⟩
abbrev b_GM_add : ByteArray := prog_7_method_5_code
abbrev y_GM_add : MethodName := ⟨"GradeRowsModel", "add", "(III)I"⟩
abbrev b_GM_guess : ByteArray := prog_7_method_7_code
abbrev y_GM_guess : MethodName := ⟨"GradeRowsModel", "guess", "(I)I"⟩
abbrev b_GM_drop : ByteArray := prog_7_method_8_code
abbrev y_GM_drop : MethodName := ⟨"GradeRowsModel", "drop", "()Z"⟩
abbrev b_GM_cost : ByteArray := prog_7_method_12_code
abbrev y_GM_cost : MethodName := ⟨"GradeRowsModel", "cost", "(I)J"⟩
abbrev b_GM_costOf : ByteArray := prog_7_method_9_code
abbrev y_GM_costOf : MethodName := ⟨"GradeRowsModel", "costOf", "(II)J"⟩
abbrev b_GM_sum : ByteArray := prog_7_method_13_code
abbrev y_GM_sum : MethodName := ⟨"GradeRowsModel", "sum", "(I)J"⟩
abbrev b_GM_sumOf : ByteArray := prog_7_method_10_code
abbrev y_GM_sumOf : MethodName := ⟨"GradeRowsModel", "sumOf", "(II)J"⟩
abbrev b_GM_cls : ByteArray := prog_7_method_14_code
abbrev y_GM_cls : MethodName := ⟨"GradeRowsModel", "cls", "(JJ)I"⟩
abbrev b_GM_grade : ByteArray := prog_7_method_16_code
abbrev y_GM_grade : MethodName := ⟨"GradeRowsModel", "grade", "()I"⟩
abbrev b_GM_all : ByteArray := prog_7_method_11_code
abbrev y_GM_all : MethodName := ⟨"GradeRowsModel", "all", "()J"⟩
abbrev b_GM_classOf : ByteArray := prog_7_method_15_code
abbrev y_GM_classOf : MethodName := ⟨"GradeRowsModel", "classOf", "(J)I"⟩
abbrev b_GM_rank : ByteArray := prog_7_method_17_code
abbrev y_GM_rank : MethodName := ⟨"GradeRowsModel", "rank", "()I"⟩
abbrev b_GM_gap : ByteArray := prog_7_method_18_code
abbrev y_GM_gap : MethodName := ⟨"GradeRowsModel", "gap", "(J)J"⟩
abbrev b_GM_stuck : ByteArray := prog_7_method_19_code
abbrev y_GM_stuck : MethodName := ⟨"GradeRowsModel", "stuck", "(I)I"⟩
abbrev b_GM_run : ByteArray := prog_7_method_20_code
abbrev y_GM_run : MethodName := ⟨"GradeRowsModel", "run", "()I"⟩
abbrev b_GM_hardest : ByteArray := prog_7_method_21_code
abbrev y_GM_hardest : MethodName := ⟨"GradeRowsModel", "hardest", "()I"⟩
abbrev b_GM_go : ByteArray := prog_7_method_22_code
abbrev y_GM_go : MethodName := ⟨"GradeRowsModel", "go", "(I)Z"⟩
abbrev b_GM_hint : ByteArray := prog_7_method_23_code
abbrev y_GM_hint : MethodName := ⟨"GradeRowsModel", "hint", "(I)I"⟩
abbrev b_GM_keep : ByteArray := prog_7_method_24_code
abbrev y_GM_keep : MethodName := ⟨"GradeRowsModel", "keep", "()I"⟩
abbrev b_GM_compare : ByteArray := prog_7_method_26_code
abbrev y_GM_compare : MethodName := ⟨"GradeRowsModel", "compare", "(I)I"⟩
abbrev b_GM_way : ByteArray := prog_7_method_25_code
abbrev y_GM_way : MethodName := ⟨"GradeRowsModel", "way", "(JJ)I"⟩
abbrev b_GM_same : ByteArray := prog_7_method_28_code
abbrev y_GM_same : MethodName := ⟨"GradeRowsModel", "same", "(I)Z"⟩
abbrev b_GM_like : ByteArray := prog_7_method_27_code
abbrev y_GM_like : MethodName := ⟨"GradeRowsModel", "like", "(II)I"⟩
-- the words, by their places in the tables
theorem tw_0 : Cond.initialized "GradeRowsLaw" ∈ lw_T := in_T1 0 rfl rfl
theorem tw_1 : Cond.initialized "GradeRows" ∈ lw_T := in_T1 1 rfl rfl
theorem tw_2 : Cond.initialized "GradeRowsModel" ∈ lw_T := in_T1 2 rfl rfl
theorem tw_3 : Cond.initialized "GradeRows$Step" ∈ lw_T := in_T1 3 rfl rfl
theorem tw_4 : Cond.initialized "GradeRows$Use" ∈ lw_T := in_T1 4 rfl rfl
theorem tw_5 : Cond.initialized "GradeRows$Guess" ∈ lw_T := in_T1 5 rfl rfl
theorem tw_6 : Cond.initialized "java/lang/Math" ∈ lw_T := in_T1 6 rfl rfl
theorem tw_7 : Cond.initialized "GradeRows$Kept" ∈ lw_T := in_T1 7 rfl rfl
theorem tw_8 : Cond.initialized "java/lang/Long" ∈ lw_T := in_T1 8 rfl rfl
theorem tw_9 : Cond.initialized "java/lang/Integer" ∈ lw_T := in_T1 9 rfl rfl
theorem tw_10 : Cond.classLink "GradeRowsLaw" 7 "GradeRows" ∈ lw_T := in_T1 10 rfl rfl
theorem tw_11 : Cond.instantiable "GradeRows" 11 ∈ lw_T := in_T1 11 rfl rfl
theorem tw_12 : Cond.methodLink "GradeRowsLaw" 9 ⟨"GradeRows", "<init>", "()V"⟩ ∈ lw_T := in_T1 12 rfl rfl
theorem tw_13 : Cond.instanceMethod ⟨"GradeRows", "<init>", "()V"⟩ ∈ lw_T := in_T1 13 rfl rfl
theorem tw_14 : Cond.code ⟨"GradeRows", "<init>", "()V"⟩ prog_1_method_1_code 1 none ∈ lw_T := in_T1 14 rfl rfl
theorem tw_15 : Cond.methodLink "GradeRows" 1 ⟨"java/lang/Object", "<init>", "()V"⟩ ∈ lw_T := in_T1 15 rfl rfl
theorem tw_16 : Cond.instanceMethod ⟨"java/lang/Object", "<init>", "()V"⟩ ∈ lw_T := in_T1 16 rfl rfl
theorem tw_17 : Cond.code ⟨"java/lang/Object", "<init>", "()V"⟩ object_method_1_code 1 none ∈ lw_T := in_T1 17 rfl rfl
theorem tw_18 : Cond.classLink "GradeRows" 16 "GradeRows$Step" ∈ lw_T := in_T1 18 rfl rfl
theorem nw_19 : Cond.arrayOver (.object "GradeRows$Step") ∈ tables_1 := in_N1 19 rfl
theorem tw_20 : Cond.classLink "GradeRows" 29 "GradeRows$Kept" ∈ lw_T := in_T1 20 rfl rfl
theorem nw_21 : Cond.arrayOver (.object "GradeRows$Kept") ∈ tables_1 := in_N1 21 rfl
theorem tw_22 : Cond.fieldLink "GradeRows" 9 "GradeRows" "weights" "[I" ∈ lw_T := in_T1 22 rfl rfl
theorem nw_23 : Cond.fieldLinkNest "GradeRows$Use" 29 "GradeRows" "weights" "[I" "GradeRows" ∈ tables_1 := in_N1 23 rfl
theorem tw_24 : Cond.fieldLink "GradeRows" 13 "GradeRows" "extras" "[I" ∈ lw_T := in_T1 24 rfl rfl
theorem nw_25 : Cond.fieldLinkNest "GradeRows$Use" 25 "GradeRows" "extras" "[I" "GradeRows" ∈ tables_1 := in_N1 25 rfl
theorem tw_26 : Cond.fieldLink "GradeRows" 36 "GradeRows" "rules" "I" ∈ lw_T := in_T1 26 rfl rfl
theorem tw_27 : Cond.fieldLink "GradeRows" 18 "GradeRows" "steps" "[LGradeRows$Step;" ∈ lw_T := in_T1 27 rfl rfl
theorem nw_28 : Cond.fieldLinkNest "GradeRows$Guess" 15 "GradeRows" "steps" "[LGradeRows$Step;" "GradeRows" ∈ tables_1 := in_N1 28 rfl
theorem nw_29 : Cond.fieldLinkNest "GradeRows$Kept" 7 "GradeRows" "many" "I" "GradeRows" ∈ tables_1 := in_N1 29 rfl
theorem tw_30 : Cond.fieldLink "GradeRows" 40 "GradeRows" "many" "I" ∈ lw_T := in_T1 30 rfl rfl
theorem tw_31 : Cond.fieldLink "GradeRows" 57 "GradeRows" "cursor" "I" ∈ lw_T := in_T1 31 rfl rfl
theorem tw_32 : Cond.fieldLink "GradeRows" 22 "GradeRows" "lows" "[J" ∈ lw_T := in_T1 32 rfl rfl
theorem tw_33 : Cond.fieldLink "GradeRows" 26 "GradeRows" "highs" "[J" ∈ lw_T := in_T1 33 rfl rfl
theorem tw_34 : Cond.fieldLink "GradeRows" 78 "GradeRows" "classes" "I" ∈ lw_T := in_T1 34 rfl rfl
theorem tw_35 : Cond.fieldLink "GradeRows" 31 "GradeRows" "kept" "[LGradeRows$Kept;" ∈ lw_T := in_T1 35 rfl rfl
theorem tw_36 : Cond.fieldLink "GradeRows" 118 "GradeRows" "keeps" "I" ∈ lw_T := in_T1 36 rfl rfl
theorem tw_37 : Cond.laysFinal "GradeRows" "GradeRows" "weights" "[I" ∈ lw_T := in_T1 37 rfl rfl
theorem tw_39 : Cond.laysFinal "GradeRows" "GradeRows" "extras" "[I" ∈ lw_T := in_T1 39 rfl rfl
theorem tw_41 : Cond.lays "GradeRows" "GradeRows" "rules" "I" ∈ lw_T := in_T1 41 rfl rfl
theorem tw_43 : Cond.laysFinal "GradeRows" "GradeRows" "steps" "[LGradeRows$Step;" ∈ lw_T := in_T1 43 rfl rfl
theorem tw_45 : Cond.lays "GradeRows" "GradeRows" "many" "I" ∈ lw_T := in_T1 45 rfl rfl
theorem tw_47 : Cond.lays "GradeRows" "GradeRows" "cursor" "I" ∈ lw_T := in_T1 47 rfl rfl
theorem tw_49 : Cond.laysFinal "GradeRows" "GradeRows" "lows" "[J" ∈ lw_T := in_T1 49 rfl rfl
theorem tw_51 : Cond.laysFinal "GradeRows" "GradeRows" "highs" "[J" ∈ lw_T := in_T1 51 rfl rfl
theorem tw_53 : Cond.lays "GradeRows" "GradeRows" "classes" "I" ∈ lw_T := in_T1 53 rfl rfl
theorem tw_55 : Cond.laysFinal "GradeRows" "GradeRows" "kept" "[LGradeRows$Kept;" ∈ lw_T := in_T1 55 rfl rfl
theorem tw_57 : Cond.lays "GradeRows" "GradeRows" "keeps" "I" ∈ lw_T := in_T1 57 rfl rfl
theorem tw_60 : Cond.arrayClass .int ∈ lw_T := in_T1 60 rfl rfl
theorem tw_61 : Cond.arrayClass .long ∈ lw_T := in_T1 61 rfl rfl
theorem tw_62 : Cond.methodLink "GradeRowsLaw" 13 ⟨"GradeRows", "rule", "(II)I"⟩ ∈ lw_T := in_T1 62 rfl rfl
theorem tw_63 : Cond.instanceMethod ⟨"GradeRows", "rule", "(II)I"⟩ ∈ lw_T := in_T1 63 rfl rfl
theorem tw_64 : Cond.selects "GradeRows" ⟨"GradeRows", "rule", "(II)I"⟩ ⟨"GradeRows", "rule", "(II)I"⟩ ∈ lw_T := in_T1 64 rfl rfl
theorem tw_65 : Cond.code ⟨"GradeRows", "rule", "(II)I"⟩ prog_1_method_2_code 3 (some .int) ∈ lw_T := in_T1 65 rfl rfl
theorem tw_66 : Cond.constant "GradeRows" 35 (100000 : Int32) ∈ lw_T := in_T1 66 rfl rfl
theorem tw_67 : Cond.methodLink "GradeRowsLaw" 18 ⟨"GradeRows", "used", "(III)I"⟩ ∈ lw_T := in_T1 67 rfl rfl
theorem tw_68 : Cond.instanceMethod ⟨"GradeRows", "used", "(III)I"⟩ ∈ lw_T := in_T1 68 rfl rfl
theorem tw_69 : Cond.selects "GradeRows" ⟨"GradeRows", "used", "(III)I"⟩ ⟨"GradeRows", "used", "(III)I"⟩ ∈ lw_T := in_T1 69 rfl rfl
theorem tw_70 : Cond.code ⟨"GradeRows", "used", "(III)I"⟩ prog_1_method_4_code 4 (some .int) ∈ lw_T := in_T1 70 rfl rfl
theorem tw_71 : Cond.classLink "GradeRows" 43 "GradeRows$Use" ∈ lw_T := in_T1 71 rfl rfl
theorem tw_72 : Cond.instantiable "GradeRows$Use" 3 ∈ lw_T := in_T1 72 rfl rfl
theorem tw_73 : Cond.methodLink "GradeRows" 45 ⟨"GradeRows$Use", "<init>", "(III)V"⟩ ∈ lw_T := in_T1 73 rfl rfl
theorem tw_74 : Cond.instanceMethod ⟨"GradeRows$Use", "<init>", "(III)V"⟩ ∈ lw_T := in_T1 74 rfl rfl
theorem tw_75 : Cond.code ⟨"GradeRows$Use", "<init>", "(III)V"⟩ prog_5_method_1_code 4 none ∈ lw_T := in_T1 75 rfl rfl
theorem nw_76 : Cond.methodLinkNest "GradeRows$Use" 3 ⟨"GradeRows$Step", "<init>", "()V"⟩ "GradeRows" ∈ tables_1 := in_N1 76 rfl
theorem tw_77 : Cond.instanceMethod ⟨"GradeRows$Step", "<init>", "()V"⟩ ∈ lw_T := in_T1 77 rfl rfl
theorem tw_78 : Cond.code ⟨"GradeRows$Step", "<init>", "()V"⟩ prog_4_method_1_code 1 none ∈ lw_T := in_T1 78 rfl rfl
theorem tw_79 : Cond.methodLink "GradeRows$Step" 3 ⟨"java/lang/Object", "<init>", "()V"⟩ ∈ lw_T := in_T1 79 rfl rfl
theorem tw_80 : Cond.fieldLink "GradeRows$Use" 9 "GradeRows$Use" "rule" "I" ∈ lw_T := in_T1 80 rfl rfl
theorem tw_81 : Cond.fieldLink "GradeRows$Use" 15 "GradeRows$Use" "place" "I" ∈ lw_T := in_T1 81 rfl rfl
theorem tw_82 : Cond.fieldLink "GradeRows$Use" 18 "GradeRows$Use" "width" "I" ∈ lw_T := in_T1 82 rfl rfl
theorem tw_83 : Cond.laysFinal "GradeRows$Use" "GradeRows$Use" "rule" "I" ∈ lw_T := in_T1 83 rfl rfl
theorem tw_85 : Cond.laysFinal "GradeRows$Use" "GradeRows$Use" "place" "I" ∈ lw_T := in_T1 85 rfl rfl
theorem tw_87 : Cond.laysFinal "GradeRows$Use" "GradeRows$Use" "width" "I" ∈ lw_T := in_T1 87 rfl rfl
theorem tw_90 : Cond.methodLink "GradeRows" 48 ⟨"GradeRows", "add", "(LGradeRows$Step;)I"⟩ ∈ lw_T := in_T1 90 rfl rfl
theorem tw_92 : Cond.instanceMethod ⟨"GradeRows", "add", "(LGradeRows$Step;)I"⟩ ∈ lw_T := in_T1 92 rfl rfl
theorem tw_93 : Cond.code ⟨"GradeRows", "add", "(LGradeRows$Step;)I"⟩ prog_1_method_3_code 2 (some .int) ∈ lw_T := in_T1 93 rfl rfl
theorem tw_94 : Cond.methodLink "GradeRowsLaw" 23 ⟨"GradeRows", "guess", "(I)I"⟩ ∈ lw_T := in_T1 94 rfl rfl
theorem tw_95 : Cond.instanceMethod ⟨"GradeRows", "guess", "(I)I"⟩ ∈ lw_T := in_T1 95 rfl rfl
theorem tw_96 : Cond.selects "GradeRows" ⟨"GradeRows", "guess", "(I)I"⟩ ⟨"GradeRows", "guess", "(I)I"⟩ ∈ lw_T := in_T1 96 rfl rfl
theorem tw_97 : Cond.code ⟨"GradeRows", "guess", "(I)I"⟩ prog_1_method_5_code 2 (some .int) ∈ lw_T := in_T1 97 rfl rfl
theorem tw_98 : Cond.classLink "GradeRows" 52 "GradeRows$Guess" ∈ lw_T := in_T1 98 rfl rfl
theorem tw_99 : Cond.instantiable "GradeRows$Guess" 1 ∈ lw_T := in_T1 99 rfl rfl
theorem tw_100 : Cond.methodLink "GradeRows" 54 ⟨"GradeRows$Guess", "<init>", "(I)V"⟩ ∈ lw_T := in_T1 100 rfl rfl
theorem tw_101 : Cond.instanceMethod ⟨"GradeRows$Guess", "<init>", "(I)V"⟩ ∈ lw_T := in_T1 101 rfl rfl
theorem tw_102 : Cond.code ⟨"GradeRows$Guess", "<init>", "(I)V"⟩ prog_2_method_1_code 2 none ∈ lw_T := in_T1 102 rfl rfl
theorem nw_103 : Cond.methodLinkNest "GradeRows$Guess" 3 ⟨"GradeRows$Step", "<init>", "()V"⟩ "GradeRows" ∈ tables_1 := in_N1 103 rfl
theorem tw_104 : Cond.fieldLink "GradeRows$Guess" 9 "GradeRows$Guess" "depth" "I" ∈ lw_T := in_T1 104 rfl rfl
theorem tw_105 : Cond.laysFinal "GradeRows$Guess" "GradeRows$Guess" "depth" "I" ∈ lw_T := in_T1 105 rfl rfl
theorem tw_108 : Cond.methodLink "GradeRowsLaw" 28 ⟨"GradeRows", "drop", "()Z"⟩ ∈ lw_T := in_T1 108 rfl rfl
theorem tw_109 : Cond.instanceMethod ⟨"GradeRows", "drop", "()Z"⟩ ∈ lw_T := in_T1 109 rfl rfl
theorem tw_110 : Cond.selects "GradeRows" ⟨"GradeRows", "drop", "()Z"⟩ ⟨"GradeRows", "drop", "()Z"⟩ ∈ lw_T := in_T1 110 rfl rfl
theorem tw_111 : Cond.code ⟨"GradeRows", "drop", "()Z"⟩ prog_1_method_6_code 1 (some .boolean) ∈ lw_T := in_T1 111 rfl rfl
theorem tw_112 : Cond.methodLink "GradeRows" 60 ⟨"java/lang/Math", "min", "(II)I"⟩ ∈ lw_T := in_T1 112 rfl rfl
theorem tw_113 : Cond.static ⟨"java/lang/Math", "min", "(II)I"⟩ ∈ lw_T := in_T1 113 rfl rfl
theorem tw_114 : Cond.code ⟨"java/lang/Math", "min", "(II)I"⟩ prog_10_method_69_code 2 (some .int) ∈ lw_T := in_T1 114 rfl rfl
theorem tw_115 : Cond.methodLink "GradeRowsLaw" 33 ⟨"GradeRows", "cost", "(I)J"⟩ ∈ lw_T := in_T1 115 rfl rfl
theorem tw_116 : Cond.instanceMethod ⟨"GradeRows", "cost", "(I)J"⟩ ∈ lw_T := in_T1 116 rfl rfl
theorem tw_117 : Cond.selects "GradeRows" ⟨"GradeRows", "cost", "(I)J"⟩ ⟨"GradeRows", "cost", "(I)J"⟩ ∈ lw_T := in_T1 117 rfl rfl
theorem tw_118 : Cond.code ⟨"GradeRows", "cost", "(I)J"⟩ prog_1_method_8_code 2 (some .long) ∈ lw_T := in_T1 118 rfl rfl
theorem tw_119 : Cond.constantLong "GradeRows" 70 (-1 : Int64) ∈ lw_T := in_T1 119 rfl rfl
theorem tw_120 : Cond.methodLink "GradeRows" 72 ⟨"GradeRows$Step", "cost", "(LGradeRows;I)J"⟩ ∈ lw_T := in_T1 120 rfl rfl
theorem nw_121 : Cond.declares ⟨"GradeRows$Step", "cost", "(LGradeRows;I)J"⟩ ∈ tables_1 := in_N1 121 rfl
theorem tw_122 : Cond.sameMethod "GradeRows$Step" "GradeRows$Step" "cost" "(LGradeRows;I)J" ∈ lw_T := in_T1 122 rfl rfl
theorem tw_123 : Cond.selects "GradeRows$Guess" ⟨"GradeRows$Step", "cost", "(LGradeRows;I)J"⟩ ⟨"GradeRows$Guess", "cost", "(LGradeRows;I)J"⟩ ∈ lw_T := in_T1 123 rfl rfl
theorem tw_124 : Cond.instanceMethod ⟨"GradeRows$Guess", "cost", "(LGradeRows;I)J"⟩ ∈ lw_T := in_T1 124 rfl rfl
theorem tw_125 : Cond.code ⟨"GradeRows$Guess", "cost", "(LGradeRows;I)J"⟩ prog_2_method_2_code 4 (some .long) ∈ lw_T := in_T1 125 rfl rfl
theorem tw_126 : Cond.methodLink "GradeRows$Guess" 19 ⟨"GradeRows$Step", "rule", "()I"⟩ ∈ lw_T := in_T1 126 rfl rfl
theorem tw_127 : Cond.instanceMethod ⟨"GradeRows$Step", "rule", "()I"⟩ ∈ lw_T := in_T1 127 rfl rfl
theorem tw_128 : Cond.sameMethod "GradeRows$Step" "GradeRows$Step" "rule" "()I" ∈ lw_T := in_T1 128 rfl rfl
theorem tw_129 : Cond.selects "GradeRows$Guess" ⟨"GradeRows$Step", "rule", "()I"⟩ ⟨"GradeRows$Step", "rule", "()I"⟩ ∈ lw_T := in_T1 129 rfl rfl
theorem tw_130 : Cond.selects "GradeRows$Use" ⟨"GradeRows$Step", "rule", "()I"⟩ ⟨"GradeRows$Use", "rule", "()I"⟩ ∈ lw_T := in_T1 130 rfl rfl
theorem tw_131 : Cond.instanceMethod ⟨"GradeRows$Use", "rule", "()I"⟩ ∈ lw_T := in_T1 131 rfl rfl
theorem tw_132 : Cond.code ⟨"GradeRows$Use", "rule", "()I"⟩ prog_5_method_5_code 1 (some .int) ∈ lw_T := in_T1 132 rfl rfl
theorem tw_133 : Cond.code ⟨"GradeRows$Step", "rule", "()I"⟩ prog_4_method_5_code 1 (some .int) ∈ lw_T := in_T1 133 rfl rfl
theorem tw_134 : Cond.constantLong "GradeRows$Guess" 23 (1000 : Int64) ∈ lw_T := in_T1 134 rfl rfl
theorem tw_135 : Cond.selects "GradeRows$Use" ⟨"GradeRows$Step", "cost", "(LGradeRows;I)J"⟩ ⟨"GradeRows$Use", "cost", "(LGradeRows;I)J"⟩ ∈ lw_T := in_T1 135 rfl rfl
theorem tw_136 : Cond.instanceMethod ⟨"GradeRows$Use", "cost", "(LGradeRows;I)J"⟩ ∈ lw_T := in_T1 136 rfl rfl
theorem tw_137 : Cond.code ⟨"GradeRows$Use", "cost", "(LGradeRows;I)J"⟩ prog_5_method_2_code 5 (some .long) ∈ lw_T := in_T1 137 rfl rfl
theorem nw_138 : Cond.methodLinkNest "GradeRows$Use" 21 ⟨"GradeRows", "isFirst", "(II)Z"⟩ "GradeRows" ∈ tables_1 := in_N1 138 rfl
theorem tw_140 : Cond.instanceMethod ⟨"GradeRows", "isFirst", "(II)Z"⟩ ∈ lw_T := in_T1 140 rfl rfl
theorem tw_141 : Cond.code ⟨"GradeRows", "isFirst", "(II)Z"⟩ prog_1_method_7_code 4 (some .boolean) ∈ lw_T := in_T1 141 rfl rfl
theorem tw_142 : Cond.methodLink "GradeRows" 66 ⟨"GradeRows$Step", "rule", "()I"⟩ ∈ lw_T := in_T1 142 rfl rfl
theorem tw_143 : Cond.constantLong "GradeRows$Use" 32 (4 : Int64) ∈ lw_T := in_T1 143 rfl rfl
theorem tw_144 : Cond.methodLink "GradeRowsLaw" 38 ⟨"GradeRows", "sum", "(I)J"⟩ ∈ lw_T := in_T1 144 rfl rfl
theorem tw_145 : Cond.instanceMethod ⟨"GradeRows", "sum", "(I)J"⟩ ∈ lw_T := in_T1 145 rfl rfl
theorem tw_146 : Cond.selects "GradeRows" ⟨"GradeRows", "sum", "(I)J"⟩ ⟨"GradeRows", "sum", "(I)J"⟩ ∈ lw_T := in_T1 146 rfl rfl
theorem tw_147 : Cond.code ⟨"GradeRows", "sum", "(I)J"⟩ prog_1_method_9_code 5 (some .long) ∈ lw_T := in_T1 147 rfl rfl
theorem tw_148 : Cond.methodLink "GradeRowsLaw" 44 ⟨"GradeRows", "cls", "(JJ)I"⟩ ∈ lw_T := in_T1 148 rfl rfl
theorem tw_149 : Cond.instanceMethod ⟨"GradeRows", "cls", "(JJ)I"⟩ ∈ lw_T := in_T1 149 rfl rfl
theorem tw_150 : Cond.selects "GradeRows" ⟨"GradeRows", "cls", "(JJ)I"⟩ ⟨"GradeRows", "cls", "(JJ)I"⟩ ∈ lw_T := in_T1 150 rfl rfl
theorem tw_151 : Cond.code ⟨"GradeRows", "cls", "(JJ)I"⟩ prog_1_method_10_code 6 (some .int) ∈ lw_T := in_T1 151 rfl rfl
theorem tw_152 : Cond.constantLong "GradeRows" 76 (100000000 : Int64) ∈ lw_T := in_T1 152 rfl rfl
theorem tw_153 : Cond.methodLink "GradeRowsLaw" 49 ⟨"GradeRows", "grade", "()I"⟩ ∈ lw_T := in_T1 153 rfl rfl
theorem tw_154 : Cond.instanceMethod ⟨"GradeRows", "grade", "()I"⟩ ∈ lw_T := in_T1 154 rfl rfl
theorem tw_155 : Cond.selects "GradeRows" ⟨"GradeRows", "grade", "()I"⟩ ⟨"GradeRows", "grade", "()I"⟩ ∈ lw_T := in_T1 155 rfl rfl
theorem tw_156 : Cond.code ⟨"GradeRows", "grade", "()I"⟩ prog_1_method_12_code 1 (some .int) ∈ lw_T := in_T1 156 rfl rfl
theorem tw_157 : Cond.methodLink "GradeRows" 81 ⟨"GradeRows", "sum", "(I)J"⟩ ∈ lw_T := in_T1 157 rfl rfl
theorem tw_158 : Cond.methodLink "GradeRows" 85 ⟨"GradeRows", "classOf", "(J)I"⟩ ∈ lw_T := in_T1 158 rfl rfl
theorem tw_160 : Cond.instanceMethod ⟨"GradeRows", "classOf", "(J)I"⟩ ∈ lw_T := in_T1 160 rfl rfl
theorem tw_161 : Cond.code ⟨"GradeRows", "classOf", "(J)I"⟩ prog_1_method_11_code 4 (some .int) ∈ lw_T := in_T1 161 rfl rfl
theorem tw_162 : Cond.methodLink "GradeRowsLaw" 54 ⟨"GradeRows", "rank", "()I"⟩ ∈ lw_T := in_T1 162 rfl rfl
theorem tw_163 : Cond.instanceMethod ⟨"GradeRows", "rank", "()I"⟩ ∈ lw_T := in_T1 163 rfl rfl
theorem tw_164 : Cond.selects "GradeRows" ⟨"GradeRows", "rank", "()I"⟩ ⟨"GradeRows", "rank", "()I"⟩ ∈ lw_T := in_T1 164 rfl rfl
theorem tw_165 : Cond.code ⟨"GradeRows", "rank", "()I"⟩ prog_1_method_13_code 4 (some .int) ∈ lw_T := in_T1 165 rfl rfl
theorem tw_166 : Cond.methodLink "GradeRows" 89 ⟨"GradeRows", "grade", "()I"⟩ ∈ lw_T := in_T1 166 rfl rfl
theorem tw_167 : Cond.methodLink "GradeRowsLaw" 58 ⟨"GradeRows", "gap", "(J)J"⟩ ∈ lw_T := in_T1 167 rfl rfl
theorem tw_168 : Cond.instanceMethod ⟨"GradeRows", "gap", "(J)J"⟩ ∈ lw_T := in_T1 168 rfl rfl
theorem tw_169 : Cond.selects "GradeRows" ⟨"GradeRows", "gap", "(J)J"⟩ ⟨"GradeRows", "gap", "(J)J"⟩ ∈ lw_T := in_T1 169 rfl rfl
theorem tw_170 : Cond.code ⟨"GradeRows", "gap", "(J)J"⟩ prog_1_method_14_code 6 (some .long) ∈ lw_T := in_T1 170 rfl rfl
theorem tw_171 : Cond.methodLink "GradeRowsLaw" 63 ⟨"GradeRows", "stuck", "(I)I"⟩ ∈ lw_T := in_T1 171 rfl rfl
theorem tw_172 : Cond.instanceMethod ⟨"GradeRows", "stuck", "(I)I"⟩ ∈ lw_T := in_T1 172 rfl rfl
theorem tw_173 : Cond.selects "GradeRows" ⟨"GradeRows", "stuck", "(I)I"⟩ ⟨"GradeRows", "stuck", "(I)I"⟩ ∈ lw_T := in_T1 173 rfl rfl
theorem tw_174 : Cond.code ⟨"GradeRows", "stuck", "(I)I"⟩ prog_1_method_16_code 4 (some .int) ∈ lw_T := in_T1 174 rfl rfl
theorem tw_175 : Cond.methodLink "GradeRows" 92 ⟨"GradeRows$Step", "isAlone", "()Z"⟩ ∈ lw_T := in_T1 175 rfl rfl
theorem tw_176 : Cond.instanceMethod ⟨"GradeRows$Step", "isAlone", "()Z"⟩ ∈ lw_T := in_T1 176 rfl rfl
theorem tw_177 : Cond.sameMethod "GradeRows$Step" "GradeRows$Step" "isAlone" "()Z" ∈ lw_T := in_T1 177 rfl rfl
theorem tw_178 : Cond.selects "GradeRows$Guess" ⟨"GradeRows$Step", "isAlone", "()Z"⟩ ⟨"GradeRows$Step", "isAlone", "()Z"⟩ ∈ lw_T := in_T1 178 rfl rfl
theorem tw_179 : Cond.selects "GradeRows$Use" ⟨"GradeRows$Step", "isAlone", "()Z"⟩ ⟨"GradeRows$Use", "isAlone", "()Z"⟩ ∈ lw_T := in_T1 179 rfl rfl
theorem tw_180 : Cond.instanceMethod ⟨"GradeRows$Use", "isAlone", "()Z"⟩ ∈ lw_T := in_T1 180 rfl rfl
theorem tw_181 : Cond.code ⟨"GradeRows$Use", "isAlone", "()Z"⟩ prog_5_method_7_code 1 (some .boolean) ∈ lw_T := in_T1 181 rfl rfl
theorem tw_182 : Cond.code ⟨"GradeRows$Step", "isAlone", "()Z"⟩ prog_4_method_7_code 1 (some .boolean) ∈ lw_T := in_T1 182 rfl rfl
theorem tw_183 : Cond.methodLink "GradeRows" 96 ⟨"GradeRows$Step", "place", "()I"⟩ ∈ lw_T := in_T1 183 rfl rfl
theorem tw_184 : Cond.instanceMethod ⟨"GradeRows$Step", "place", "()I"⟩ ∈ lw_T := in_T1 184 rfl rfl
theorem tw_185 : Cond.sameMethod "GradeRows$Step" "GradeRows$Step" "place" "()I" ∈ lw_T := in_T1 185 rfl rfl
theorem tw_186 : Cond.selects "GradeRows$Guess" ⟨"GradeRows$Step", "place", "()I"⟩ ⟨"GradeRows$Step", "place", "()I"⟩ ∈ lw_T := in_T1 186 rfl rfl
theorem tw_187 : Cond.selects "GradeRows$Use" ⟨"GradeRows$Step", "place", "()I"⟩ ⟨"GradeRows$Use", "place", "()I"⟩ ∈ lw_T := in_T1 187 rfl rfl
theorem tw_188 : Cond.instanceMethod ⟨"GradeRows$Use", "place", "()I"⟩ ∈ lw_T := in_T1 188 rfl rfl
theorem tw_189 : Cond.code ⟨"GradeRows$Use", "place", "()I"⟩ prog_5_method_6_code 1 (some .int) ∈ lw_T := in_T1 189 rfl rfl
theorem tw_190 : Cond.code ⟨"GradeRows$Step", "place", "()I"⟩ prog_4_method_6_code 1 (some .int) ∈ lw_T := in_T1 190 rfl rfl
theorem tw_191 : Cond.methodLink "GradeRows" 99 ⟨"GradeRows", "isStuckAhead", "(II)Z"⟩ ∈ lw_T := in_T1 191 rfl rfl
theorem tw_193 : Cond.instanceMethod ⟨"GradeRows", "isStuckAhead", "(II)Z"⟩ ∈ lw_T := in_T1 193 rfl rfl
theorem tw_194 : Cond.code ⟨"GradeRows", "isStuckAhead", "(II)Z"⟩ prog_1_method_15_code 4 (some .boolean) ∈ lw_T := in_T1 194 rfl rfl
theorem tw_195 : Cond.methodLink "GradeRowsLaw" 67 ⟨"GradeRows", "run", "()I"⟩ ∈ lw_T := in_T1 195 rfl rfl
theorem tw_196 : Cond.instanceMethod ⟨"GradeRows", "run", "()I"⟩ ∈ lw_T := in_T1 196 rfl rfl
theorem tw_197 : Cond.selects "GradeRows" ⟨"GradeRows", "run", "()I"⟩ ⟨"GradeRows", "run", "()I"⟩ ∈ lw_T := in_T1 197 rfl rfl
theorem tw_198 : Cond.code ⟨"GradeRows", "run", "()I"⟩ prog_1_method_17_code 4 (some .int) ∈ lw_T := in_T1 198 rfl rfl
theorem tw_199 : Cond.methodLink "GradeRows" 103 ⟨"GradeRows", "cost", "(I)J"⟩ ∈ lw_T := in_T1 199 rfl rfl
theorem tw_200 : Cond.methodLink "GradeRows" 105 ⟨"java/lang/Math", "max", "(II)I"⟩ ∈ lw_T := in_T1 200 rfl rfl
theorem tw_201 : Cond.static ⟨"java/lang/Math", "max", "(II)I"⟩ ∈ lw_T := in_T1 201 rfl rfl
theorem tw_202 : Cond.code ⟨"java/lang/Math", "max", "(II)I"⟩ prog_10_method_65_code 2 (some .int) ∈ lw_T := in_T1 202 rfl rfl
theorem tw_203 : Cond.methodLink "GradeRowsLaw" 71 ⟨"GradeRows", "hardest", "()I"⟩ ∈ lw_T := in_T1 203 rfl rfl
theorem tw_204 : Cond.instanceMethod ⟨"GradeRows", "hardest", "()I"⟩ ∈ lw_T := in_T1 204 rfl rfl
theorem tw_205 : Cond.selects "GradeRows" ⟨"GradeRows", "hardest", "()I"⟩ ⟨"GradeRows", "hardest", "()I"⟩ ∈ lw_T := in_T1 205 rfl rfl
theorem tw_206 : Cond.code ⟨"GradeRows", "hardest", "()I"⟩ prog_1_method_18_code 8 (some .int) ∈ lw_T := in_T1 206 rfl rfl
theorem tw_207 : Cond.methodLink "GradeRows" 108 ⟨"java/lang/Math", "max", "(JJ)J"⟩ ∈ lw_T := in_T1 207 rfl rfl
theorem tw_208 : Cond.static ⟨"java/lang/Math", "max", "(JJ)J"⟩ ∈ lw_T := in_T1 208 rfl rfl
theorem tw_209 : Cond.code ⟨"java/lang/Math", "max", "(JJ)J"⟩ prog_10_method_66_code 4 (some .long) ∈ lw_T := in_T1 209 rfl rfl
theorem tw_210 : Cond.methodLink "GradeRowsLaw" 75 ⟨"GradeRows", "go", "(I)Z"⟩ ∈ lw_T := in_T1 210 rfl rfl
theorem tw_211 : Cond.instanceMethod ⟨"GradeRows", "go", "(I)Z"⟩ ∈ lw_T := in_T1 211 rfl rfl
theorem tw_212 : Cond.selects "GradeRows" ⟨"GradeRows", "go", "(I)Z"⟩ ⟨"GradeRows", "go", "(I)Z"⟩ ∈ lw_T := in_T1 212 rfl rfl
theorem tw_213 : Cond.code ⟨"GradeRows", "go", "(I)Z"⟩ prog_1_method_19_code 2 (some .boolean) ∈ lw_T := in_T1 213 rfl rfl
theorem tw_214 : Cond.methodLink "GradeRowsLaw" 80 ⟨"GradeRows", "hint", "(I)I"⟩ ∈ lw_T := in_T1 214 rfl rfl
theorem tw_215 : Cond.instanceMethod ⟨"GradeRows", "hint", "(I)I"⟩ ∈ lw_T := in_T1 215 rfl rfl
theorem tw_216 : Cond.selects "GradeRows" ⟨"GradeRows", "hint", "(I)I"⟩ ⟨"GradeRows", "hint", "(I)I"⟩ ∈ lw_T := in_T1 216 rfl rfl
theorem tw_217 : Cond.code ⟨"GradeRows", "hint", "(I)I"⟩ prog_1_method_20_code 3 (some .int) ∈ lw_T := in_T1 217 rfl rfl
theorem tw_218 : Cond.methodLink "GradeRows" 111 ⟨"GradeRows$Step", "hint", "(I)I"⟩ ∈ lw_T := in_T1 218 rfl rfl
theorem nw_219 : Cond.declares ⟨"GradeRows$Step", "hint", "(I)I"⟩ ∈ tables_1 := in_N1 219 rfl
theorem tw_220 : Cond.sameMethod "GradeRows$Step" "GradeRows$Step" "hint" "(I)I" ∈ lw_T := in_T1 220 rfl rfl
theorem tw_221 : Cond.selects "GradeRows$Guess" ⟨"GradeRows$Step", "hint", "(I)I"⟩ ⟨"GradeRows$Guess", "hint", "(I)I"⟩ ∈ lw_T := in_T1 221 rfl rfl
theorem tw_222 : Cond.instanceMethod ⟨"GradeRows$Guess", "hint", "(I)I"⟩ ∈ lw_T := in_T1 222 rfl rfl
theorem tw_223 : Cond.code ⟨"GradeRows$Guess", "hint", "(I)I"⟩ prog_2_method_4_code 2 (some .int) ∈ lw_T := in_T1 223 rfl rfl
theorem tw_224 : Cond.selects "GradeRows$Use" ⟨"GradeRows$Step", "hint", "(I)I"⟩ ⟨"GradeRows$Use", "hint", "(I)I"⟩ ∈ lw_T := in_T1 224 rfl rfl
theorem tw_225 : Cond.instanceMethod ⟨"GradeRows$Use", "hint", "(I)I"⟩ ∈ lw_T := in_T1 225 rfl rfl
theorem tw_226 : Cond.code ⟨"GradeRows$Use", "hint", "(I)I"⟩ prog_5_method_4_code 2 (some .int) ∈ lw_T := in_T1 226 rfl rfl
theorem tw_227 : Cond.methodLink "GradeRowsLaw" 84 ⟨"GradeRows", "keep", "()I"⟩ ∈ lw_T := in_T1 227 rfl rfl
theorem tw_228 : Cond.instanceMethod ⟨"GradeRows", "keep", "()I"⟩ ∈ lw_T := in_T1 228 rfl rfl
theorem tw_229 : Cond.selects "GradeRows" ⟨"GradeRows", "keep", "()I"⟩ ⟨"GradeRows", "keep", "()I"⟩ ∈ lw_T := in_T1 229 rfl rfl
theorem tw_230 : Cond.code ⟨"GradeRows", "keep", "()I"⟩ prog_1_method_23_code 1 (some .int) ∈ lw_T := in_T1 230 rfl rfl
theorem tw_231 : Cond.instantiable "GradeRows$Kept" 3 ∈ lw_T := in_T1 231 rfl rfl
theorem tw_232 : Cond.methodLink "GradeRows" 121 ⟨"GradeRows$Kept", "<init>", "(LGradeRows;)V"⟩ ∈ lw_T := in_T1 232 rfl rfl
theorem tw_233 : Cond.instanceMethod ⟨"GradeRows$Kept", "<init>", "(LGradeRows;)V"⟩ ∈ lw_T := in_T1 233 rfl rfl
theorem tw_234 : Cond.code ⟨"GradeRows$Kept", "<init>", "(LGradeRows;)V"⟩ prog_3_method_1_code 2 none ∈ lw_T := in_T1 234 rfl rfl
theorem tw_235 : Cond.methodLink "GradeRows$Kept" 1 ⟨"java/lang/Object", "<init>", "()V"⟩ ∈ lw_T := in_T1 235 rfl rfl
theorem tw_236 : Cond.methodLink "GradeRows$Kept" 13 ⟨"GradeRows", "sum", "(I)J"⟩ ∈ lw_T := in_T1 236 rfl rfl
theorem nw_237 : Cond.methodLinkNest "GradeRows$Kept" 22 ⟨"GradeRows", "sortedCosts", "()[J"⟩ "GradeRows" ∈ tables_1 := in_N1 237 rfl
theorem tw_239 : Cond.instanceMethod ⟨"GradeRows", "sortedCosts", "()[J"⟩ ∈ lw_T := in_T1 239 rfl rfl
theorem tw_240 : Cond.code ⟨"GradeRows", "sortedCosts", "()[J"⟩ prog_1_method_21_code 6 (some (.array .long)) ∈ lw_T := in_T2 0 rfl rfl
theorem nw_241 : Cond.methodLinkNest "GradeRows$Kept" 30 ⟨"GradeRows", "sortedCodes", "()[I"⟩ "GradeRows" ∈ tables_1 := in_N2 1 rfl
theorem tw_243 : Cond.instanceMethod ⟨"GradeRows", "sortedCodes", "()[I"⟩ ∈ lw_T := in_T2 3 rfl rfl
theorem tw_244 : Cond.code ⟨"GradeRows", "sortedCodes", "()[I"⟩ prog_1_method_22_code 5 (some (.array .int)) ∈ lw_T := in_T2 4 rfl rfl
theorem tw_245 : Cond.methodLink "GradeRows" 115 ⟨"GradeRows$Step", "code", "()I"⟩ ∈ lw_T := in_T2 5 rfl rfl
theorem nw_246 : Cond.declares ⟨"GradeRows$Step", "code", "()I"⟩ ∈ tables_1 := in_N2 6 rfl
theorem tw_247 : Cond.sameMethod "GradeRows$Step" "GradeRows$Step" "code" "()I" ∈ lw_T := in_T2 7 rfl rfl
theorem tw_248 : Cond.selects "GradeRows$Guess" ⟨"GradeRows$Step", "code", "()I"⟩ ⟨"GradeRows$Guess", "code", "()I"⟩ ∈ lw_T := in_T2 8 rfl rfl
theorem tw_249 : Cond.instanceMethod ⟨"GradeRows$Guess", "code", "()I"⟩ ∈ lw_T := in_T2 9 rfl rfl
theorem tw_250 : Cond.code ⟨"GradeRows$Guess", "code", "()I"⟩ prog_2_method_3_code 1 (some .int) ∈ lw_T := in_T2 10 rfl rfl
theorem tw_251 : Cond.selects "GradeRows$Use" ⟨"GradeRows$Step", "code", "()I"⟩ ⟨"GradeRows$Use", "code", "()I"⟩ ∈ lw_T := in_T2 11 rfl rfl
theorem tw_252 : Cond.instanceMethod ⟨"GradeRows$Use", "code", "()I"⟩ ∈ lw_T := in_T2 12 rfl rfl
theorem tw_253 : Cond.code ⟨"GradeRows$Use", "code", "()I"⟩ prog_5_method_3_code 1 (some .int) ∈ lw_T := in_T2 13 rfl rfl
theorem tw_254 : Cond.fieldLink "GradeRows$Kept" 17 "GradeRows$Kept" "sum" "J" ∈ lw_T := in_T2 14 rfl rfl
theorem nw_255 : Cond.fieldLinkNest "GradeRows" 128 "GradeRows$Kept" "sum" "J" "GradeRows" ∈ tables_1 := in_N2 15 rfl
theorem tw_256 : Cond.fieldLink "GradeRows$Kept" 26 "GradeRows$Kept" "costs" "[J" ∈ lw_T := in_T2 16 rfl rfl
theorem nw_257 : Cond.fieldLinkNest "GradeRows" 137 "GradeRows$Kept" "costs" "[J" "GradeRows" ∈ tables_1 := in_N2 17 rfl
theorem tw_258 : Cond.fieldLink "GradeRows$Kept" 34 "GradeRows$Kept" "codes" "[I" ∈ lw_T := in_T2 18 rfl rfl
theorem nw_259 : Cond.fieldLinkNest "GradeRows" 148 "GradeRows$Kept" "codes" "[I" "GradeRows" ∈ tables_1 := in_N2 19 rfl
theorem tw_260 : Cond.laysFinal "GradeRows$Kept" "GradeRows$Kept" "sum" "J" ∈ lw_T := in_T2 20 rfl rfl
theorem tw_262 : Cond.laysFinal "GradeRows$Kept" "GradeRows$Kept" "costs" "[J" ∈ lw_T := in_T2 22 rfl rfl
theorem tw_264 : Cond.laysFinal "GradeRows$Kept" "GradeRows$Kept" "codes" "[I" ∈ lw_T := in_T2 24 rfl rfl
theorem tw_267 : Cond.methodLink "GradeRowsLaw" 88 ⟨"GradeRows", "compare", "(I)I"⟩ ∈ lw_T := in_T2 27 rfl rfl
theorem tw_268 : Cond.instanceMethod ⟨"GradeRows", "compare", "(I)I"⟩ ∈ lw_T := in_T2 28 rfl rfl
theorem tw_269 : Cond.selects "GradeRows" ⟨"GradeRows", "compare", "(I)I"⟩ ⟨"GradeRows", "compare", "(I)I"⟩ ∈ lw_T := in_T2 29 rfl rfl
theorem tw_270 : Cond.code ⟨"GradeRows", "compare", "(I)I"⟩ prog_1_method_25_code 6 (some .int) ∈ lw_T := in_T2 30 rfl rfl
theorem tw_271 : Cond.methodLink "GradeRows" 124 ⟨"GradeRows", "isKept", "(I)Z"⟩ ∈ lw_T := in_T2 31 rfl rfl
theorem tw_273 : Cond.instanceMethod ⟨"GradeRows", "isKept", "(I)Z"⟩ ∈ lw_T := in_T2 33 rfl rfl
theorem tw_274 : Cond.code ⟨"GradeRows", "isKept", "(I)Z"⟩ prog_1_method_24_code 2 (some .boolean) ∈ lw_T := in_T2 34 rfl rfl
theorem tw_275 : Cond.methodLink "GradeRows" 131 ⟨"java/lang/Long", "compare", "(JJ)I"⟩ ∈ lw_T := in_T2 35 rfl rfl
theorem tw_276 : Cond.static ⟨"java/lang/Long", "compare", "(JJ)I"⟩ ∈ lw_T := in_T2 36 rfl rfl
theorem tw_277 : Cond.code ⟨"java/lang/Long", "compare", "(JJ)I"⟩ prog_9_method_42_code 4 (some .int) ∈ lw_T := in_T2 37 rfl rfl
theorem tw_278 : Cond.methodLink "GradeRows" 140 ⟨"java/lang/Integer", "compare", "(II)I"⟩ ∈ lw_T := in_T2 38 rfl rfl
theorem tw_279 : Cond.static ⟨"java/lang/Integer", "compare", "(II)I"⟩ ∈ lw_T := in_T2 39 rfl rfl
theorem tw_280 : Cond.code ⟨"java/lang/Integer", "compare", "(II)I"⟩ prog_8_method_40_code 2 (some .int) ∈ lw_T := in_T2 40 rfl rfl
theorem tw_281 : Cond.methodLink "GradeRows" 144 ⟨"GradeRows", "sortedCosts", "()[J"⟩ ∈ lw_T := in_T2 41 rfl rfl
theorem tw_282 : Cond.methodLink "GradeRowsLaw" 92 ⟨"GradeRows", "same", "(I)Z"⟩ ∈ lw_T := in_T2 42 rfl rfl
theorem tw_283 : Cond.instanceMethod ⟨"GradeRows", "same", "(I)Z"⟩ ∈ lw_T := in_T2 43 rfl rfl
theorem tw_284 : Cond.selects "GradeRows" ⟨"GradeRows", "same", "(I)Z"⟩ ⟨"GradeRows", "same", "(I)Z"⟩ ∈ lw_T := in_T2 44 rfl rfl
theorem tw_285 : Cond.code ⟨"GradeRows", "same", "(I)Z"⟩ prog_1_method_26_code 4 (some .boolean) ∈ lw_T := in_T2 45 rfl rfl
theorem tw_286 : Cond.methodLink "GradeRows" 151 ⟨"GradeRows", "sortedCodes", "()[I"⟩ ∈ lw_T := in_T2 46 rfl rfl
theorem tw_287 : Cond.classLink "GradeRowsLaw" 10 "GradeRowsModel" ∈ lw_T := in_T2 47 rfl rfl
theorem tw_288 : Cond.instantiable "GradeRowsModel" 16 ∈ lw_T := in_T2 48 rfl rfl
theorem tw_289 : Cond.methodLink "GradeRowsLaw" 12 ⟨"GradeRowsModel", "<init>", "()V"⟩ ∈ lw_T := in_T2 49 rfl rfl
theorem tw_290 : Cond.instanceMethod ⟨"GradeRowsModel", "<init>", "()V"⟩ ∈ lw_T := in_T2 50 rfl rfl
theorem tw_291 : Cond.code ⟨"GradeRowsModel", "<init>", "()V"⟩ prog_7_method_1_code 1 none ∈ lw_T := in_T2 51 rfl rfl
theorem tw_292 : Cond.methodLink "GradeRowsModel" 1 ⟨"java/lang/Object", "<init>", "()V"⟩ ∈ lw_T := in_T2 52 rfl rfl
theorem tw_293 : Cond.fieldLink "GradeRowsModel" 45 "GradeRowsModel" "thrown" "I" ∈ lw_T := in_T2 53 rfl rfl
theorem tw_294 : Cond.fieldLink "GradeRowsModel" 50 "GradeRowsModel" "rules" "I" ∈ lw_T := in_T2 54 rfl rfl
theorem tw_295 : Cond.fieldLink "GradeRowsModel" 7 "GradeRowsModel" "weights" "[I" ∈ lw_T := in_T2 55 rfl rfl
theorem tw_296 : Cond.fieldLink "GradeRowsModel" 13 "GradeRowsModel" "extras" "[I" ∈ lw_T := in_T2 56 rfl rfl
theorem tw_297 : Cond.fieldLink "GradeRowsModel" 16 "GradeRowsModel" "sizes" "[I" ∈ lw_T := in_T2 57 rfl rfl
theorem tw_298 : Cond.fieldLink "GradeRowsModel" 19 "GradeRowsModel" "byRule" "[I" ∈ lw_T := in_T2 58 rfl rfl
theorem tw_299 : Cond.fieldLink "GradeRowsModel" 22 "GradeRowsModel" "where" "[I" ∈ lw_T := in_T2 59 rfl rfl
theorem tw_300 : Cond.fieldLink "GradeRowsModel" 25 "GradeRowsModel" "widths" "[I" ∈ lw_T := in_T2 60 rfl rfl
theorem tw_301 : Cond.fieldLink "GradeRowsModel" 90 "GradeRowsModel" "kept" "I" ∈ lw_T := in_T2 61 rfl rfl
theorem tw_302 : Cond.fieldLink "GradeRowsModel" 79 "GradeRowsModel" "classes" "I" ∈ lw_T := in_T2 62 rfl rfl
theorem tw_303 : Cond.fieldLink "GradeRowsModel" 28 "GradeRowsModel" "lows" "[J" ∈ lw_T := in_T2 63 rfl rfl
theorem tw_304 : Cond.fieldLink "GradeRowsModel" 32 "GradeRowsModel" "highs" "[J" ∈ lw_T := in_T2 64 rfl rfl
theorem tw_305 : Cond.fieldLink "GradeRowsModel" 61 "GradeRowsModel" "cursor" "I" ∈ lw_T := in_T2 65 rfl rfl
theorem tw_306 : Cond.fieldLink "GradeRowsModel" 35 "GradeRowsModel" "seen" "[Z" ∈ lw_T := in_T2 66 rfl rfl
theorem tw_307 : Cond.fieldLink "GradeRowsModel" 39 "GradeRowsModel" "mine" "[J" ∈ lw_T := in_T2 67 rfl rfl
theorem tw_308 : Cond.fieldLink "GradeRowsModel" 42 "GradeRowsModel" "theirs" "[J" ∈ lw_T := in_T2 68 rfl rfl
theorem tw_309 : Cond.lays "GradeRowsModel" "GradeRowsModel" "thrown" "I" ∈ lw_T := in_T2 69 rfl rfl
theorem tw_311 : Cond.lays "GradeRowsModel" "GradeRowsModel" "rules" "I" ∈ lw_T := in_T2 71 rfl rfl
theorem tw_313 : Cond.laysFinal "GradeRowsModel" "GradeRowsModel" "weights" "[I" ∈ lw_T := in_T2 73 rfl rfl
theorem tw_315 : Cond.laysFinal "GradeRowsModel" "GradeRowsModel" "extras" "[I" ∈ lw_T := in_T2 75 rfl rfl
theorem tw_317 : Cond.laysFinal "GradeRowsModel" "GradeRowsModel" "sizes" "[I" ∈ lw_T := in_T2 77 rfl rfl
theorem tw_319 : Cond.laysFinal "GradeRowsModel" "GradeRowsModel" "byRule" "[I" ∈ lw_T := in_T2 79 rfl rfl
theorem tw_321 : Cond.laysFinal "GradeRowsModel" "GradeRowsModel" "where" "[I" ∈ lw_T := in_T2 81 rfl rfl
theorem tw_323 : Cond.laysFinal "GradeRowsModel" "GradeRowsModel" "widths" "[I" ∈ lw_T := in_T2 83 rfl rfl
theorem tw_325 : Cond.lays "GradeRowsModel" "GradeRowsModel" "kept" "I" ∈ lw_T := in_T2 85 rfl rfl
theorem tw_327 : Cond.lays "GradeRowsModel" "GradeRowsModel" "classes" "I" ∈ lw_T := in_T2 87 rfl rfl
theorem tw_329 : Cond.laysFinal "GradeRowsModel" "GradeRowsModel" "lows" "[J" ∈ lw_T := in_T2 89 rfl rfl
theorem tw_331 : Cond.laysFinal "GradeRowsModel" "GradeRowsModel" "highs" "[J" ∈ lw_T := in_T2 91 rfl rfl
theorem tw_333 : Cond.lays "GradeRowsModel" "GradeRowsModel" "cursor" "I" ∈ lw_T := in_T2 93 rfl rfl
theorem tw_335 : Cond.laysFinal "GradeRowsModel" "GradeRowsModel" "seen" "[Z" ∈ lw_T := in_T2 95 rfl rfl
theorem tw_337 : Cond.laysFinal "GradeRowsModel" "GradeRowsModel" "mine" "[J" ∈ lw_T := in_T2 97 rfl rfl
theorem tw_339 : Cond.laysFinal "GradeRowsModel" "GradeRowsModel" "theirs" "[J" ∈ lw_T := in_T2 99 rfl rfl
theorem tw_342 : Cond.arrayClass .boolean ∈ lw_T := in_T2 102 rfl rfl
theorem tw_343 : Cond.methodLink "GradeRowsLaw" 17 ⟨"GradeRowsModel", "rule", "(II)I"⟩ ∈ lw_T := in_T2 103 rfl rfl
theorem tw_344 : Cond.instanceMethod ⟨"GradeRowsModel", "rule", "(II)I"⟩ ∈ lw_T := in_T2 104 rfl rfl
theorem tw_345 : Cond.selects "GradeRowsModel" ⟨"GradeRowsModel", "rule", "(II)I"⟩ ⟨"GradeRowsModel", "rule", "(II)I"⟩ ∈ lw_T := in_T2 105 rfl rfl
theorem tw_346 : Cond.code ⟨"GradeRowsModel", "rule", "(II)I"⟩ prog_7_method_4_code 3 (some .int) ∈ lw_T := in_T2 106 rfl rfl
theorem tw_347 : Cond.constant "GradeRowsModel" 49 (100000 : Int32) ∈ lw_T := in_T2 107 rfl rfl
theorem tw_348 : Cond.methodLink "GradeRowsLaw" 22 ⟨"GradeRowsModel", "used", "(III)I"⟩ ∈ lw_T := in_T2 108 rfl rfl
theorem tw_349 : Cond.instanceMethod ⟨"GradeRowsModel", "used", "(III)I"⟩ ∈ lw_T := in_T2 109 rfl rfl
theorem tw_350 : Cond.selects "GradeRowsModel" ⟨"GradeRowsModel", "used", "(III)I"⟩ ⟨"GradeRowsModel", "used", "(III)I"⟩ ∈ lw_T := in_T2 110 rfl rfl
theorem tw_351 : Cond.code ⟨"GradeRowsModel", "used", "(III)I"⟩ prog_7_method_6_code 4 (some .int) ∈ lw_T := in_T2 111 rfl rfl
theorem tw_352 : Cond.methodLink "GradeRowsModel" 53 ⟨"GradeRowsModel", "count", "()I"⟩ ∈ lw_T := in_T2 112 rfl rfl
theorem tw_354 : Cond.instanceMethod ⟨"GradeRowsModel", "count", "()I"⟩ ∈ lw_T := in_T2 114 rfl rfl
theorem tw_355 : Cond.code ⟨"GradeRowsModel", "count", "()I"⟩ prog_7_method_3_code 1 (some .int) ∈ lw_T := in_T2 115 rfl rfl
theorem tw_356 : Cond.methodLink "GradeRowsModel" 57 ⟨"GradeRowsModel", "add", "(III)I"⟩ ∈ lw_T := in_T2 116 rfl rfl
theorem tw_358 : Cond.instanceMethod ⟨"GradeRowsModel", "add", "(III)I"⟩ ∈ lw_T := in_T2 118 rfl rfl
theorem tw_359 : Cond.code ⟨"GradeRowsModel", "add", "(III)I"⟩ prog_7_method_5_code 5 (some .int) ∈ lw_T := in_T2 119 rfl rfl
theorem tw_360 : Cond.methodLink "GradeRowsLaw" 27 ⟨"GradeRowsModel", "guess", "(I)I"⟩ ∈ lw_T := in_T2 120 rfl rfl
theorem tw_361 : Cond.instanceMethod ⟨"GradeRowsModel", "guess", "(I)I"⟩ ∈ lw_T := in_T2 121 rfl rfl
theorem tw_362 : Cond.selects "GradeRowsModel" ⟨"GradeRowsModel", "guess", "(I)I"⟩ ⟨"GradeRowsModel", "guess", "(I)I"⟩ ∈ lw_T := in_T2 122 rfl rfl
theorem tw_363 : Cond.code ⟨"GradeRowsModel", "guess", "(I)I"⟩ prog_7_method_7_code 2 (some .int) ∈ lw_T := in_T2 123 rfl rfl
theorem tw_364 : Cond.methodLink "GradeRowsLaw" 32 ⟨"GradeRowsModel", "drop", "()Z"⟩ ∈ lw_T := in_T2 124 rfl rfl
theorem tw_365 : Cond.instanceMethod ⟨"GradeRowsModel", "drop", "()Z"⟩ ∈ lw_T := in_T2 125 rfl rfl
theorem tw_366 : Cond.selects "GradeRowsModel" ⟨"GradeRowsModel", "drop", "()Z"⟩ ⟨"GradeRowsModel", "drop", "()Z"⟩ ∈ lw_T := in_T2 126 rfl rfl
theorem tw_367 : Cond.code ⟨"GradeRowsModel", "drop", "()Z"⟩ prog_7_method_8_code 1 (some .boolean) ∈ lw_T := in_T2 127 rfl rfl
theorem tw_368 : Cond.methodLink "GradeRowsLaw" 37 ⟨"GradeRowsModel", "cost", "(I)J"⟩ ∈ lw_T := in_T2 128 rfl rfl
theorem tw_369 : Cond.instanceMethod ⟨"GradeRowsModel", "cost", "(I)J"⟩ ∈ lw_T := in_T2 129 rfl rfl
theorem tw_370 : Cond.selects "GradeRowsModel" ⟨"GradeRowsModel", "cost", "(I)J"⟩ ⟨"GradeRowsModel", "cost", "(I)J"⟩ ∈ lw_T := in_T2 130 rfl rfl
theorem tw_371 : Cond.code ⟨"GradeRowsModel", "cost", "(I)J"⟩ prog_7_method_12_code 2 (some .long) ∈ lw_T := in_T2 131 rfl rfl
theorem tw_372 : Cond.constantLong "GradeRowsModel" 75 (-1 : Int64) ∈ lw_T := in_T2 132 rfl rfl
theorem tw_373 : Cond.methodLink "GradeRowsModel" 68 ⟨"GradeRowsModel", "costOf", "(II)J"⟩ ∈ lw_T := in_T2 133 rfl rfl
theorem tw_375 : Cond.instanceMethod ⟨"GradeRowsModel", "costOf", "(II)J"⟩ ∈ lw_T := in_T2 135 rfl rfl
theorem tw_376 : Cond.code ⟨"GradeRowsModel", "costOf", "(II)J"⟩ prog_7_method_9_code 7 (some .long) ∈ lw_T := in_T2 136 rfl rfl
theorem tw_377 : Cond.constantLong "GradeRowsModel" 64 (1000 : Int64) ∈ lw_T := in_T2 137 rfl rfl
theorem tw_378 : Cond.constantLong "GradeRowsModel" 66 (4 : Int64) ∈ lw_T := in_T2 138 rfl rfl
theorem tw_379 : Cond.methodLink "GradeRowsLaw" 41 ⟨"GradeRowsModel", "sum", "(I)J"⟩ ∈ lw_T := in_T2 139 rfl rfl
theorem tw_380 : Cond.instanceMethod ⟨"GradeRowsModel", "sum", "(I)J"⟩ ∈ lw_T := in_T2 140 rfl rfl
theorem tw_381 : Cond.selects "GradeRowsModel" ⟨"GradeRowsModel", "sum", "(I)J"⟩ ⟨"GradeRowsModel", "sum", "(I)J"⟩ ∈ lw_T := in_T2 141 rfl rfl
theorem tw_382 : Cond.code ⟨"GradeRowsModel", "sum", "(I)J"⟩ prog_7_method_13_code 2 (some .long) ∈ lw_T := in_T2 142 rfl rfl
theorem tw_383 : Cond.methodLink "GradeRowsModel" 72 ⟨"GradeRowsModel", "sumOf", "(II)J"⟩ ∈ lw_T := in_T2 143 rfl rfl
theorem tw_385 : Cond.instanceMethod ⟨"GradeRowsModel", "sumOf", "(II)J"⟩ ∈ lw_T := in_T2 145 rfl rfl
theorem tw_386 : Cond.code ⟨"GradeRowsModel", "sumOf", "(II)J"⟩ prog_7_method_10_code 6 (some .long) ∈ lw_T := in_T2 146 rfl rfl
theorem tw_387 : Cond.methodLink "GradeRowsLaw" 48 ⟨"GradeRowsModel", "cls", "(JJ)I"⟩ ∈ lw_T := in_T2 147 rfl rfl
theorem tw_388 : Cond.instanceMethod ⟨"GradeRowsModel", "cls", "(JJ)I"⟩ ∈ lw_T := in_T2 148 rfl rfl
theorem tw_389 : Cond.selects "GradeRowsModel" ⟨"GradeRowsModel", "cls", "(JJ)I"⟩ ⟨"GradeRowsModel", "cls", "(JJ)I"⟩ ∈ lw_T := in_T2 149 rfl rfl
theorem tw_390 : Cond.code ⟨"GradeRowsModel", "cls", "(JJ)I"⟩ prog_7_method_14_code 6 (some .int) ∈ lw_T := in_T2 150 rfl rfl
theorem tw_391 : Cond.constantLong "GradeRowsModel" 77 (100000000 : Int64) ∈ lw_T := in_T2 151 rfl rfl
theorem tw_392 : Cond.methodLink "GradeRowsLaw" 53 ⟨"GradeRowsModel", "grade", "()I"⟩ ∈ lw_T := in_T2 152 rfl rfl
theorem tw_393 : Cond.instanceMethod ⟨"GradeRowsModel", "grade", "()I"⟩ ∈ lw_T := in_T2 153 rfl rfl
theorem tw_394 : Cond.selects "GradeRowsModel" ⟨"GradeRowsModel", "grade", "()I"⟩ ⟨"GradeRowsModel", "grade", "()I"⟩ ∈ lw_T := in_T2 154 rfl rfl
theorem tw_395 : Cond.code ⟨"GradeRowsModel", "grade", "()I"⟩ prog_7_method_16_code 1 (some .int) ∈ lw_T := in_T2 155 rfl rfl
theorem tw_396 : Cond.methodLink "GradeRowsModel" 82 ⟨"GradeRowsModel", "all", "()J"⟩ ∈ lw_T := in_T2 156 rfl rfl
theorem tw_398 : Cond.instanceMethod ⟨"GradeRowsModel", "all", "()J"⟩ ∈ lw_T := in_T2 158 rfl rfl
theorem tw_399 : Cond.code ⟨"GradeRowsModel", "all", "()J"⟩ prog_7_method_11_code 1 (some .long) ∈ lw_T := in_T2 159 rfl rfl
theorem tw_400 : Cond.methodLink "GradeRowsModel" 86 ⟨"GradeRowsModel", "classOf", "(J)I"⟩ ∈ lw_T := in_T2 160 rfl rfl
theorem tw_402 : Cond.instanceMethod ⟨"GradeRowsModel", "classOf", "(J)I"⟩ ∈ lw_T := in_T2 162 rfl rfl
theorem tw_403 : Cond.code ⟨"GradeRowsModel", "classOf", "(J)I"⟩ prog_7_method_15_code 4 (some .int) ∈ lw_T := in_T2 163 rfl rfl
theorem tw_404 : Cond.methodLink "GradeRowsLaw" 57 ⟨"GradeRowsModel", "rank", "()I"⟩ ∈ lw_T := in_T2 164 rfl rfl
theorem tw_405 : Cond.instanceMethod ⟨"GradeRowsModel", "rank", "()I"⟩ ∈ lw_T := in_T2 165 rfl rfl
theorem tw_406 : Cond.selects "GradeRowsModel" ⟨"GradeRowsModel", "rank", "()I"⟩ ⟨"GradeRowsModel", "rank", "()I"⟩ ∈ lw_T := in_T2 166 rfl rfl
theorem tw_407 : Cond.code ⟨"GradeRowsModel", "rank", "()I"⟩ prog_7_method_17_code 5 (some .int) ∈ lw_T := in_T2 167 rfl rfl
theorem tw_408 : Cond.methodLink "GradeRowsLaw" 62 ⟨"GradeRowsModel", "gap", "(J)J"⟩ ∈ lw_T := in_T2 168 rfl rfl
theorem tw_409 : Cond.instanceMethod ⟨"GradeRowsModel", "gap", "(J)J"⟩ ∈ lw_T := in_T2 169 rfl rfl
theorem tw_410 : Cond.selects "GradeRowsModel" ⟨"GradeRowsModel", "gap", "(J)J"⟩ ⟨"GradeRowsModel", "gap", "(J)J"⟩ ∈ lw_T := in_T2 170 rfl rfl
theorem tw_411 : Cond.code ⟨"GradeRowsModel", "gap", "(J)J"⟩ prog_7_method_18_code 5 (some .long) ∈ lw_T := in_T2 171 rfl rfl
theorem tw_412 : Cond.methodLink "GradeRowsLaw" 66 ⟨"GradeRowsModel", "stuck", "(I)I"⟩ ∈ lw_T := in_T2 172 rfl rfl
theorem tw_413 : Cond.instanceMethod ⟨"GradeRowsModel", "stuck", "(I)I"⟩ ∈ lw_T := in_T2 173 rfl rfl
theorem tw_414 : Cond.selects "GradeRowsModel" ⟨"GradeRowsModel", "stuck", "(I)I"⟩ ⟨"GradeRowsModel", "stuck", "(I)I"⟩ ∈ lw_T := in_T2 174 rfl rfl
theorem tw_415 : Cond.code ⟨"GradeRowsModel", "stuck", "(I)I"⟩ prog_7_method_19_code 5 (some .int) ∈ lw_T := in_T2 175 rfl rfl
theorem tw_416 : Cond.methodLink "GradeRowsLaw" 70 ⟨"GradeRowsModel", "run", "()I"⟩ ∈ lw_T := in_T2 176 rfl rfl
theorem tw_417 : Cond.instanceMethod ⟨"GradeRowsModel", "run", "()I"⟩ ∈ lw_T := in_T2 177 rfl rfl
theorem tw_418 : Cond.selects "GradeRowsModel" ⟨"GradeRowsModel", "run", "()I"⟩ ⟨"GradeRowsModel", "run", "()I"⟩ ∈ lw_T := in_T2 178 rfl rfl
theorem tw_419 : Cond.code ⟨"GradeRowsModel", "run", "()I"⟩ prog_7_method_20_code 4 (some .int) ∈ lw_T := in_T2 179 rfl rfl
theorem tw_420 : Cond.methodLink "GradeRowsLaw" 74 ⟨"GradeRowsModel", "hardest", "()I"⟩ ∈ lw_T := in_T2 180 rfl rfl
theorem tw_421 : Cond.instanceMethod ⟨"GradeRowsModel", "hardest", "()I"⟩ ∈ lw_T := in_T2 181 rfl rfl
theorem tw_422 : Cond.selects "GradeRowsModel" ⟨"GradeRowsModel", "hardest", "()I"⟩ ⟨"GradeRowsModel", "hardest", "()I"⟩ ∈ lw_T := in_T2 182 rfl rfl
theorem tw_423 : Cond.code ⟨"GradeRowsModel", "hardest", "()I"⟩ prog_7_method_21_code 8 (some .int) ∈ lw_T := in_T2 183 rfl rfl
theorem tw_424 : Cond.methodLink "GradeRowsLaw" 79 ⟨"GradeRowsModel", "go", "(I)Z"⟩ ∈ lw_T := in_T2 184 rfl rfl
theorem tw_425 : Cond.instanceMethod ⟨"GradeRowsModel", "go", "(I)Z"⟩ ∈ lw_T := in_T2 185 rfl rfl
theorem tw_426 : Cond.selects "GradeRowsModel" ⟨"GradeRowsModel", "go", "(I)Z"⟩ ⟨"GradeRowsModel", "go", "(I)Z"⟩ ∈ lw_T := in_T2 186 rfl rfl
theorem tw_427 : Cond.code ⟨"GradeRowsModel", "go", "(I)Z"⟩ prog_7_method_22_code 2 (some .boolean) ∈ lw_T := in_T2 187 rfl rfl
theorem tw_428 : Cond.methodLink "GradeRowsLaw" 83 ⟨"GradeRowsModel", "hint", "(I)I"⟩ ∈ lw_T := in_T2 188 rfl rfl
theorem tw_429 : Cond.instanceMethod ⟨"GradeRowsModel", "hint", "(I)I"⟩ ∈ lw_T := in_T2 189 rfl rfl
theorem tw_430 : Cond.selects "GradeRowsModel" ⟨"GradeRowsModel", "hint", "(I)I"⟩ ⟨"GradeRowsModel", "hint", "(I)I"⟩ ∈ lw_T := in_T2 190 rfl rfl
theorem tw_431 : Cond.code ⟨"GradeRowsModel", "hint", "(I)I"⟩ prog_7_method_23_code 3 (some .int) ∈ lw_T := in_T2 191 rfl rfl
theorem tw_432 : Cond.methodLink "GradeRowsLaw" 87 ⟨"GradeRowsModel", "keep", "()I"⟩ ∈ lw_T := in_T2 192 rfl rfl
theorem tw_433 : Cond.instanceMethod ⟨"GradeRowsModel", "keep", "()I"⟩ ∈ lw_T := in_T2 193 rfl rfl
theorem tw_434 : Cond.selects "GradeRowsModel" ⟨"GradeRowsModel", "keep", "()I"⟩ ⟨"GradeRowsModel", "keep", "()I"⟩ ∈ lw_T := in_T2 194 rfl rfl
theorem tw_435 : Cond.code ⟨"GradeRowsModel", "keep", "()I"⟩ prog_7_method_24_code 2 (some .int) ∈ lw_T := in_T2 195 rfl rfl
theorem tw_436 : Cond.methodLink "GradeRowsLaw" 91 ⟨"GradeRowsModel", "compare", "(I)I"⟩ ∈ lw_T := in_T2 196 rfl rfl
theorem tw_437 : Cond.instanceMethod ⟨"GradeRowsModel", "compare", "(I)I"⟩ ∈ lw_T := in_T2 197 rfl rfl
theorem tw_438 : Cond.selects "GradeRowsModel" ⟨"GradeRowsModel", "compare", "(I)I"⟩ ⟨"GradeRowsModel", "compare", "(I)I"⟩ ∈ lw_T := in_T2 198 rfl rfl
theorem tw_439 : Cond.code ⟨"GradeRowsModel", "compare", "(I)I"⟩ prog_7_method_26_code 10 (some .int) ∈ lw_T := in_T2 199 rfl rfl
theorem tw_440 : Cond.methodLink "GradeRowsModel" 93 ⟨"GradeRowsModel", "way", "(JJ)I"⟩ ∈ lw_T := in_T2 200 rfl rfl
theorem tw_441 : Cond.static ⟨"GradeRowsModel", "way", "(JJ)I"⟩ ∈ lw_T := in_T2 201 rfl rfl
theorem tw_442 : Cond.code ⟨"GradeRowsModel", "way", "(JJ)I"⟩ prog_7_method_25_code 4 (some .int) ∈ lw_T := in_T2 202 rfl rfl
theorem tw_443 : Cond.methodLink "GradeRowsLaw" 95 ⟨"GradeRowsModel", "same", "(I)Z"⟩ ∈ lw_T := in_T2 203 rfl rfl
theorem tw_444 : Cond.instanceMethod ⟨"GradeRowsModel", "same", "(I)Z"⟩ ∈ lw_T := in_T2 204 rfl rfl
theorem tw_445 : Cond.selects "GradeRowsModel" ⟨"GradeRowsModel", "same", "(I)Z"⟩ ⟨"GradeRowsModel", "same", "(I)Z"⟩ ∈ lw_T := in_T2 205 rfl rfl
theorem tw_446 : Cond.code ⟨"GradeRowsModel", "same", "(I)Z"⟩ prog_7_method_28_code 3 (some .boolean) ∈ lw_T := in_T2 206 rfl rfl
theorem tw_447 : Cond.methodLink "GradeRowsModel" 97 ⟨"GradeRowsModel", "like", "(II)I"⟩ ∈ lw_T := in_T2 207 rfl rfl
theorem tw_449 : Cond.instanceMethod ⟨"GradeRowsModel", "like", "(II)I"⟩ ∈ lw_T := in_T2 209 rfl rfl
theorem tw_450 : Cond.code ⟨"GradeRowsModel", "like", "(II)I"⟩ prog_7_method_27_code 6 (some .int) ∈ lw_T := in_T2 210 rfl rfl
theorem tw_451 : Cond.constantLong "GradeRowsLaw" 42 (4294967295 : Int64) ∈ lw_T := in_T2 211 rfl rfl
theorem nw_452 : Cond.castable "GradeRows$Guess" "GradeRows$Step" ∈ tables_1 := in_N2 212 rfl
theorem nw_453 : Cond.castable "GradeRows$Use" "GradeRows$Step" ∈ tables_1 := in_N2 213 rfl
theorem ts_0 : Cond.selects "GradeRows" ⟨"GradeRows", "add", "(LGradeRows$Step;)I"⟩ ⟨"GradeRows", "add", "(LGradeRows$Step;)I"⟩ ∈ lw_T := in_S 0 rfl rfl
theorem ts_1 : Cond.selects "GradeRows" ⟨"GradeRows", "isFirst", "(II)Z"⟩ ⟨"GradeRows", "isFirst", "(II)Z"⟩ ∈ lw_T := in_S 1 rfl rfl
theorem ts_2 : Cond.selects "GradeRows" ⟨"GradeRows", "classOf", "(J)I"⟩ ⟨"GradeRows", "classOf", "(J)I"⟩ ∈ lw_T := in_S 2 rfl rfl
theorem ts_3 : Cond.selects "GradeRows" ⟨"GradeRows", "isStuckAhead", "(II)Z"⟩ ⟨"GradeRows", "isStuckAhead", "(II)Z"⟩ ∈ lw_T := in_S 3 rfl rfl
theorem ts_4 : Cond.selects "GradeRows" ⟨"GradeRows", "sortedCosts", "()[J"⟩ ⟨"GradeRows", "sortedCosts", "()[J"⟩ ∈ lw_T := in_S 4 rfl rfl
theorem ts_5 : Cond.selects "GradeRows" ⟨"GradeRows", "sortedCodes", "()[I"⟩ ⟨"GradeRows", "sortedCodes", "()[I"⟩ ∈ lw_T := in_S 5 rfl rfl
theorem ts_6 : Cond.selects "GradeRows" ⟨"GradeRows", "isKept", "(I)Z"⟩ ⟨"GradeRows", "isKept", "(I)Z"⟩ ∈ lw_T := in_S 6 rfl rfl
theorem ts_7 : Cond.selects "GradeRowsModel" ⟨"GradeRowsModel", "count", "()I"⟩ ⟨"GradeRowsModel", "count", "()I"⟩ ∈ lw_T := in_S 7 rfl rfl
theorem ts_8 : Cond.selects "GradeRowsModel" ⟨"GradeRowsModel", "add", "(III)I"⟩ ⟨"GradeRowsModel", "add", "(III)I"⟩ ∈ lw_T := in_S 8 rfl rfl
theorem ts_9 : Cond.selects "GradeRowsModel" ⟨"GradeRowsModel", "costOf", "(II)J"⟩ ⟨"GradeRowsModel", "costOf", "(II)J"⟩ ∈ lw_T := in_S 9 rfl rfl
theorem ts_10 : Cond.selects "GradeRowsModel" ⟨"GradeRowsModel", "sumOf", "(II)J"⟩ ⟨"GradeRowsModel", "sumOf", "(II)J"⟩ ∈ lw_T := in_S 10 rfl rfl
theorem ts_11 : Cond.selects "GradeRowsModel" ⟨"GradeRowsModel", "all", "()J"⟩ ⟨"GradeRowsModel", "all", "()J"⟩ ∈ lw_T := in_S 11 rfl rfl
theorem ts_12 : Cond.selects "GradeRowsModel" ⟨"GradeRowsModel", "classOf", "(J)I"⟩ ⟨"GradeRowsModel", "classOf", "(J)I"⟩ ∈ lw_T := in_S 12 rfl rfl
theorem ts_13 : Cond.selects "GradeRowsModel" ⟨"GradeRowsModel", "like", "(II)I"⟩ ⟨"GradeRowsModel", "like", "(II)I"⟩ ∈ lw_T := in_S 13 rfl rfl
end
section
/-! my rows over the kit's: one bundle of what a method of this system knows of the tables; calls by contract with one list of words; loops; joins -/
def nk : Cond → Bool
  | .fieldLinkNest .. => true
  | .methodLinkNest .. => true
  | .declares _ => true
  | .castable .. => true
  | _ => false
theorem nk_warm {w : Cond} (h : nk w = true) {s U : State} (hW : s.WarmedH U.vm) (hZ : va_Nw w s) : va_Nw w U := by
  cases w <;> first | exact va_Nw.warmF hW hZ | exact va_Nw.warmM hW hZ | exact va_Nw.warmD hW hZ | exact va_Nw.warmC hW hZ | (exact absurd h (by simp [nk]))
theorem nk_tab {w : Cond} (h : nk w = true) : w.onTables = true := by
  cases w <;> first | rfl | (exact absurd h (by simp [nk]))
/-- the array classes: int, long, boolean, Step, Kept -/
abbrev tys (dA : Nat → ClassId) : List (ClassId × FieldType) := [(dA 0, .int), (dA 1, .long), (dA 2, .boolean), (dA 3, .object "GradeRows$Step"), (dA 4, .object "GradeRows$Kept")]
def XK (D : va_G) (dA : Nat → ClassId) (U : State) : Prop := va_K D classes (tys dA) U ∧ (∀ w ∈ tables_1, nk w = true → va_Nw w U) ∧ va_AO "GradeRows$Step" U ∧ va_AO "GradeRows$Kept" U
theorem XK.warm {D : va_G} {dA : Nat → ClassId} {s U : State} (hW : s.WarmedH U.vm) (h : XK D dA s) : XK D dA U := ⟨va_K.moved hW.alike h.1, fun w hw hn => nk_warm hn hW (h.2.1 w hw hn), va_AO.moved hW.alike h.2.2.1, va_AO.moved hW.alike h.2.2.2⟩
theorem XK.same {D : va_G} {dA : Nat → ClassId} {s U : State} (hvm : s.vm = U.vm) (h : XK D dA s) : XK D dA U := by
  have ha : s.vm.Alike U.vm := by rw [hvm]; exact Vm.Alike.refl _
  exact ⟨va_K.moved ha h.1, fun w hw hn => va_Nw.same (nk_tab hn) hvm (h.2.1 w hw hn), va_AO.moved ha h.2.2.1, va_AO.moved ha h.2.2.2⟩
/-- what a contract asks of the start: the heap is this one, the tables as they are -/
def PX (D : va_G) (dA : Nat → ClassId) (H : Heap) (U : State) : Prop := U.heap = H ∧ XK D dA U
theorem PX.blind {D : va_G} {dA : Nat → ClassId} {H : Heap} {av : List Value} : FrameBlind (va_Pc av (PX D dA H)) := fun a U g mk q => ⟨q.1, q.2.1, XK.same (s := U) (U := U.calling g mk a) rfl q.2.2⟩
theorem PX.pre {D : va_G} {dA : Nat → ClassId} {H : Heap} {av : List Value} {s : State} (h : XK D dA s) : ∀ U : State, U.heap = H → s.WarmedH U.vm → va_Pc av (PX D dA H) av.toArray U := fun _ hU hW => ⟨rfl, hU, h.warm hW⟩
/-- what stands through a method's walk -/
def CX (p : Program) (m : MethodId) (c : Code) (cc : ByteArray) (nL : Nat) (s : State) (args : Array Value) (own : String) (D : va_G) (dA : Nat → ClassId) : Prop := CallFix p m c cc nL s args lw_T own ∧ XK D dA s
section CXS
variable {p : Program} {l : Launch} {e : Env} {R : Room} {s : State} {m : MethodId} {args : Array Value} {below : List Frame} {meth : Method} {c : Code} {H H0 : Heap} {locs : List Loc} {cells slots : Nat} {Q : State → Prop}
variable {cc : ByteArray} {pc nL : Nat} {ls : Array Slot} {rest : List Value} {D : va_G} {dA : Nat → ClassId} {A : Nat → Prop} {a : Nat} {ws : va_W} {own : String}
theorem CX.x (h : CX p m c cc nL s args own D dA) : p.tables.exec = Jvm.exec := h.1.1
theorem CX.b (h : CX p m c cc nL s args own D dA) : c.code = cc := h.1.2.1
theorem CX.ml (h : CX p m c cc nL s args own D dA) : c.maxLocals = nL := h.1.2.2.1
theorem CX.o (h : CX p m c cc nL s args own D dA) : s.vm.findClass own = some m.cls := h.1.2.2.2.1
theorem CX.t (h : CX p m c cc nL s args own D dA) : ∀ w ∈ lw_T, w.before args s = true := h.1.2.2.2.2
theorem CX.K (h : CX p m c cc nL s args own D dA) : va_K D classes (tys dA) s := h.2.1
theorem CX.n (h : CX p m c cc nL s args own D dA) {w : Cond} (hw : w ∈ tables_1) (hn : nk w = true) : va_Nw w s := h.2.2.1 w hw hn
/-- a method's contract out of the walk of its body -/
theorem mkMet {y : MethodName} {b : ByteArray} {n : Nat} {ret : Option FieldType} {rm : Room} {av : List Value} {Qc : Array Value → State → Outcome → State → Prop} {mc ms : Nat} {free : Addr → Prop} (hy : plainName y.cls = true) (hn : (lg_sl av).length ≤ n)
    (body : ∀ (p : Program) (e : Env) (s : State) (m : MethodId) (below : List Frame) (meth : Method) (c : Code) (ls : Array Slot), CX p m c b n s av.toArray y.cls D dA → meth.sig.returnType = ret → meth.locks = false → meth.name = y.name → lv_has ls n (lv_args 0 av) → s.heap = H0 → W p l e rm s m av.toArray below meth c H0 [] 0 0 (MQ below Qc av.toArray s mc ms free) (F0 m 0 ls [])) :
    Met l y (wd y b n ret) rm (va_Pc av (PX D dA H0)) Qc mc ms free := by
  refine Met.ofW (cc := b) (maxL := n) (ret := ret) hy rfl ?_
  intro p e s m args below meth c s₁ B hml hv
  obtain ⟨rfl, hH, hX⟩ := hv
  have hl := lv_entry av (n := n) hn
  rw [lg_entry_eq]
  generalize (lg_sl av ++ List.replicate (n - (lg_sl av).length) Slot.unset).toArray = ls at hl ⊢
  have key := body p e s m below meth c ls ⟨⟨B.exec, B.bytes, hml, findClass_of_methodNamed B.named, fun w h => atoms_spec (ws := wd y b n ret) B.pre w (List.mem_cons_of_mem _ h)⟩, hX⟩ B.returns B.notSynchronized (name_of_methodNamed B.named B.method).1 hl hH
  rw [← hH] at key
  exact key
theorem good_wd {y : MethodName} {b : ByteArray} {n : Nat} {ret : Option FieldType} (hc : Cond.code y b n ret ∈ lw_T) : GoodIn lw_T (wd y b n ret) := by
  intro w hw
  rcases List.mem_cons.mp hw with h | h
  · subst h; exact ⟨hc, T_good _ hc⟩
  · exact ⟨h, T_good _ h⟩
/-- the receiver's cell -/
theorem recv1 (hC : CX p m c cc nL s args own D dA) {ci : Nat} {q : vw_C} (hc : classes[ci]? = some q) {fs : List Value} (ho : va_at D classes (a, .inr (ci, fs)) H) : ∃ cell : Cell, H[a]? = some cell ∧ cell.vm.isStatics = false ∧ s.vm.findClass q.1 = some cell.cls :=
  va_recv (ws := [(a, .inr (ci, fs))]) (q0 := 0) hC.K (fun k x hk => by
    cases k with
    | zero => cases hk; exact ho
    | succ k => simp at hk) hc rfl
section Calls
variable {y : MethodName} {b : ByteArray} {n index mc ms : Nat} {ret : Option FieldType} {rm : Room} {As : List Value} {Qc : Array Value → State → Outcome → State → Prop} {free : Addr → Prop} {st : List Value}
/-- invokevirtual of a method of the receiver's own class -/
theorem runV (hC : CX p m c cc nL s args own D dA) (hM : Met l y (wd y b n ret) rm (va_Pc (.ref a :: As) (PX D dA H)) Qc mc ms free) (hc : Cond.code y b n ret ∈ lw_T) (hl : Cond.methodLink own index y ∈ lw_T) (hi : Cond.instanceMethod y ∈ lw_T) (hse : Cond.selects y.cls y y ∈ lw_T) (hini : Cond.initialized y.cls ∈ lw_T)
    (hd : y.cls ≠ "java/lang/invoke/MethodHandle" ∧ y.cls ≠ "java/lang/invoke/VarHandle" ∧ (parseMethodDescriptor y.desc).map (fun d => d.parameters.length) = some As.length) (hrc : rm.cells = mc) (hrs : rm.slots = ms)
    {ci : Nat} {q : vw_C} (hci : classes[ci]? = some q) (hq : q.1 = y.cls) {fs : List Value} (ho : va_at D classes (a, .inr (ci, fs)) H) (hsz : ls.size = nL) (hst : st = As.reverse ++ .ref a :: rest) (hW : (rest.map fun v => v.category).sum ≤ 8)
    (hR : rm.frames + 1 ≤ R.frames ∧ 8 + (n + 11) + rm.locals ≤ R.locals) (hf : cells + mc ≤ R.cells ∧ slots + ms ≤ R.slots) (hdg : decode cc pc = .ok (.invokevirtual index, 3)) :
    va_Run p l e R s m args below meth c H locs cells slots mc ms (F0 m pc ls st) rest (Qc (Value.ref a :: As).toArray) free := by
  have G : GoodIn lw_T (wsV own index y.cls y (wd y b n ret)) := by
    intro w hw
    rcases List.mem_append.mp hw with h | h
    · simp only [List.mem_cons, List.not_mem_nil, or_false] at h
      rcases h with rfl | rfl | rfl | rfl
      · exact ⟨hl, T_good _ hl⟩
      · exact ⟨hi, T_good _ hi⟩
      · exact ⟨hse, T_good _ hse⟩
      · exact ⟨hini, T_good _ hini⟩
    · exact good_wd hc w h
  obtain ⟨cell, h1, h2, h3⟩ := recv1 hC hci ho
  exact va_runV hC.1 hM (cwV As.length hC.t G rfl hrc hrs ⟨rfl, hd⟩ hR) ⟨PX.blind, ⟨cell, h1, h2, by rw [← hq]; exact h3⟩, PX.pre hC.2⟩ rfl rfl hsz hst (lv_room hW) hdg hf
/-- invokevirtual of a nest mate's method -/
theorem runVN {host : String} (hC : CX p m c cc nL s args own D dA) (hM : Met l y (wd y b n ret) rm (va_Pc (.ref a :: As) (PX D dA H)) Qc mc ms free) (hc : Cond.code y b n ret ∈ lw_T) (hl : Cond.methodLinkNest own index y host ∈ tables_1) (hi : Cond.instanceMethod y ∈ lw_T) (hse : Cond.selects y.cls y y ∈ lw_T) (hini : Cond.initialized y.cls ∈ lw_T)
    (hd : y.cls ≠ "java/lang/invoke/MethodHandle" ∧ y.cls ≠ "java/lang/invoke/VarHandle" ∧ (parseMethodDescriptor y.desc).map (fun d => d.parameters.length) = some As.length) (hrc : rm.cells = mc) (hrs : rm.slots = ms)
    {ci : Nat} {q : vw_C} (hci : classes[ci]? = some q) (hq : q.1 = y.cls) {fs : List Value} (ho : va_at D classes (a, .inr (ci, fs)) H) (hsz : ls.size = nL) (hst : st = As.reverse ++ .ref a :: rest) (hW : (rest.map fun v => v.category).sum ≤ 8)
    (hR : rm.frames + 1 ≤ R.frames ∧ 8 + (n + 11) + rm.locals ≤ R.locals) (hf : cells + mc ≤ R.cells ∧ slots + ms ≤ R.slots) (hdg : decode cc pc = .ok (.invokevirtual index, 3)) :
    va_Run p l e R s m args below meth c H locs cells slots mc ms (F0 m pc ls st) rest (Qc (Value.ref a :: As).toArray) free := by
  obtain ⟨cell, h1, h2, h3⟩ := recv1 hC hci ho
  exact va_runVN (C := y.cls) hC.1 hM ⟨va_cnB As.length hC.t (good_wd hc) rfl hrc hrs (hC.n hl rfl) (hC.t _ hini) hd hR, hC.t _ hi, hC.t _ hse⟩ ⟨PX.blind, ⟨cell, h1, h2, by rw [← hq]; exact h3⟩, PX.pre hC.2⟩ rfl rfl hsz hst (lv_room hW) hdg hf
/-- invokevirtual that names an abstract method x of Step -/
theorem runA {x : MethodName} (hC : CX p m c cc nL s args own D dA) (hM : Met l y (wd y b n ret) rm (va_Pc (.ref a :: As) (PX D dA H)) Qc mc ms free) (hc : Cond.code y b n ret ∈ lw_T) (hl : Cond.methodLink own index x ∈ lw_T) (hsm : Cond.sameMethod x.cls x.cls x.name x.desc ∈ lw_T) (hse : Cond.selects y.cls x y ∈ lw_T) (hi : Cond.instanceMethod y ∈ lw_T) (hini : Cond.initialized y.cls ∈ lw_T) (hdc : Cond.declares ⟨x.cls, x.name, x.desc⟩ ∈ tables_1)
    (hd : x.cls ≠ "java/lang/invoke/MethodHandle" ∧ x.cls ≠ "java/lang/invoke/VarHandle" ∧ (parseMethodDescriptor x.desc).map (fun d => d.parameters.length) = some As.length) (hrc : rm.cells = mc) (hrs : rm.slots = ms)
    {ci : Nat} {q : vw_C} (hci : classes[ci]? = some q) (hq : q.1 = y.cls) {fs : List Value} (ho : va_at D classes (a, .inr (ci, fs)) H) (hsz : ls.size = nL) (hst : st = As.reverse ++ .ref a :: rest) (hW : (rest.map fun v => v.category).sum ≤ 8)
    (hR : rm.frames + 1 ≤ R.frames ∧ 8 + (n + 11) + rm.locals ≤ R.locals) (hf : cells + mc ≤ R.cells ∧ slots + ms ≤ R.slots) (hdg : decode cc pc = .ok (.invokevirtual index, 3)) :
    va_Run p l e R s m args below meth c H locs cells slots mc ms (F0 m pc ls st) rest (Qc (Value.ref a :: As).toArray) free := by
  have G : GoodIn lw_T (va_wsU own index y.cls x.cls x y (wd y b n ret)) := by
    intro w hw
    rcases List.mem_append.mp hw with h | h
    · simp only [List.mem_cons, List.not_mem_nil, or_false] at h
      rcases h with rfl | rfl | rfl | rfl | rfl
      · exact ⟨hl, T_good _ hl⟩
      · exact ⟨hsm, T_good _ hsm⟩
      · exact ⟨hse, T_good _ hse⟩
      · exact ⟨hi, T_good _ hi⟩
      · exact ⟨hini, T_good _ hini⟩
    · exact good_wd hc w h
  obtain ⟨cell, h1, h2, h3⟩ := recv1 hC hci ho
  exact va_runU (C := y.cls) (owner := x.cls) hC.1 hM (va_cwA As.length hC.t G rfl hrc hrs (hC.n hdc rfl) hd hR) ⟨PX.blind, ⟨cell, h1, h2, by rw [← hq]; exact h3⟩, PX.pre hC.2⟩ rfl rfl hsz hst (lv_room hW) hdg hf
/-- invokevirtual that names x of Step, which the receiver's class overrides with y -/
theorem runO {x : MethodName} {b0 : ByteArray} {m0 : Nat} {r0 : Option FieldType} (hC : CX p m c cc nL s args own D dA) (hM : Met l y (wd y b n ret) rm (va_Pc (.ref a :: As) (PX D dA H)) Qc mc ms free) (hc : Cond.code y b n ret ∈ lw_T) (hl : Cond.methodLink own index x ∈ lw_T) (hsm : Cond.sameMethod x.cls x.cls x.name x.desc ∈ lw_T) (hse : Cond.selects y.cls x y ∈ lw_T) (hi : Cond.instanceMethod y ∈ lw_T) (hini : Cond.initialized y.cls ∈ lw_T) (hi0 : Cond.instanceMethod ⟨x.cls, x.name, x.desc⟩ ∈ lw_T) (hc0 : Cond.code ⟨x.cls, x.name, x.desc⟩ b0 m0 r0 ∈ lw_T)
    (hd : x.cls ≠ "java/lang/invoke/MethodHandle" ∧ x.cls ≠ "java/lang/invoke/VarHandle" ∧ (parseMethodDescriptor x.desc).map (fun d => d.parameters.length) = some As.length) (hrc : rm.cells = mc) (hrs : rm.slots = ms)
    {ci : Nat} {q : vw_C} (hci : classes[ci]? = some q) (hq : q.1 = y.cls) {fs : List Value} (ho : va_at D classes (a, .inr (ci, fs)) H) (hsz : ls.size = nL) (hst : st = As.reverse ++ .ref a :: rest) (hW : (rest.map fun v => v.category).sum ≤ 8)
    (hR : rm.frames + 1 ≤ R.frames ∧ 8 + (n + 11) + rm.locals ≤ R.locals) (hf : cells + mc ≤ R.cells ∧ slots + ms ≤ R.slots) (hdg : decode cc pc = .ok (.invokevirtual index, 3)) :
    va_Run p l e R s m args below meth c H locs cells slots mc ms (F0 m pc ls st) rest (Qc (Value.ref a :: As).toArray) free := by
  have G : GoodIn lw_T (va_wsO own index y.cls x.cls x y (wd y b n ret)) := by
    intro w hw
    rcases List.mem_append.mp hw with h | h
    · simp only [List.mem_cons, List.not_mem_nil, or_false] at h
      rcases h with rfl | rfl | rfl | rfl | rfl | rfl
      · exact ⟨hl, T_good _ hl⟩
      · exact ⟨hsm, T_good _ hsm⟩
      · exact ⟨hi0, T_good _ hi0⟩
      · exact ⟨hse, T_good _ hse⟩
      · exact ⟨hi, T_good _ hi⟩
      · exact ⟨hini, T_good _ hini⟩
    · exact good_wd hc w h
  obtain ⟨cell, h1, h2, h3⟩ := recv1 hC hci ho
  exact va_runU (C := y.cls) (owner := x.cls) hC.1 hM (va_cwO As.length hC.t G rfl hrc hrs hc0 hd hR) ⟨PX.blind, ⟨cell, h1, h2, by rw [← hq]; exact h3⟩, PX.pre hC.2⟩ rfl rfl hsz hst (lv_room hW) hdg hf
/-- invokevirtual that names x of Step, which the receiver's class C inherits -/
theorem runU {C : String} {x : MethodName} (hC : CX p m c cc nL s args own D dA) (hM : Met l x (wd x b n ret) rm (va_Pc (.ref a :: As) (PX D dA H)) Qc mc ms free) (hc : Cond.code x b n ret ∈ lw_T) (hl : Cond.methodLink own index x ∈ lw_T) (hsm : Cond.sameMethod x.cls x.cls x.name x.desc ∈ lw_T) (hse : Cond.selects C x x ∈ lw_T) (hi : Cond.instanceMethod x ∈ lw_T) (hini : Cond.initialized x.cls ∈ lw_T)
    (hd : x.cls ≠ "java/lang/invoke/MethodHandle" ∧ x.cls ≠ "java/lang/invoke/VarHandle" ∧ (parseMethodDescriptor x.desc).map (fun d => d.parameters.length) = some As.length) (hrc : rm.cells = mc) (hrs : rm.slots = ms)
    {ci : Nat} {q : vw_C} (hci : classes[ci]? = some q) (hq : q.1 = C) {fs : List Value} (ho : va_at D classes (a, .inr (ci, fs)) H) (hsz : ls.size = nL) (hst : st = As.reverse ++ .ref a :: rest) (hW : (rest.map fun v => v.category).sum ≤ 8)
    (hR : rm.frames + 1 ≤ R.frames ∧ 8 + (n + 11) + rm.locals ≤ R.locals) (hf : cells + mc ≤ R.cells ∧ slots + ms ≤ R.slots) (hdg : decode cc pc = .ok (.invokevirtual index, 3)) :
    va_Run p l e R s m args below meth c H locs cells slots mc ms (F0 m pc ls st) rest (Qc (Value.ref a :: As).toArray) free := by
  have G : GoodIn lw_T (va_wsU own index C x.cls x x (wd x b n ret)) := by
    intro w hw
    rcases List.mem_append.mp hw with h | h
    · simp only [List.mem_cons, List.not_mem_nil, or_false] at h
      rcases h with rfl | rfl | rfl | rfl | rfl
      · exact ⟨hl, T_good _ hl⟩
      · exact ⟨hsm, T_good _ hsm⟩
      · exact ⟨hse, T_good _ hse⟩
      · exact ⟨hi, T_good _ hi⟩
      · exact ⟨hini, T_good _ hini⟩
    · exact good_wd hc w h
  obtain ⟨cell, h1, h2, h3⟩ := recv1 hC hci ho
  exact va_runU (C := C) (owner := x.cls) hC.1 hM (va_cwU As.length hC.t G rfl hrc hrs rfl hd hR) ⟨PX.blind, ⟨cell, h1, h2, by rw [← hq]; exact h3⟩, PX.pre hC.2⟩ rfl rfl hsz hst (lv_room hW) hdg hf
/-- invokespecial of a constructor -/
theorem runI (hC : CX p m c cc nL s args own D dA) (hM : Met l y (wd y b n none) rm (va_Pc (.ref a :: As) (PX D dA H)) Qc mc ms free) (hc : Cond.code y b n none ∈ lw_T) (hl : Cond.methodLink own index y ∈ lw_T) (hi : Cond.instanceMethod y ∈ lw_T) (hini : Cond.initialized y.cls ∈ lw_T) (hy1 : y.name = "<init>")
    (hd : y.cls ≠ "java/lang/invoke/MethodHandle" ∧ y.cls ≠ "java/lang/invoke/VarHandle" ∧ (parseMethodDescriptor y.desc).map (fun d => d.parameters.length) = some As.length) (hrc : rm.cells = mc) (hrs : rm.slots = ms)
    (hsz : ls.size = nL) (hst : st = As.reverse ++ .ref a :: rest) (hW : (rest.map fun v => v.category).sum ≤ 8)
    (hR : rm.frames + 1 ≤ R.frames ∧ 8 + (n + 11) + rm.locals ≤ R.locals) (hf : cells + mc ≤ R.cells ∧ slots + ms ≤ R.slots) (hdg : decode cc pc = .ok (.invokespecial index, 3)) :
    va_Run p l e R s m args below meth c H locs cells slots mc ms (F0 m pc ls st) rest (Qc (Value.ref a :: As).toArray) free :=
  va_runI hC.1 hM (cwI As.length hC.t (good_wd hc) rfl hrc hrs (hC.t _ hini) (hC.t _ hl) (hC.t _ hi) hy1 hd hR) ⟨PX.blind, PX.pre hC.2⟩ rfl rfl hsz hst (lv_room hW) hdg hf
/-- invokespecial of a nest mate's constructor -/
theorem runIN {host : String} (hC : CX p m c cc nL s args own D dA) (hM : Met l y (wd y b n none) rm (va_Pc (.ref a :: As) (PX D dA H)) Qc mc ms free) (hc : Cond.code y b n none ∈ lw_T) (hl : Cond.methodLinkNest own index y host ∈ tables_1) (hi : Cond.instanceMethod y ∈ lw_T) (hini : Cond.initialized y.cls ∈ lw_T) (hy1 : y.name = "<init>")
    (hd : y.cls ≠ "java/lang/invoke/MethodHandle" ∧ y.cls ≠ "java/lang/invoke/VarHandle" ∧ (parseMethodDescriptor y.desc).map (fun d => d.parameters.length) = some As.length) (hrc : rm.cells = mc) (hrs : rm.slots = ms)
    (hsz : ls.size = nL) (hst : st = As.reverse ++ .ref a :: rest) (hW : (rest.map fun v => v.category).sum ≤ 8)
    (hR : rm.frames + 1 ≤ R.frames ∧ 8 + (n + 11) + rm.locals ≤ R.locals) (hf : cells + mc ≤ R.cells ∧ slots + ms ≤ R.slots) (hdg : decode cc pc = .ok (.invokespecial index, 3)) :
    va_Run p l e R s m args below meth c H locs cells slots mc ms (F0 m pc ls st) rest (Qc (Value.ref a :: As).toArray) free :=
  va_runIN hC.1 hM ⟨va_cnB As.length hC.t (good_wd hc) rfl hrc hrs (hC.n hl rfl) (hC.t _ hini) hd hR, hy1, hC.t _ hi⟩ ⟨PX.blind, PX.pre hC.2⟩ rfl rfl hsz hst (lv_room hW) hdg hf
/-- invokestatic -/
theorem runS (hC : CX p m c cc nL s args own D dA) (hM : Met l y (wd y b n ret) rm (va_Pc As (PX D dA H)) Qc mc ms free) (hc : Cond.code y b n ret ∈ lw_T) (hl : Cond.methodLink own index y ∈ lw_T) (hi : Cond.static y ∈ lw_T) (hini : Cond.initialized y.cls ∈ lw_T)
    (hd : y.cls ≠ "java/lang/invoke/MethodHandle" ∧ y.cls ≠ "java/lang/invoke/VarHandle" ∧ (parseMethodDescriptor y.desc).map (fun d => d.parameters.length) = some As.length) (hrc : rm.cells = mc) (hrs : rm.slots = ms)
    (hsz : ls.size = nL) (hst : st = As.reverse ++ rest) (hW : (rest.map fun v => v.category).sum ≤ 8)
    (hR : rm.frames + 1 ≤ R.frames ∧ 8 + (n + 11) + rm.locals ≤ R.locals) (hf : cells + mc ≤ R.cells ∧ slots + ms ≤ R.slots) (hdg : decode cc pc = .ok (.invokestatic index, 3)) :
    va_Run p l e R s m args below meth c H locs cells slots mc ms (F0 m pc ls st) rest (Qc As.toArray) free :=
  va_runS hC.1 hM ⟨callB_of As.length hC.t (good_wd hc) rfl hrc hrs (hC.t _ hini) (hC.t _ hl) hd hR, hC.t _ hi⟩ ⟨PX.blind, PX.pre hC.2⟩ rfl rfl hsz hst (lv_room hW) hdg hf
end Calls
/-! fields by class and place -/
theorem getf {ci k N idx : Nat} {C : String} {T : u_T} {fs : List Value} {v : Value} (hC : CX p m c cc nL s args own D dA) (hin : ∀ w ∈ u_ws C T N, w ∈ lw_T) (hc : classes[ci]? = some (C, T, N)) (hk : k < N) (hl : Cond.fieldLink own idx (T k).1 (T k).2.1 (T k).2.2.1 ∈ lw_T) (hP : va_P D classes ws H) (q0 : Nat) (he : ws[q0]? = some (a, .inr (ci, fs))) (hv : fs[k]? = some v) (hdg : decode cc pc = .ok (.getfield idx, 3))
    (kk : W p l e R s m args below meth c H locs cells slots Q (F0 m (pc + 3) ls (v :: rest))) : W p l e R s m args below meth c H locs cells slots Q (F0 m pc ls (.ref a :: rest)) :=
  va_get hC.x hC.b hC.t hin hC.o hC.K hP q0 he hc k hk (hC.t _ hl) (fun _ h => h) hv hdg kk
theorem getN {ci k N idx : Nat} {C host : String} {T : u_T} {fs : List Value} {v : Value} (hC : CX p m c cc nL s args own D dA) (hin : ∀ w ∈ u_ws C T N, w ∈ lw_T) (hc : classes[ci]? = some (C, T, N)) (hk : k < N) (hl : Cond.fieldLinkNest own idx (T k).1 (T k).2.1 (T k).2.2.1 host ∈ tables_1) (hP : va_P D classes ws H) (q0 : Nat) (he : ws[q0]? = some (a, .inr (ci, fs))) (hv : fs[k]? = some v) (hdg : decode cc pc = .ok (.getfield idx, 3))
    (kk : W p l e R s m args below meth c H locs cells slots Q (F0 m (pc + 3) ls (v :: rest))) : W p l e R s m args below meth c H locs cells slots Q (F0 m pc ls (.ref a :: rest)) :=
  va_getN hC.x hC.b hC.t hin hC.o hC.K hP q0 he hc k hk (va_Nw.use (nk_tab rfl) (hC.n hl rfl)) (fun _ h => h) hv hdg kk
theorem putf {ci k N idx : Nat} {C : String} {T : u_T} {ty0 : Nat → FieldType} {fs : List Value} {v : Value} (hC : CX p m c cc nL s args own D dA) (hin : ∀ w ∈ u_ws C T N, w ∈ lw_T) (hty : ∀ k, k < N → parseFieldDescriptor (T k).2.2.1 = some (ty0 k)) (hnm : ∀ a, a < N → ∀ b, b < N → a ≠ b → (T a).2.1 ≠ (T b).2.1) (hc : classes[ci]? = some (C, T, N)) (hk : k < N) (hl : Cond.fieldLink own idx (T k).1 (T k).2.1 (T k).2.2.1 ∈ lw_T) (hfin : (T k).2.2.2 = false)
    (hP : va_P D classes ws H) (hD : va_D A ws) (hS : va_S A H0 H locs) (q0 : Nat) (he : ws[q0]? = some (a, .inr (ci, fs))) (hn : narrow (ty0 k) v = v) (hfit : fits (ty0 k) v = true) (hlen : k < fs.length) (hdg : decode cc pc = .ok (.putfield idx, 3))
    (kk : ∀ (H1 : Heap) (locs1 : List Loc), va_P D classes (ws.set q0 (a, .inr (ci, fs.set k v))) H1 → va_D A (ws.set q0 (a, .inr (ci, fs.set k v))) → va_S A H0 H1 locs1 → W p l e R s m args below meth c H1 locs1 cells slots Q (F0 m (pc + 3) ls rest)) : W p l e R s m args below meth c H locs cells slots Q (F0 m pc ls (v :: .ref a :: rest)) :=
  va_put hC.x hC.b hC.t hin ty0 hty hnm hC.o hC.K hP hD hS q0 he hc k hk (hC.t _ hl) (fun _ h => h) hfin (hty k hk) hn hfit hlen hdg kk
theorem putF {ci k N idx : Nat} {C : String} {T : u_T} {ty0 : Nat → FieldType} {fs : List Value} {v : Value} (hC : CX p m c cc nL s args own D dA) (hin : ∀ w ∈ u_ws C T N, w ∈ lw_T) (hty : ∀ k, k < N → parseFieldDescriptor (T k).2.2.1 = some (ty0 k)) (hnm : ∀ a, a < N → ∀ b, b < N → a ≠ b → (T a).2.1 ≠ (T b).2.1) (hc : classes[ci]? = some (C, T, N)) (hk : k < N) (hl : Cond.fieldLink own idx (T k).1 (T k).2.1 (T k).2.2.1 ∈ lw_T) (hfin : (T k).2.2.2 = true) (hown : (T k).1 = own) (hmn : meth.name = "<init>")
    (hP : va_P D classes ws H) (hD : va_D A ws) (hS : va_S A H0 H locs) (q0 : Nat) (he : ws[q0]? = some (a, .inr (ci, fs))) (hn : narrow (ty0 k) v = v) (hfit : fits (ty0 k) v = true) (hlen : k < fs.length) (hdg : decode cc pc = .ok (.putfield idx, 3))
    (kk : ∀ (H1 : Heap) (locs1 : List Loc), va_P D classes (ws.set q0 (a, .inr (ci, fs.set k v))) H1 → va_D A (ws.set q0 (a, .inr (ci, fs.set k v))) → va_S A H0 H1 locs1 → W p l e R s m args below meth c H1 locs1 cells slots Q (F0 m (pc + 3) ls rest)) : W p l e R s m args below meth c H locs cells slots Q (F0 m pc ls (v :: .ref a :: rest)) :=
  va_putF hC.x hC.b hC.t hin ty0 hty hnm hC.o hC.K hP hD hS q0 he hc k hk (hC.t _ hl) (fun _ h => h) hfin hmn hown (hty k hk) hn hfit hlen hdg kk
/-! arrays by a Nat place -/
theorem ald_i {i : Int32} {n : Nat} {f : Nat → Int32} (hC : CX p m c cc nL s args own D dA) (hP : va_P D classes ws H) (q0 k : Nat) (he : ws[q0]? = some (a, .inl (dA 0, n, .inl f))) (hi : i = nI k) (hk : k < n) (hn : n < 2 ^ 31) (hdg : decode cc pc = .ok (.iaload, 1))
    (kk : W p l e R s m args below meth c H locs cells slots Q (F0 m (pc + 1) ls (.int (f k) :: rest))) : W p l e R s m args below meth c H locs cells slots Q (F0 m pc ls (.int i :: .ref a :: rest)) := by
  subst hi
  exact va_iald hC.x hC.b hC.K hP q0 0 he rfl (vp_in_nI hk hn) hdg (by rw [nI_clamp (Nat.lt_trans hk hn)]; exact kk)
theorem ald_l {i : Int32} {n : Nat} {f : Nat → Int64} (hC : CX p m c cc nL s args own D dA) (hP : va_P D classes ws H) (q0 k : Nat) (he : ws[q0]? = some (a, .inl (dA 1, n, .inr (.inl f)))) (hi : i = nI k) (hk : k < n) (hn : n < 2 ^ 31) (hdg : decode cc pc = .ok (.laload, 1))
    (kk : W p l e R s m args below meth c H locs cells slots Q (F0 m (pc + 1) ls (.long (f k) :: rest))) : W p l e R s m args below meth c H locs cells slots Q (F0 m pc ls (.int i :: .ref a :: rest)) := by
  subst hi
  exact va_lald hC.x hC.b hC.K hP q0 1 he rfl (vp_in_nI hk hn) hdg (by rw [nI_clamp (Nat.lt_trans hk hn)]; exact kk)
theorem ald_z {i : Int32} {n : Nat} {f : Nat → Int32} (hC : CX p m c cc nL s args own D dA) (hP : va_P D classes ws H) (q0 k : Nat) (he : ws[q0]? = some (a, .inl (dA 2, n, .inl f))) (hi : i = nI k) (hk : k < n) (hn : n < 2 ^ 31) (hdg : decode cc pc = .ok (.baload, 1))
    (kk : W p l e R s m args below meth c H locs cells slots Q (F0 m (pc + 1) ls (.int (f k) :: rest))) : W p l e R s m args below meth c H locs cells slots Q (F0 m pc ls (.int i :: .ref a :: rest)) := by
  subst hi
  exact va_zald hC.x hC.b hC.K hP q0 2 he rfl (vp_in_nI hk hn) hdg (by rw [nI_clamp (Nat.lt_trans hk hn)]; exact kk)
theorem ald_q {i : Int32} {n t0 b : Nat} {C : String} {cA : ClassId} {f : Nat → Option Nat} (hC : CX p m c cc nL s args own D dA) (hP : va_P D classes ws H) (q0 k : Nat) (he : ws[q0]? = some (a, .inl (cA, n, .inr (.inr (.inr (.inr f)))))) (ht : (tys dA)[t0]? = some (cA, .object C)) (hi : i = nI k) (hk : k < n) (hn : n < 2 ^ 31) (hf : f k = some b) (hdg : decode cc pc = .ok (.aaload, 1))
    (kk : W p l e R s m args below meth c H locs cells slots Q (F0 m (pc + 1) ls (.ref b :: rest))) : W p l e R s m args below meth c H locs cells slots Q (F0 m pc ls (.int i :: .ref a :: rest)) := by
  subst hi
  exact va_aldq hC.x hC.b hC.K hP q0 t0 he ht (vp_in_nI hk hn) hdg (by rw [nI_clamp (Nat.lt_trans hk hn), hf]; exact kk)
theorem ast_i {i x : Int32} {n : Nat} {f : Nat → Int32} (hC : CX p m c cc nL s args own D dA) (hP : va_P D classes ws H) (hD : va_D A ws) (hS : va_S A H0 H locs) (q0 k : Nat) (he : ws[q0]? = some (a, .inl (dA 0, n, .inl f))) (hi : i = nI k) (hk : k < n) (hn : n < 2 ^ 31) (hdg : decode cc pc = .ok (.iastore, 1))
    (kk : ∀ (H1 : Heap) (locs1 : List Loc), va_P D classes (ws.set q0 (a, .inl (dA 0, n, .inl (upd f k x)))) H1 → va_D A (ws.set q0 (a, .inl (dA 0, n, .inl (upd f k x)))) → va_S A H0 H1 locs1 → W p l e R s m args below meth c H1 locs1 cells slots Q (F0 m (pc + 1) ls rest)) : W p l e R s m args below meth c H locs cells slots Q (F0 m pc ls (.int x :: .int i :: .ref a :: rest)) := by
  subst hi
  refine va_iast hC.x hC.b hC.K hP hD hS q0 0 he rfl (vp_in_nI hk hn) hdg ?_
  rw [nI_clamp (Nat.lt_trans hk hn)]; exact kk
theorem ast_l {i : Int32} {x : Int64} {n : Nat} {f : Nat → Int64} (hC : CX p m c cc nL s args own D dA) (hP : va_P D classes ws H) (hD : va_D A ws) (hS : va_S A H0 H locs) (q0 k : Nat) (he : ws[q0]? = some (a, .inl (dA 1, n, .inr (.inl f)))) (hi : i = nI k) (hk : k < n) (hn : n < 2 ^ 31) (hdg : decode cc pc = .ok (.lastore, 1))
    (kk : ∀ (H1 : Heap) (locs1 : List Loc), va_P D classes (ws.set q0 (a, .inl (dA 1, n, .inr (.inl (vp_updL f k x))))) H1 → va_D A (ws.set q0 (a, .inl (dA 1, n, .inr (.inl (vp_updL f k x))))) → va_S A H0 H1 locs1 → W p l e R s m args below meth c H1 locs1 cells slots Q (F0 m (pc + 1) ls rest)) : W p l e R s m args below meth c H locs cells slots Q (F0 m pc ls (.long x :: .int i :: .ref a :: rest)) := by
  subst hi
  refine va_last hC.x hC.b hC.K hP hD hS q0 1 he rfl (vp_in_nI hk hn) hdg ?_
  rw [nI_clamp (Nat.lt_trans hk hn)]; exact kk
theorem ast_z {i x : Int32} {n : Nat} {f : Nat → Int32} (hC : CX p m c cc nL s args own D dA) (hP : va_P D classes ws H) (hD : va_D A ws) (hS : va_S A H0 H locs) (q0 k : Nat) (he : ws[q0]? = some (a, .inl (dA 2, n, .inl f))) (hi : i = nI k) (hk : k < n) (hn : n < 2 ^ 31) (hx : vp_nar .boolean x = x) (hdg : decode cc pc = .ok (.bastore, 1))
    (kk : ∀ (H1 : Heap) (locs1 : List Loc), va_P D classes (ws.set q0 (a, .inl (dA 2, n, .inl (upd f k x)))) H1 → va_D A (ws.set q0 (a, .inl (dA 2, n, .inl (upd f k x)))) → va_S A H0 H1 locs1 → W p l e R s m args below meth c H1 locs1 cells slots Q (F0 m (pc + 1) ls rest)) : W p l e R s m args below meth c H locs cells slots Q (F0 m pc ls (.int x :: .int i :: .ref a :: rest)) := by
  subst hi
  refine va_zast hC.x hC.b hC.K hP hD hS q0 2 he rfl (vp_in_nI hk hn) hdg ?_
  rw [nI_clamp (Nat.lt_trans hk hn), hx]; exact kk
/-! ends of a method that changes nothing -/
theorem ro_i {post : Int32 → Prop} {free : Addr → Prop} {v : Int32} (hC : CX p m c cc nL s args own D dA) (hr : meth.sig.returnType = some .int) (hlk : meth.locks = false) (hH : s.heap = H) (hdg : decode cc pc = .ok (.ireturn, 1)) (hp : post v) : W p l e R s m args below meth c H [] 0 0 (MQ below (vp_Si post) args s 0 0 free) (F0 m pc ls [.int v]) :=
  W.iret hC.x hC.b hr (fun _ ht _ => ⟨v, rfl, hp, ht.trans hH.symm⟩) (fun _ h => by cases h) hdg hlk
theorem ro_l {post : Int64 → Prop} {free : Addr → Prop} {v : Int64} (hC : CX p m c cc nL s args own D dA) (hr : meth.sig.returnType = some .long) (hlk : meth.locks = false) (hH : s.heap = H) (hdg : decode cc pc = .ok (.lreturn, 1)) (hp : post v) : W p l e R s m args below meth c H [] 0 0 (MQ below (vp_Sl post) args s 0 0 free) (F0 m pc ls [.long v]) :=
  W.lret hC.x hC.b hr (fun _ ht _ => ⟨v, rfl, hp, ht.trans hH.symm⟩) (fun _ h => by cases h) hdg hlk
theorem ro_z {post : Int32 → Prop} {free : Addr → Prop} {v : Int32} (hC : CX p m c cc nL s args own D dA) (hr : meth.sig.returnType = some .boolean) (hlk : meth.locks = false) (hH : s.heap = H) (hdg : decode cc pc = .ok (.ireturn, 1)) (hn : narrow .boolean (.int v) = .int v) (hp : post v) : W p l e R s m args below meth c H [] 0 0 (MQ below (vp_Si post) args s 0 0 free) (F0 m pc ls [.int v]) :=
  W.zret hC.x hC.b hr hn (fun _ ht _ => ⟨v, rfl, hp, ht.trans hH.symm⟩) (fun _ h => by cases h) hdg hlk
/-! ends of a method that writes inside A -/
def QI (post : Int32 → Prop) (B : Heap → Prop) (A : Nat → Prop) : Array Value → State → Outcome → State → Prop := va_Qi (fun r (_ : Unit) => post r) (fun _ t => B t.heap) A
def QL (post : Int64 → Prop) (B : Heap → Prop) (A : Nat → Prop) : Array Value → State → Outcome → State → Prop := va_Ql (fun r (_ : Unit) => post r) (fun _ t => B t.heap) A
def QV (B : Heap → Prop) (A : Nat → Prop) : Array Value → State → Outcome → State → Prop := va_Qv (fun (_ : Unit) => True) (fun _ t => B t.heap) A
def QR (B : Nat → Heap → Prop) (A : Nat → Prop) : Array Value → State → Outcome → State → Prop := va_Qr (fun (_ : Unit) => True) (fun _ a t => B a t.heap) A
theorem wr_i {post : Int32 → Prop} {B : Heap → Prop} {v : Int32} (hC : CX p m c cc nL s args own D dA) (hr : meth.sig.returnType = some .int) (hlk : meth.locks = false) (hS : va_S A s.heap H locs) (hdg : decode cc pc = .ok (.ireturn, 1)) (hp : post v) (hB : B H) : W p l e R s m args below meth c H locs cells slots (MQ below (QI post B A) args s cells slots A) (F0 m pc ls [.int v]) :=
  W.iret hC.x hC.b hr (fun _ ht _ => ⟨⟨v, (), rfl, hp, by show B _; rw [ht]; exact hB⟩, hS.F ht⟩) hS.2.2 hdg hlk
theorem wr_z {post : Int32 → Prop} {B : Heap → Prop} {v : Int32} (hC : CX p m c cc nL s args own D dA) (hr : meth.sig.returnType = some .boolean) (hlk : meth.locks = false) (hS : va_S A s.heap H locs) (hdg : decode cc pc = .ok (.ireturn, 1)) (hn : narrow .boolean (.int v) = .int v) (hp : post v) (hB : B H) : W p l e R s m args below meth c H locs cells slots (MQ below (QI post B A) args s cells slots A) (F0 m pc ls [.int v]) :=
  W.zret hC.x hC.b hr hn (fun _ ht _ => ⟨⟨v, (), rfl, hp, by show B _; rw [ht]; exact hB⟩, hS.F ht⟩) hS.2.2 hdg hlk
theorem wr_l {post : Int64 → Prop} {B : Heap → Prop} {v : Int64} (hC : CX p m c cc nL s args own D dA) (hr : meth.sig.returnType = some .long) (hlk : meth.locks = false) (hS : va_S A s.heap H locs) (hdg : decode cc pc = .ok (.lreturn, 1)) (hp : post v) (hB : B H) : W p l e R s m args below meth c H locs cells slots (MQ below (QL post B A) args s cells slots A) (F0 m pc ls [.long v]) :=
  W.lret hC.x hC.b hr (fun _ ht _ => ⟨⟨v, (), rfl, hp, by show B _; rw [ht]; exact hB⟩, hS.F ht⟩) hS.2.2 hdg hlk
theorem wr_v {B : Heap → Prop} (hC : CX p m c cc nL s args own D dA) (hr : meth.sig.returnType = none) (hlk : meth.locks = false) (hS : va_S A s.heap H locs) (hdg : decode cc pc = .ok (.return_, 1)) (hB : B H) : W p l e R s m args below meth c H locs cells slots (MQ below (QV B A) args s cells slots A) (F0 m pc ls []) :=
  W.vret hC.x hC.b hr (fun _ ht _ => ⟨⟨(), rfl, trivial, by show B _; rw [ht]; exact hB⟩, hS.F ht⟩) hS.2.2 hdg hlk
theorem wr_r {B : Nat → Heap → Prop} {rt : FieldType} (hC : CX p m c cc nL s args own D dA) (hr : meth.sig.returnType = some rt) (hrt : ∃ t, rt = .array t) (hlk : meth.locks = false) (hS : va_S A s.heap H locs) (hdg : decode cc pc = .ok (.areturn, 1)) (hB : B a H) : W p l e R s m args below meth c H locs cells slots (MQ below (QR B A) args s cells slots A) (F0 m pc ls [.ref a]) :=
  W.aret hC.x hC.b hr (Or.inr hrt) (Or.inr ⟨a, rfl⟩) (fun _ ht _ => ⟨⟨(), a, rfl, trivial, by show B a _; rw [ht]; exact hB⟩, hS.F ht⟩) hS.2.2 hdg hlk
/-! values on top get another name -/
theorem tp_i {x y : Int32} (h : x = y) (k : W p l e R s m args below meth c H locs cells slots Q (F0 m pc ls (.int y :: rest))) : W p l e R s m args below meth c H locs cells slots Q (F0 m pc ls (.int x :: rest)) := h ▸ k
theorem tp_l {x y : Int64} (h : x = y) (k : W p l e R s m args below meth c H locs cells slots Q (F0 m pc ls (.long y :: rest))) : W p l e R s m args below meth c H locs cells slots Q (F0 m pc ls (.long x :: rest)) := h ▸ k
/-! a compare of longs with the branch behind it -/
theorem lc_lt {x y : Int64} {off : Int} {tgt : Nat} (hC : CX p m c cc nL s args own D dA) (hd1 : decode cc pc = .ok (.lcmp, 1)) (hd2 : decode cc (pc + 1) = .ok (.ifCond .lt off, 3)) (ht : ((pc + 1 : Nat) : Int) + off = (tgt : Int)) (kt : x < y → W p l e R s m args below meth c H locs cells slots Q (F0 m tgt ls rest)) (kf : ¬ x < y → W p l e R s m args below meth c H locs cells slots Q (F0 m (pc + 1 + 3) ls rest)) : W p l e R s m args below meth c H locs cells slots Q (F0 m pc ls (.long y :: .long x :: rest)) :=
  W.lcmp hC.x hC.b hd1 (lv_if_lt hC.x hC.b hd2 ht (fun h => kt ((lg_cmp_lt x y).mp h)) (fun h => kf (fun z => h ((lg_cmp_lt x y).mpr z))))
theorem lc_gt {x y : Int64} {off : Int} {tgt : Nat} (hC : CX p m c cc nL s args own D dA) (hd1 : decode cc pc = .ok (.lcmp, 1)) (hd2 : decode cc (pc + 1) = .ok (.ifCond .gt off, 3)) (ht : ((pc + 1 : Nat) : Int) + off = (tgt : Int)) (kt : y < x → W p l e R s m args below meth c H locs cells slots Q (F0 m tgt ls rest)) (kf : ¬ y < x → W p l e R s m args below meth c H locs cells slots Q (F0 m (pc + 1 + 3) ls rest)) : W p l e R s m args below meth c H locs cells slots Q (F0 m pc ls (.long y :: .long x :: rest)) :=
  W.lcmp hC.x hC.b hd1 (lv_if_gt hC.x hC.b hd2 ht (fun h => kt ((lg_cmp_gt x y).mp h)) (fun h => kf (fun z => h ((lg_cmp_gt x y).mpr z))))
theorem lc_ge {x y : Int64} {off : Int} {tgt : Nat} (hC : CX p m c cc nL s args own D dA) (hd1 : decode cc pc = .ok (.lcmp, 1)) (hd2 : decode cc (pc + 1) = .ok (.ifCond .ge off, 3)) (ht : ((pc + 1 : Nat) : Int) + off = (tgt : Int)) (kt : y ≤ x → W p l e R s m args below meth c H locs cells slots Q (F0 m tgt ls rest)) (kf : ¬ y ≤ x → W p l e R s m args below meth c H locs cells slots Q (F0 m (pc + 1 + 3) ls rest)) : W p l e R s m args below meth c H locs cells slots Q (F0 m pc ls (.long y :: .long x :: rest)) :=
  W.lcmp hC.x hC.b hd1 (lv_if_ge hC.x hC.b hd2 ht (fun h => kt ((lg_cmp_ge x y).mp h)) (fun h => kf (fun z => h ((lg_cmp_ge x y).mpr z))))
theorem lc_le {x y : Int64} {off : Int} {tgt : Nat} (hC : CX p m c cc nL s args own D dA) (hd1 : decode cc pc = .ok (.lcmp, 1)) (hd2 : decode cc (pc + 1) = .ok (.ifCond .le off, 3)) (ht : ((pc + 1 : Nat) : Int) + off = (tgt : Int)) (kt : x ≤ y → W p l e R s m args below meth c H locs cells slots Q (F0 m tgt ls rest)) (kf : ¬ x ≤ y → W p l e R s m args below meth c H locs cells slots Q (F0 m (pc + 1 + 3) ls rest)) : W p l e R s m args below meth c H locs cells slots Q (F0 m pc ls (.long y :: .long x :: rest)) :=
  W.lcmp hC.x hC.b hd1 (lv_if_le hC.x hC.b hd2 ht (fun h => kt ((lg_cmp_le x y).mp h)) (fun h => kf (fun z => h ((lg_cmp_le x y).mpr z))))
theorem lc_eq {x y : Int64} {off : Int} {tgt : Nat} (hC : CX p m c cc nL s args own D dA) (hd1 : decode cc pc = .ok (.lcmp, 1)) (hd2 : decode cc (pc + 1) = .ok (.ifCond .eq off, 3)) (ht : ((pc + 1 : Nat) : Int) + off = (tgt : Int)) (kt : x = y → W p l e R s m args below meth c H locs cells slots Q (F0 m tgt ls rest)) (kf : ¬ x = y → W p l e R s m args below meth c H locs cells slots Q (F0 m (pc + 1 + 3) ls rest)) : W p l e R s m args below meth c H locs cells slots Q (F0 m pc ls (.long y :: .long x :: rest)) :=
  W.lcmp hC.x hC.b hd1 (lv_if_eq hC.x hC.b hd2 ht (fun h => kt ((lg_cmp_eq x y).mp h)) (fun h => kf (fun z => h ((lg_cmp_eq x y).mpr z))))
theorem lc_ne {x y : Int64} {off : Int} {tgt : Nat} (hC : CX p m c cc nL s args own D dA) (hd1 : decode cc pc = .ok (.lcmp, 1)) (hd2 : decode cc (pc + 1) = .ok (.ifCond .ne off, 3)) (ht : ((pc + 1 : Nat) : Int) + off = (tgt : Int)) (kt : ¬ x = y → W p l e R s m args below meth c H locs cells slots Q (F0 m tgt ls rest)) (kf : x = y → W p l e R s m args below meth c H locs cells slots Q (F0 m (pc + 1 + 3) ls rest)) : W p l e R s m args below meth c H locs cells slots Q (F0 m pc ls (.long y :: .long x :: rest)) :=
  W.lcmp hC.x hC.b hd1 (lv_if_ne hC.x hC.b hd2 ht (fun h => kt (fun z => h ((lg_cmp_eq x y).mpr z))) (fun h => kf ((lg_cmp_eq x y).mp h)))
/-! branches on numbers that are Nats -/
theorem ni_ge {x y : Nat} {off : Int} {tgt : Nat} (hC : CX p m c cc nL s args own D dA) (hdg : decode cc pc = .ok (.if_icmp .ge off, 3)) (ht : (pc : Int) + off = (tgt : Int)) (hx : x < 2 ^ 31) (hy : y < 2 ^ 31) (kt : y ≤ x → W p l e R s m args below meth c H locs cells slots Q (F0 m tgt ls rest)) (kf : x < y → W p l e R s m args below meth c H locs cells slots Q (F0 m (pc + 3) ls rest)) : W p l e R s m args below meth c H locs cells slots Q (F0 m pc ls (.int (nI y) :: .int (nI x) :: rest)) :=
  lv_icmp_ge hC.x hC.b hdg ht (fun h => kt ((nI_leI hy hx).mp h)) (fun h => kf (Nat.lt_of_not_le fun z => h ((nI_leI hy hx).mpr z)))
theorem ni_lt {x y : Nat} {off : Int} {tgt : Nat} (hC : CX p m c cc nL s args own D dA) (hdg : decode cc pc = .ok (.if_icmp .lt off, 3)) (ht : (pc : Int) + off = (tgt : Int)) (hx : x < 2 ^ 31) (hy : y < 2 ^ 31) (kt : x < y → W p l e R s m args below meth c H locs cells slots Q (F0 m tgt ls rest)) (kf : y ≤ x → W p l e R s m args below meth c H locs cells slots Q (F0 m (pc + 3) ls rest)) : W p l e R s m args below meth c H locs cells slots Q (F0 m pc ls (.int (nI y) :: .int (nI x) :: rest)) :=
  lv_icmp_lt hC.x hC.b hdg ht (fun h => kt ((nI_ltI hx hy).mp h)) (fun h => kf (Nat.le_of_not_lt fun z => h ((nI_ltI hx hy).mpr z)))
theorem ni_gt {x y : Nat} {off : Int} {tgt : Nat} (hC : CX p m c cc nL s args own D dA) (hdg : decode cc pc = .ok (.if_icmp .gt off, 3)) (ht : (pc : Int) + off = (tgt : Int)) (hx : x < 2 ^ 31) (hy : y < 2 ^ 31) (kt : y < x → W p l e R s m args below meth c H locs cells slots Q (F0 m tgt ls rest)) (kf : x ≤ y → W p l e R s m args below meth c H locs cells slots Q (F0 m (pc + 3) ls rest)) : W p l e R s m args below meth c H locs cells slots Q (F0 m pc ls (.int (nI y) :: .int (nI x) :: rest)) :=
  lv_icmp_gt hC.x hC.b hdg ht (fun h => kt ((nI_ltI hy hx).mp h)) (fun h => kf (Nat.le_of_not_lt fun z => h ((nI_ltI hy hx).mpr z)))
theorem ni_le {x y : Nat} {off : Int} {tgt : Nat} (hC : CX p m c cc nL s args own D dA) (hdg : decode cc pc = .ok (.if_icmp .le off, 3)) (ht : (pc : Int) + off = (tgt : Int)) (hx : x < 2 ^ 31) (hy : y < 2 ^ 31) (kt : x ≤ y → W p l e R s m args below meth c H locs cells slots Q (F0 m tgt ls rest)) (kf : y < x → W p l e R s m args below meth c H locs cells slots Q (F0 m (pc + 3) ls rest)) : W p l e R s m args below meth c H locs cells slots Q (F0 m pc ls (.int (nI y) :: .int (nI x) :: rest)) :=
  lv_icmp_le hC.x hC.b hdg ht (fun h => kt ((nI_leI hx hy).mp h)) (fun h => kf (Nat.lt_of_not_le fun z => h ((nI_leI hx hy).mpr z)))
theorem ni_eq {x y : Nat} {off : Int} {tgt : Nat} (hC : CX p m c cc nL s args own D dA) (hdg : decode cc pc = .ok (.if_icmp .eq off, 3)) (ht : (pc : Int) + off = (tgt : Int)) (hx : x < 2 ^ 31) (hy : y < 2 ^ 31) (kt : x = y → W p l e R s m args below meth c H locs cells slots Q (F0 m tgt ls rest)) (kf : x ≠ y → W p l e R s m args below meth c H locs cells slots Q (F0 m (pc + 3) ls rest)) : W p l e R s m args below meth c H locs cells slots Q (F0 m pc ls (.int (nI y) :: .int (nI x) :: rest)) :=
  lv_icmp_eq hC.x hC.b hdg ht (fun h => kt ((nI_eq hx hy).mp h)) (fun h => kf fun z => h ((nI_eq hx hy).mpr z))
theorem ni_ne {x y : Nat} {off : Int} {tgt : Nat} (hC : CX p m c cc nL s args own D dA) (hdg : decode cc pc = .ok (.if_icmp .ne off, 3)) (ht : (pc : Int) + off = (tgt : Int)) (hx : x < 2 ^ 31) (hy : y < 2 ^ 31) (kt : x ≠ y → W p l e R s m args below meth c H locs cells slots Q (F0 m tgt ls rest)) (kf : x = y → W p l e R s m args below meth c H locs cells slots Q (F0 m (pc + 3) ls rest)) : W p l e R s m args below meth c H locs cells slots Q (F0 m pc ls (.int (nI y) :: .int (nI x) :: rest)) :=
  lv_icmp_ne hC.x hC.b hdg ht (fun h => kt fun z => h ((nI_eq hx hy).mpr z)) (fun h => kf ((nI_eq hx hy).mp h))
/-- i > 0, i ≤ 0 of a Nat -/
theorem nz_le {x : Nat} {off : Int} {tgt : Nat} (hC : CX p m c cc nL s args own D dA) (hdg : decode cc pc = .ok (.ifCond .le off, 3)) (ht : (pc : Int) + off = (tgt : Int)) (hx : x < 2 ^ 31) (kt : x = 0 → W p l e R s m args below meth c H locs cells slots Q (F0 m tgt ls rest)) (kf : 0 < x → W p l e R s m args below meth c H locs cells slots Q (F0 m (pc + 3) ls rest)) : W p l e R s m args below meth c H locs cells slots Q (F0 m pc ls (.int (nI x) :: rest)) :=
  lv_if_le hC.x hC.b hdg ht (fun h => kt (Nat.le_zero.mp ((nI_leI hx (by decide)).mp (show nI x ≤ nI 0 by rw [nI_0]; exact h)))) (fun h => kf (Nat.pos_of_ne_zero fun z => h (by rw [z, nI_0]; exact Int32.le_refl _)))
theorem nz_ne {x : Nat} {off : Int} {tgt : Nat} (hC : CX p m c cc nL s args own D dA) (hdg : decode cc pc = .ok (.ifCond .ne off, 3)) (ht : (pc : Int) + off = (tgt : Int)) (hx : x < 2 ^ 31) (kt : 0 < x → W p l e R s m args below meth c H locs cells slots Q (F0 m tgt ls rest)) (kf : x = 0 → W p l e R s m args below meth c H locs cells slots Q (F0 m (pc + 3) ls rest)) : W p l e R s m args below meth c H locs cells slots Q (F0 m pc ls (.int (nI x) :: rest)) :=
  lv_if_ne hC.x hC.b hdg ht (fun h => kt (Nat.pos_of_ne_zero fun z => h (by rw [z, nI_0]))) (fun h => kf ((nI_eq hx (by decide)).mp (by rw [nI_0]; exact h)))
end CXS
/-! loops and joins: G is found by unification -/
theorem lpW {G : JFrame → Prop} {m : MethodId} {pc : Nat} {st : List Value} (I : Nat → Array Slot → Prop) (N : Nat) (hend : ∀ ls, I N ls → G (F0 m pc ls st)) (hstep : ∀ k ls, k < N → I k ls → (∀ ls', I (k + 1) ls' → G (F0 m pc ls' st)) → G (F0 m pc ls st)) (k : Nat) {ls : Array Slot} (hk : k ≤ N) (h : I k ls) : G (F0 m pc ls st) := by
  have key : ∀ d k ls, k + d = N → I k ls → G (F0 m pc ls st) := by
    intro d
    induction d with
    | zero => intro k ls e hI; have : k = N := by omega
              subst this; exact hend ls hI
    | succ d ih => intro k ls e hI; exact hstep k ls (by omega) hI (fun ls' h' => ih (k + 1) ls' (by omega) h')
  exact key (N - k) k ls (by omega) h
/-- the same, for loops that write -/
theorem lpH {G : Heap → List Loc → Nat → Nat → (State → Prop) → JFrame → Prop} {cells slots : Nat} {Q : State → Prop} {m : MethodId} {pc : Nat} {st : List Value} (I : Nat → Heap → List Loc → Array Slot → Prop) (N : Nat) (hend : ∀ H locs ls, I N H locs ls → G H locs cells slots Q (F0 m pc ls st)) (hstep : ∀ k H locs ls, k < N → I k H locs ls → (∀ H' locs' ls', I (k + 1) H' locs' ls' → G H' locs' cells slots Q (F0 m pc ls' st)) → G H locs cells slots Q (F0 m pc ls st)) (k : Nat) {H : Heap} {locs : List Loc} {ls : Array Slot} (hk : k ≤ N) (h : I k H locs ls) : G H locs cells slots Q (F0 m pc ls st) := by
  have key : ∀ d k H locs ls, k + d = N → I k H locs ls → G H locs cells slots Q (F0 m pc ls st) := by
    intro d
    induction d with
    | zero => intro k H locs ls e hI; have : k = N := by omega
              subst this; exact hend H locs ls hI
    | succ d ih => intro k H locs ls e hI; exact hstep k H locs ls (by omega) hI (fun H' locs' ls' h' => ih (k + 1) H' locs' ls' (by omega) h')
  exact key (N - k) k H locs ls (by omega) h
/-- any loop: the measure falls -/
theorem lpD {G : Heap → List Loc → Nat → Nat → (State → Prop) → JFrame → Prop} {cells slots : Nat} {Q : State → Prop} {m : MethodId} {pc : Nat} {st : List Value} (I : Nat → Heap → List Loc → Array Slot → Prop) (hstep : ∀ d H locs ls, I d H locs ls → (∀ d' H' locs' ls', d' < d → I d' H' locs' ls' → G H' locs' cells slots Q (F0 m pc ls' st)) → G H locs cells slots Q (F0 m pc ls st)) (d : Nat) {H : Heap} {locs : List Loc} {ls : Array Slot} (h : I d H locs ls) : G H locs cells slots Q (F0 m pc ls st) := by
  have key : ∀ n d H locs ls, d < n → I d H locs ls → G H locs cells slots Q (F0 m pc ls st) := by
    intro n
    induction n with
    | zero => intro d H locs ls e; omega
    | succ n ih => intro d H locs ls e hI; exact hstep d H locs ls hI (fun d' H' locs' ls' h1 h' => ih d' H' locs' ls' (by omega) h')
  exact key (d + 1) d H locs ls (by omega) h
/-- two ways meet: what comes behind is proved once -/
theorem jn {G : JFrame → Prop} {g : JFrame} (P : JFrame → Prop) (hk : ∀ g', P g' → G g') (h : (∀ g', P g' → G g') → G g) : G g := h hk
end
section
theorem d_GR_init_0 : decode b_GR_init 0 = .ok (.aload_n 0, 1) := by decide +kernel
theorem d_GR_init_1 : decode b_GR_init 1 = .ok (.invokespecial 1, 3) := by decide +kernel
theorem d_GR_init_4 : decode b_GR_init 4 = .ok (.aload_n 0, 1) := by decide +kernel
theorem d_GR_init_5 : decode b_GR_init 5 = .ok (.bipush 40, 2) := by decide +kernel
theorem d_GR_init_7 : decode b_GR_init 7 = .ok (.newarray .int, 2) := by decide +kernel
theorem d_GR_init_9 : decode b_GR_init 9 = .ok (.putfield 9, 3) := by decide +kernel
theorem d_GR_init_12 : decode b_GR_init 12 = .ok (.aload_n 0, 1) := by decide +kernel
theorem d_GR_init_13 : decode b_GR_init 13 = .ok (.bipush 40, 2) := by decide +kernel
theorem d_GR_init_15 : decode b_GR_init 15 = .ok (.newarray .int, 2) := by decide +kernel
theorem d_GR_init_17 : decode b_GR_init 17 = .ok (.putfield 13, 3) := by decide +kernel
theorem d_GR_init_20 : decode b_GR_init 20 = .ok (.aload_n 0, 1) := by decide +kernel
theorem d_GR_init_21 : decode b_GR_init 21 = .ok (.sipush 200, 3) := by decide +kernel
theorem d_GR_init_24 : decode b_GR_init 24 = .ok (.anewarray 16, 3) := by decide +kernel
theorem d_GR_init_27 : decode b_GR_init 27 = .ok (.putfield 18, 3) := by decide +kernel
theorem d_GR_init_30 : decode b_GR_init 30 = .ok (.aload_n 0, 1) := by decide +kernel
theorem d_GR_init_31 : decode b_GR_init 31 = .ok (.bipush 20, 2) := by decide +kernel
theorem d_GR_init_33 : decode b_GR_init 33 = .ok (.newarray .long, 2) := by decide +kernel
theorem d_GR_init_35 : decode b_GR_init 35 = .ok (.putfield 22, 3) := by decide +kernel
theorem d_GR_init_38 : decode b_GR_init 38 = .ok (.aload_n 0, 1) := by decide +kernel
theorem d_GR_init_39 : decode b_GR_init 39 = .ok (.bipush 20, 2) := by decide +kernel
theorem d_GR_init_41 : decode b_GR_init 41 = .ok (.newarray .long, 2) := by decide +kernel
theorem d_GR_init_43 : decode b_GR_init 43 = .ok (.putfield 26, 3) := by decide +kernel
theorem d_GR_init_46 : decode b_GR_init 46 = .ok (.aload_n 0, 1) := by decide +kernel
theorem d_GR_init_47 : decode b_GR_init 47 = .ok (.bipush 10, 2) := by decide +kernel
theorem d_GR_init_49 : decode b_GR_init 49 = .ok (.anewarray 29, 3) := by decide +kernel
theorem d_GR_init_52 : decode b_GR_init 52 = .ok (.putfield 31, 3) := by decide +kernel
theorem d_GR_init_55 : decode b_GR_init 55 = .ok (.return_, 1) := by decide +kernel
theorem d_GR_rule_0 : decode b_GR_rule 0 = .ok (.iload_n 1, 1) := by decide +kernel
theorem d_GR_rule_1 : decode b_GR_rule 1 = .ok (.ifCond .lt 29, 3) := by decide +kernel
theorem d_GR_rule_4 : decode b_GR_rule 4 = .ok (.iload_n 1, 1) := by decide +kernel
theorem d_GR_rule_5 : decode b_GR_rule 5 = .ok (.sipush 10000, 3) := by decide +kernel
theorem d_GR_rule_8 : decode b_GR_rule 8 = .ok (.if_icmp .gt 22, 3) := by decide +kernel
theorem d_GR_rule_11 : decode b_GR_rule 11 = .ok (.iload_n 2, 1) := by decide +kernel
theorem d_GR_rule_12 : decode b_GR_rule 12 = .ok (.ifCond .lt 18, 3) := by decide +kernel
theorem d_GR_rule_15 : decode b_GR_rule 15 = .ok (.iload_n 2, 1) := by decide +kernel
theorem d_GR_rule_16 : decode b_GR_rule 16 = .ok (.ldc 35, 2) := by decide +kernel
theorem d_GR_rule_18 : decode b_GR_rule 18 = .ok (.if_icmp .gt 12, 3) := by decide +kernel
theorem d_GR_rule_21 : decode b_GR_rule 21 = .ok (.aload_n 0, 1) := by decide +kernel
theorem d_GR_rule_22 : decode b_GR_rule 22 = .ok (.getfield 36, 3) := by decide +kernel
theorem d_GR_rule_25 : decode b_GR_rule 25 = .ok (.bipush 40, 2) := by decide +kernel
theorem d_GR_rule_27 : decode b_GR_rule 27 = .ok (.if_icmp .ne 5, 3) := by decide +kernel
theorem d_GR_rule_30 : decode b_GR_rule 30 = .ok (.iconst (-1), 1) := by decide +kernel
theorem d_GR_rule_31 : decode b_GR_rule 31 = .ok (.ireturn, 1) := by decide +kernel
theorem d_GR_rule_32 : decode b_GR_rule 32 = .ok (.aload_n 0, 1) := by decide +kernel
theorem d_GR_rule_33 : decode b_GR_rule 33 = .ok (.getfield 9, 3) := by decide +kernel
theorem d_GR_rule_36 : decode b_GR_rule 36 = .ok (.aload_n 0, 1) := by decide +kernel
theorem d_GR_rule_37 : decode b_GR_rule 37 = .ok (.getfield 36, 3) := by decide +kernel
theorem d_GR_rule_40 : decode b_GR_rule 40 = .ok (.iload_n 1, 1) := by decide +kernel
theorem d_GR_rule_41 : decode b_GR_rule 41 = .ok (.iastore, 1) := by decide +kernel
theorem d_GR_rule_42 : decode b_GR_rule 42 = .ok (.aload_n 0, 1) := by decide +kernel
theorem d_GR_rule_43 : decode b_GR_rule 43 = .ok (.getfield 13, 3) := by decide +kernel
theorem d_GR_rule_46 : decode b_GR_rule 46 = .ok (.aload_n 0, 1) := by decide +kernel
theorem d_GR_rule_47 : decode b_GR_rule 47 = .ok (.getfield 36, 3) := by decide +kernel
theorem d_GR_rule_50 : decode b_GR_rule 50 = .ok (.iload_n 2, 1) := by decide +kernel
theorem d_GR_rule_51 : decode b_GR_rule 51 = .ok (.iastore, 1) := by decide +kernel
theorem d_GR_rule_52 : decode b_GR_rule 52 = .ok (.aload_n 0, 1) := by decide +kernel
theorem d_GR_rule_53 : decode b_GR_rule 53 = .ok (.dup, 1) := by decide +kernel
theorem d_GR_rule_54 : decode b_GR_rule 54 = .ok (.getfield 36, 3) := by decide +kernel
theorem d_GR_rule_57 : decode b_GR_rule 57 = .ok (.iconst 1, 1) := by decide +kernel
theorem d_GR_rule_58 : decode b_GR_rule 58 = .ok (.iadd, 1) := by decide +kernel
theorem d_GR_rule_59 : decode b_GR_rule 59 = .ok (.putfield 36, 3) := by decide +kernel
theorem d_GR_rule_62 : decode b_GR_rule 62 = .ok (.aload_n 0, 1) := by decide +kernel
theorem d_GR_rule_63 : decode b_GR_rule 63 = .ok (.getfield 36, 3) := by decide +kernel
theorem d_GR_rule_66 : decode b_GR_rule 66 = .ok (.iconst 1, 1) := by decide +kernel
theorem d_GR_rule_67 : decode b_GR_rule 67 = .ok (.isub, 1) := by decide +kernel
theorem d_GR_rule_68 : decode b_GR_rule 68 = .ok (.ireturn, 1) := by decide +kernel
theorem d_GR_add_0 : decode b_GR_add 0 = .ok (.aload_n 0, 1) := by decide +kernel
theorem d_GR_add_1 : decode b_GR_add 1 = .ok (.getfield 18, 3) := by decide +kernel
theorem d_GR_add_4 : decode b_GR_add 4 = .ok (.aload_n 0, 1) := by decide +kernel
theorem d_GR_add_5 : decode b_GR_add 5 = .ok (.getfield 40, 3) := by decide +kernel
theorem d_GR_add_8 : decode b_GR_add 8 = .ok (.aload_n 1, 1) := by decide +kernel
theorem d_GR_add_9 : decode b_GR_add 9 = .ok (.aastore, 1) := by decide +kernel
theorem d_GR_add_10 : decode b_GR_add 10 = .ok (.aload_n 0, 1) := by decide +kernel
theorem d_GR_add_11 : decode b_GR_add 11 = .ok (.dup, 1) := by decide +kernel
theorem d_GR_add_12 : decode b_GR_add 12 = .ok (.getfield 40, 3) := by decide +kernel
theorem d_GR_add_15 : decode b_GR_add 15 = .ok (.iconst 1, 1) := by decide +kernel
theorem d_GR_add_16 : decode b_GR_add 16 = .ok (.iadd, 1) := by decide +kernel
theorem d_GR_add_17 : decode b_GR_add 17 = .ok (.putfield 40, 3) := by decide +kernel
theorem d_GR_add_20 : decode b_GR_add 20 = .ok (.aload_n 0, 1) := by decide +kernel
theorem d_GR_add_21 : decode b_GR_add 21 = .ok (.getfield 40, 3) := by decide +kernel
theorem d_GR_add_24 : decode b_GR_add 24 = .ok (.iconst 1, 1) := by decide +kernel
theorem d_GR_add_25 : decode b_GR_add 25 = .ok (.isub, 1) := by decide +kernel
theorem d_GR_add_26 : decode b_GR_add 26 = .ok (.ireturn, 1) := by decide +kernel
theorem d_GR_used_0 : decode b_GR_used 0 = .ok (.iload_n 1, 1) := by decide +kernel
theorem d_GR_used_1 : decode b_GR_used 1 = .ok (.ifCond .lt 43, 3) := by decide +kernel
theorem d_GR_used_4 : decode b_GR_used 4 = .ok (.iload_n 1, 1) := by decide +kernel
theorem d_GR_used_5 : decode b_GR_used 5 = .ok (.aload_n 0, 1) := by decide +kernel
theorem d_GR_used_6 : decode b_GR_used 6 = .ok (.getfield 36, 3) := by decide +kernel
theorem d_GR_used_9 : decode b_GR_used 9 = .ok (.if_icmp .ge 35, 3) := by decide +kernel
theorem d_GR_used_12 : decode b_GR_used 12 = .ok (.iload_n 2, 1) := by decide +kernel
theorem d_GR_used_13 : decode b_GR_used 13 = .ok (.ifCond .lt 31, 3) := by decide +kernel
theorem d_GR_used_16 : decode b_GR_used 16 = .ok (.iload_n 2, 1) := by decide +kernel
theorem d_GR_used_17 : decode b_GR_used 17 = .ok (.sipush 256, 3) := by decide +kernel
theorem d_GR_used_20 : decode b_GR_used 20 = .ok (.if_icmp .ge 24, 3) := by decide +kernel
theorem d_GR_used_23 : decode b_GR_used 23 = .ok (.iload_n 3, 1) := by decide +kernel
theorem d_GR_used_24 : decode b_GR_used 24 = .ok (.iconst 1, 1) := by decide +kernel
theorem d_GR_used_25 : decode b_GR_used 25 = .ok (.if_icmp .lt 19, 3) := by decide +kernel
theorem d_GR_used_28 : decode b_GR_used 28 = .ok (.iload_n 3, 1) := by decide +kernel
theorem d_GR_used_29 : decode b_GR_used 29 = .ok (.bipush 9, 2) := by decide +kernel
theorem d_GR_used_31 : decode b_GR_used 31 = .ok (.if_icmp .gt 13, 3) := by decide +kernel
theorem d_GR_used_34 : decode b_GR_used 34 = .ok (.aload_n 0, 1) := by decide +kernel
theorem d_GR_used_35 : decode b_GR_used 35 = .ok (.getfield 40, 3) := by decide +kernel
theorem d_GR_used_38 : decode b_GR_used 38 = .ok (.sipush 200, 3) := by decide +kernel
theorem d_GR_used_41 : decode b_GR_used 41 = .ok (.if_icmp .ne 5, 3) := by decide +kernel
theorem d_GR_used_44 : decode b_GR_used 44 = .ok (.iconst (-1), 1) := by decide +kernel
theorem d_GR_used_45 : decode b_GR_used 45 = .ok (.ireturn, 1) := by decide +kernel
theorem d_GR_used_46 : decode b_GR_used 46 = .ok (.aload_n 0, 1) := by decide +kernel
theorem d_GR_used_47 : decode b_GR_used 47 = .ok (.new 43, 3) := by decide +kernel
theorem d_GR_used_50 : decode b_GR_used 50 = .ok (.dup, 1) := by decide +kernel
theorem d_GR_used_51 : decode b_GR_used 51 = .ok (.iload_n 1, 1) := by decide +kernel
theorem d_GR_used_52 : decode b_GR_used 52 = .ok (.iload_n 2, 1) := by decide +kernel
theorem d_GR_used_53 : decode b_GR_used 53 = .ok (.iload_n 3, 1) := by decide +kernel
theorem d_GR_used_54 : decode b_GR_used 54 = .ok (.invokespecial 45, 3) := by decide +kernel
theorem d_GR_used_57 : decode b_GR_used 57 = .ok (.invokevirtual 48, 3) := by decide +kernel
theorem d_GR_used_60 : decode b_GR_used 60 = .ok (.ireturn, 1) := by decide +kernel
theorem d_GR_guess_0 : decode b_GR_guess 0 = .ok (.iload_n 1, 1) := by decide +kernel
theorem d_GR_guess_1 : decode b_GR_guess 1 = .ok (.iconst 1, 1) := by decide +kernel
theorem d_GR_guess_2 : decode b_GR_guess 2 = .ok (.if_icmp .lt 19, 3) := by decide +kernel
theorem d_GR_guess_5 : decode b_GR_guess 5 = .ok (.iload_n 1, 1) := by decide +kernel
theorem d_GR_guess_6 : decode b_GR_guess 6 = .ok (.bipush 20, 2) := by decide +kernel
theorem d_GR_guess_8 : decode b_GR_guess 8 = .ok (.if_icmp .gt 13, 3) := by decide +kernel
theorem d_GR_guess_11 : decode b_GR_guess 11 = .ok (.aload_n 0, 1) := by decide +kernel
theorem d_GR_guess_12 : decode b_GR_guess 12 = .ok (.getfield 40, 3) := by decide +kernel
theorem d_GR_guess_15 : decode b_GR_guess 15 = .ok (.sipush 200, 3) := by decide +kernel
theorem d_GR_guess_18 : decode b_GR_guess 18 = .ok (.if_icmp .ne 7, 3) := by decide +kernel
theorem d_GR_guess_21 : decode b_GR_guess 21 = .ok (.iconst (-1), 1) := by decide +kernel
theorem d_GR_guess_22 : decode b_GR_guess 22 = .ok (.goto 15, 3) := by decide +kernel
theorem d_GR_guess_25 : decode b_GR_guess 25 = .ok (.aload_n 0, 1) := by decide +kernel
theorem d_GR_guess_26 : decode b_GR_guess 26 = .ok (.new 52, 3) := by decide +kernel
theorem d_GR_guess_29 : decode b_GR_guess 29 = .ok (.dup, 1) := by decide +kernel
theorem d_GR_guess_30 : decode b_GR_guess 30 = .ok (.iload_n 1, 1) := by decide +kernel
theorem d_GR_guess_31 : decode b_GR_guess 31 = .ok (.invokespecial 54, 3) := by decide +kernel
theorem d_GR_guess_34 : decode b_GR_guess 34 = .ok (.invokevirtual 48, 3) := by decide +kernel
theorem d_GR_guess_37 : decode b_GR_guess 37 = .ok (.ireturn, 1) := by decide +kernel
theorem d_GR_drop_0 : decode b_GR_drop 0 = .ok (.aload_n 0, 1) := by decide +kernel
theorem d_GR_drop_1 : decode b_GR_drop 1 = .ok (.getfield 40, 3) := by decide +kernel
theorem d_GR_drop_4 : decode b_GR_drop 4 = .ok (.ifCond .ne 5, 3) := by decide +kernel
theorem d_GR_drop_7 : decode b_GR_drop 7 = .ok (.iconst 0, 1) := by decide +kernel
theorem d_GR_drop_8 : decode b_GR_drop 8 = .ok (.ireturn, 1) := by decide +kernel
theorem d_GR_drop_9 : decode b_GR_drop 9 = .ok (.aload_n 0, 1) := by decide +kernel
theorem d_GR_drop_10 : decode b_GR_drop 10 = .ok (.dup, 1) := by decide +kernel
theorem d_GR_drop_11 : decode b_GR_drop 11 = .ok (.getfield 40, 3) := by decide +kernel
theorem d_GR_drop_14 : decode b_GR_drop 14 = .ok (.iconst 1, 1) := by decide +kernel
theorem d_GR_drop_15 : decode b_GR_drop 15 = .ok (.isub, 1) := by decide +kernel
theorem d_GR_drop_16 : decode b_GR_drop 16 = .ok (.putfield 40, 3) := by decide +kernel
theorem d_GR_drop_19 : decode b_GR_drop 19 = .ok (.aload_n 0, 1) := by decide +kernel
theorem d_GR_drop_20 : decode b_GR_drop 20 = .ok (.aload_n 0, 1) := by decide +kernel
theorem d_GR_drop_21 : decode b_GR_drop 21 = .ok (.getfield 57, 3) := by decide +kernel
theorem d_GR_drop_24 : decode b_GR_drop 24 = .ok (.aload_n 0, 1) := by decide +kernel
theorem d_GR_drop_25 : decode b_GR_drop 25 = .ok (.getfield 40, 3) := by decide +kernel
theorem d_GR_drop_28 : decode b_GR_drop 28 = .ok (.invokestatic 60, 3) := by decide +kernel
theorem d_GR_drop_31 : decode b_GR_drop 31 = .ok (.putfield 57, 3) := by decide +kernel
theorem d_GR_drop_34 : decode b_GR_drop 34 = .ok (.iconst 1, 1) := by decide +kernel
theorem d_GR_drop_35 : decode b_GR_drop 35 = .ok (.ireturn, 1) := by decide +kernel
theorem d_GR_isFirst_0 : decode b_GR_isFirst 0 = .ok (.iconst 0, 1) := by decide +kernel
theorem d_GR_isFirst_1 : decode b_GR_isFirst 1 = .ok (.istore_n 3, 1) := by decide +kernel
theorem d_GR_isFirst_2 : decode b_GR_isFirst 2 = .ok (.iload_n 3, 1) := by decide +kernel
theorem d_GR_isFirst_3 : decode b_GR_isFirst 3 = .ok (.iload_n 2, 1) := by decide +kernel
theorem d_GR_isFirst_4 : decode b_GR_isFirst 4 = .ok (.if_icmp .ge 24, 3) := by decide +kernel
theorem d_GR_isFirst_7 : decode b_GR_isFirst 7 = .ok (.aload_n 0, 1) := by decide +kernel
theorem d_GR_isFirst_8 : decode b_GR_isFirst 8 = .ok (.getfield 18, 3) := by decide +kernel
theorem d_GR_isFirst_11 : decode b_GR_isFirst 11 = .ok (.iload_n 3, 1) := by decide +kernel
theorem d_GR_isFirst_12 : decode b_GR_isFirst 12 = .ok (.aaload, 1) := by decide +kernel
theorem d_GR_isFirst_13 : decode b_GR_isFirst 13 = .ok (.invokevirtual 66, 3) := by decide +kernel
theorem d_GR_isFirst_16 : decode b_GR_isFirst 16 = .ok (.iload_n 1, 1) := by decide +kernel
theorem d_GR_isFirst_17 : decode b_GR_isFirst 17 = .ok (.if_icmp .ne 5, 3) := by decide +kernel
theorem d_GR_isFirst_20 : decode b_GR_isFirst 20 = .ok (.iconst 0, 1) := by decide +kernel
theorem d_GR_isFirst_21 : decode b_GR_isFirst 21 = .ok (.ireturn, 1) := by decide +kernel
theorem d_GR_isFirst_22 : decode b_GR_isFirst 22 = .ok (.iinc 3 1, 3) := by decide +kernel
theorem d_GR_isFirst_25 : decode b_GR_isFirst 25 = .ok (.goto (-23), 3) := by decide +kernel
theorem d_GR_isFirst_28 : decode b_GR_isFirst 28 = .ok (.iconst 1, 1) := by decide +kernel
theorem d_GR_isFirst_29 : decode b_GR_isFirst 29 = .ok (.ireturn, 1) := by decide +kernel
theorem d_GR_cost_0 : decode b_GR_cost 0 = .ok (.iload_n 1, 1) := by decide +kernel
theorem d_GR_cost_1 : decode b_GR_cost 1 = .ok (.ifCond .lt 11, 3) := by decide +kernel
theorem d_GR_cost_4 : decode b_GR_cost 4 = .ok (.iload_n 1, 1) := by decide +kernel
theorem d_GR_cost_5 : decode b_GR_cost 5 = .ok (.aload_n 0, 1) := by decide +kernel
theorem d_GR_cost_6 : decode b_GR_cost 6 = .ok (.getfield 40, 3) := by decide +kernel
theorem d_GR_cost_9 : decode b_GR_cost 9 = .ok (.if_icmp .lt 9, 3) := by decide +kernel
theorem d_GR_cost_12 : decode b_GR_cost 12 = .ok (.ldc2_w 70, 3) := by decide +kernel
theorem d_GR_cost_15 : decode b_GR_cost 15 = .ok (.goto 14, 3) := by decide +kernel
theorem d_GR_cost_18 : decode b_GR_cost 18 = .ok (.aload_n 0, 1) := by decide +kernel
theorem d_GR_cost_19 : decode b_GR_cost 19 = .ok (.getfield 18, 3) := by decide +kernel
theorem d_GR_cost_22 : decode b_GR_cost 22 = .ok (.iload_n 1, 1) := by decide +kernel
theorem d_GR_cost_23 : decode b_GR_cost 23 = .ok (.aaload, 1) := by decide +kernel
theorem d_GR_cost_24 : decode b_GR_cost 24 = .ok (.aload_n 0, 1) := by decide +kernel
theorem d_GR_cost_25 : decode b_GR_cost 25 = .ok (.iload_n 1, 1) := by decide +kernel
theorem d_GR_cost_26 : decode b_GR_cost 26 = .ok (.invokevirtual 72, 3) := by decide +kernel
theorem d_GR_cost_29 : decode b_GR_cost 29 = .ok (.lreturn, 1) := by decide +kernel
theorem d_GR_sum_0 : decode b_GR_sum 0 = .ok (.iload_n 1, 1) := by decide +kernel
theorem d_GR_sum_1 : decode b_GR_sum 1 = .ok (.ifCond .ge 7, 3) := by decide +kernel
theorem d_GR_sum_4 : decode b_GR_sum 4 = .ok (.ldc2_w 70, 3) := by decide +kernel
theorem d_GR_sum_7 : decode b_GR_sum 7 = .ok (.lreturn, 1) := by decide +kernel
theorem d_GR_sum_8 : decode b_GR_sum 8 = .ok (.lconst 0, 1) := by decide +kernel
theorem d_GR_sum_9 : decode b_GR_sum 9 = .ok (.lstore_n 2, 1) := by decide +kernel
theorem d_GR_sum_10 : decode b_GR_sum 10 = .ok (.iconst 0, 1) := by decide +kernel
theorem d_GR_sum_11 : decode b_GR_sum 11 = .ok (.istore 4, 2) := by decide +kernel
theorem d_GR_sum_13 : decode b_GR_sum 13 = .ok (.iload 4, 2) := by decide +kernel
theorem d_GR_sum_15 : decode b_GR_sum 15 = .ok (.iload_n 1, 1) := by decide +kernel
theorem d_GR_sum_16 : decode b_GR_sum 16 = .ok (.if_icmp .ge 34, 3) := by decide +kernel
theorem d_GR_sum_19 : decode b_GR_sum 19 = .ok (.iload 4, 2) := by decide +kernel
theorem d_GR_sum_21 : decode b_GR_sum 21 = .ok (.aload_n 0, 1) := by decide +kernel
theorem d_GR_sum_22 : decode b_GR_sum 22 = .ok (.getfield 40, 3) := by decide +kernel
theorem d_GR_sum_25 : decode b_GR_sum 25 = .ok (.if_icmp .ge 25, 3) := by decide +kernel
theorem d_GR_sum_28 : decode b_GR_sum 28 = .ok (.lload_n 2, 1) := by decide +kernel
theorem d_GR_sum_29 : decode b_GR_sum 29 = .ok (.aload_n 0, 1) := by decide +kernel
theorem d_GR_sum_30 : decode b_GR_sum 30 = .ok (.getfield 18, 3) := by decide +kernel
theorem d_GR_sum_33 : decode b_GR_sum 33 = .ok (.iload 4, 2) := by decide +kernel
theorem d_GR_sum_35 : decode b_GR_sum 35 = .ok (.aaload, 1) := by decide +kernel
theorem d_GR_sum_36 : decode b_GR_sum 36 = .ok (.aload_n 0, 1) := by decide +kernel
theorem d_GR_sum_37 : decode b_GR_sum 37 = .ok (.iload 4, 2) := by decide +kernel
theorem d_GR_sum_39 : decode b_GR_sum 39 = .ok (.invokevirtual 72, 3) := by decide +kernel
theorem d_GR_sum_42 : decode b_GR_sum 42 = .ok (.ladd, 1) := by decide +kernel
theorem d_GR_sum_43 : decode b_GR_sum 43 = .ok (.lstore_n 2, 1) := by decide +kernel
theorem d_GR_sum_44 : decode b_GR_sum 44 = .ok (.iinc 4 1, 3) := by decide +kernel
theorem d_GR_sum_47 : decode b_GR_sum 47 = .ok (.goto (-34), 3) := by decide +kernel
theorem d_GR_sum_50 : decode b_GR_sum 50 = .ok (.lload_n 2, 1) := by decide +kernel
theorem d_GR_sum_51 : decode b_GR_sum 51 = .ok (.lreturn, 1) := by decide +kernel
theorem d_GR_cls_0 : decode b_GR_cls 0 = .ok (.lload_n 1, 1) := by decide +kernel
theorem d_GR_cls_1 : decode b_GR_cls 1 = .ok (.lconst 0, 1) := by decide +kernel
theorem d_GR_cls_2 : decode b_GR_cls 2 = .ok (.lcmp, 1) := by decide +kernel
theorem d_GR_cls_3 : decode b_GR_cls 3 = .ok (.ifCond .lt 26, 3) := by decide +kernel
theorem d_GR_cls_6 : decode b_GR_cls 6 = .ok (.lload_n 3, 1) := by decide +kernel
theorem d_GR_cls_7 : decode b_GR_cls 7 = .ok (.lload_n 1, 1) := by decide +kernel
theorem d_GR_cls_8 : decode b_GR_cls 8 = .ok (.lcmp, 1) := by decide +kernel
theorem d_GR_cls_9 : decode b_GR_cls 9 = .ok (.ifCond .lt 20, 3) := by decide +kernel
theorem d_GR_cls_12 : decode b_GR_cls 12 = .ok (.lload_n 3, 1) := by decide +kernel
theorem d_GR_cls_13 : decode b_GR_cls 13 = .ok (.ldc2_w 76, 3) := by decide +kernel
theorem d_GR_cls_16 : decode b_GR_cls 16 = .ok (.lcmp, 1) := by decide +kernel
theorem d_GR_cls_17 : decode b_GR_cls 17 = .ok (.ifCond .gt 12, 3) := by decide +kernel
theorem d_GR_cls_20 : decode b_GR_cls 20 = .ok (.aload_n 0, 1) := by decide +kernel
theorem d_GR_cls_21 : decode b_GR_cls 21 = .ok (.getfield 78, 3) := by decide +kernel
theorem d_GR_cls_24 : decode b_GR_cls 24 = .ok (.bipush 20, 2) := by decide +kernel
theorem d_GR_cls_26 : decode b_GR_cls 26 = .ok (.if_icmp .ne 5, 3) := by decide +kernel
theorem d_GR_cls_29 : decode b_GR_cls 29 = .ok (.iconst (-1), 1) := by decide +kernel
theorem d_GR_cls_30 : decode b_GR_cls 30 = .ok (.ireturn, 1) := by decide +kernel
theorem d_GR_cls_31 : decode b_GR_cls 31 = .ok (.iconst 0, 1) := by decide +kernel
theorem d_GR_cls_32 : decode b_GR_cls 32 = .ok (.istore 5, 2) := by decide +kernel
theorem d_GR_cls_34 : decode b_GR_cls 34 = .ok (.iload 5, 2) := by decide +kernel
theorem d_GR_cls_36 : decode b_GR_cls 36 = .ok (.aload_n 0, 1) := by decide +kernel
theorem d_GR_cls_37 : decode b_GR_cls 37 = .ok (.getfield 78, 3) := by decide +kernel
theorem d_GR_cls_40 : decode b_GR_cls 40 = .ok (.if_icmp .ge 35, 3) := by decide +kernel
theorem d_GR_cls_43 : decode b_GR_cls 43 = .ok (.lload_n 1, 1) := by decide +kernel
theorem d_GR_cls_44 : decode b_GR_cls 44 = .ok (.aload_n 0, 1) := by decide +kernel
theorem d_GR_cls_45 : decode b_GR_cls 45 = .ok (.getfield 26, 3) := by decide +kernel
theorem d_GR_cls_48 : decode b_GR_cls 48 = .ok (.iload 5, 2) := by decide +kernel
theorem d_GR_cls_50 : decode b_GR_cls 50 = .ok (.laload, 1) := by decide +kernel
theorem d_GR_cls_51 : decode b_GR_cls 51 = .ok (.lcmp, 1) := by decide +kernel
theorem d_GR_cls_52 : decode b_GR_cls 52 = .ok (.ifCond .gt 17, 3) := by decide +kernel
theorem d_GR_cls_55 : decode b_GR_cls 55 = .ok (.lload_n 3, 1) := by decide +kernel
theorem d_GR_cls_56 : decode b_GR_cls 56 = .ok (.aload_n 0, 1) := by decide +kernel
theorem d_GR_cls_57 : decode b_GR_cls 57 = .ok (.getfield 22, 3) := by decide +kernel
theorem d_GR_cls_60 : decode b_GR_cls 60 = .ok (.iload 5, 2) := by decide +kernel
theorem d_GR_cls_62 : decode b_GR_cls 62 = .ok (.laload, 1) := by decide +kernel
theorem d_GR_cls_63 : decode b_GR_cls 63 = .ok (.lcmp, 1) := by decide +kernel
theorem d_GR_cls_64 : decode b_GR_cls 64 = .ok (.ifCond .lt 5, 3) := by decide +kernel
theorem d_GR_cls_67 : decode b_GR_cls 67 = .ok (.iconst (-1), 1) := by decide +kernel
theorem d_GR_cls_68 : decode b_GR_cls 68 = .ok (.ireturn, 1) := by decide +kernel
theorem d_GR_cls_69 : decode b_GR_cls 69 = .ok (.iinc 5 1, 3) := by decide +kernel
theorem d_GR_cls_72 : decode b_GR_cls 72 = .ok (.goto (-38), 3) := by decide +kernel
theorem d_GR_cls_75 : decode b_GR_cls 75 = .ok (.aload_n 0, 1) := by decide +kernel
theorem d_GR_cls_76 : decode b_GR_cls 76 = .ok (.getfield 22, 3) := by decide +kernel
theorem d_GR_cls_79 : decode b_GR_cls 79 = .ok (.aload_n 0, 1) := by decide +kernel
theorem d_GR_cls_80 : decode b_GR_cls 80 = .ok (.getfield 78, 3) := by decide +kernel
theorem d_GR_cls_83 : decode b_GR_cls 83 = .ok (.lload_n 1, 1) := by decide +kernel
theorem d_GR_cls_84 : decode b_GR_cls 84 = .ok (.lastore, 1) := by decide +kernel
theorem d_GR_cls_85 : decode b_GR_cls 85 = .ok (.aload_n 0, 1) := by decide +kernel
theorem d_GR_cls_86 : decode b_GR_cls 86 = .ok (.getfield 26, 3) := by decide +kernel
theorem d_GR_cls_89 : decode b_GR_cls 89 = .ok (.aload_n 0, 1) := by decide +kernel
theorem d_GR_cls_90 : decode b_GR_cls 90 = .ok (.getfield 78, 3) := by decide +kernel
theorem d_GR_cls_93 : decode b_GR_cls 93 = .ok (.lload_n 3, 1) := by decide +kernel
theorem d_GR_cls_94 : decode b_GR_cls 94 = .ok (.lastore, 1) := by decide +kernel
theorem d_GR_cls_95 : decode b_GR_cls 95 = .ok (.aload_n 0, 1) := by decide +kernel
theorem d_GR_cls_96 : decode b_GR_cls 96 = .ok (.dup, 1) := by decide +kernel
theorem d_GR_cls_97 : decode b_GR_cls 97 = .ok (.getfield 78, 3) := by decide +kernel
theorem d_GR_cls_100 : decode b_GR_cls 100 = .ok (.iconst 1, 1) := by decide +kernel
theorem d_GR_cls_101 : decode b_GR_cls 101 = .ok (.iadd, 1) := by decide +kernel
theorem d_GR_cls_102 : decode b_GR_cls 102 = .ok (.putfield 78, 3) := by decide +kernel
theorem d_GR_cls_105 : decode b_GR_cls 105 = .ok (.aload_n 0, 1) := by decide +kernel
theorem d_GR_cls_106 : decode b_GR_cls 106 = .ok (.getfield 78, 3) := by decide +kernel
theorem d_GR_cls_109 : decode b_GR_cls 109 = .ok (.iconst 1, 1) := by decide +kernel
theorem d_GR_cls_110 : decode b_GR_cls 110 = .ok (.isub, 1) := by decide +kernel
theorem d_GR_cls_111 : decode b_GR_cls 111 = .ok (.ireturn, 1) := by decide +kernel
theorem d_GR_classOf_0 : decode b_GR_classOf 0 = .ok (.iconst 0, 1) := by decide +kernel
theorem d_GR_classOf_1 : decode b_GR_classOf 1 = .ok (.istore_n 3, 1) := by decide +kernel
theorem d_GR_classOf_2 : decode b_GR_classOf 2 = .ok (.iload_n 3, 1) := by decide +kernel
theorem d_GR_classOf_3 : decode b_GR_classOf 3 = .ok (.aload_n 0, 1) := by decide +kernel
theorem d_GR_classOf_4 : decode b_GR_classOf 4 = .ok (.getfield 78, 3) := by decide +kernel
theorem d_GR_classOf_7 : decode b_GR_classOf 7 = .ok (.if_icmp .ge 33, 3) := by decide +kernel
theorem d_GR_classOf_10 : decode b_GR_classOf 10 = .ok (.lload_n 1, 1) := by decide +kernel
theorem d_GR_classOf_11 : decode b_GR_classOf 11 = .ok (.aload_n 0, 1) := by decide +kernel
theorem d_GR_classOf_12 : decode b_GR_classOf 12 = .ok (.getfield 22, 3) := by decide +kernel
theorem d_GR_classOf_15 : decode b_GR_classOf 15 = .ok (.iload_n 3, 1) := by decide +kernel
theorem d_GR_classOf_16 : decode b_GR_classOf 16 = .ok (.laload, 1) := by decide +kernel
theorem d_GR_classOf_17 : decode b_GR_classOf 17 = .ok (.lcmp, 1) := by decide +kernel
theorem d_GR_classOf_18 : decode b_GR_classOf 18 = .ok (.ifCond .lt 16, 3) := by decide +kernel
theorem d_GR_classOf_21 : decode b_GR_classOf 21 = .ok (.lload_n 1, 1) := by decide +kernel
theorem d_GR_classOf_22 : decode b_GR_classOf 22 = .ok (.aload_n 0, 1) := by decide +kernel
theorem d_GR_classOf_23 : decode b_GR_classOf 23 = .ok (.getfield 26, 3) := by decide +kernel
theorem d_GR_classOf_26 : decode b_GR_classOf 26 = .ok (.iload_n 3, 1) := by decide +kernel
theorem d_GR_classOf_27 : decode b_GR_classOf 27 = .ok (.laload, 1) := by decide +kernel
theorem d_GR_classOf_28 : decode b_GR_classOf 28 = .ok (.lcmp, 1) := by decide +kernel
theorem d_GR_classOf_29 : decode b_GR_classOf 29 = .ok (.ifCond .gt 5, 3) := by decide +kernel
theorem d_GR_classOf_32 : decode b_GR_classOf 32 = .ok (.iload_n 3, 1) := by decide +kernel
theorem d_GR_classOf_33 : decode b_GR_classOf 33 = .ok (.ireturn, 1) := by decide +kernel
theorem d_GR_classOf_34 : decode b_GR_classOf 34 = .ok (.iinc 3 1, 3) := by decide +kernel
theorem d_GR_classOf_37 : decode b_GR_classOf 37 = .ok (.goto (-35), 3) := by decide +kernel
theorem d_GR_classOf_40 : decode b_GR_classOf 40 = .ok (.iconst (-1), 1) := by decide +kernel
theorem d_GR_classOf_41 : decode b_GR_classOf 41 = .ok (.ireturn, 1) := by decide +kernel
theorem d_GR_grade_0 : decode b_GR_grade 0 = .ok (.aload_n 0, 1) := by decide +kernel
theorem d_GR_grade_1 : decode b_GR_grade 1 = .ok (.aload_n 0, 1) := by decide +kernel
theorem d_GR_grade_2 : decode b_GR_grade 2 = .ok (.aload_n 0, 1) := by decide +kernel
theorem d_GR_grade_3 : decode b_GR_grade 3 = .ok (.getfield 40, 3) := by decide +kernel
theorem d_GR_grade_6 : decode b_GR_grade 6 = .ok (.invokevirtual 81, 3) := by decide +kernel
theorem d_GR_grade_9 : decode b_GR_grade 9 = .ok (.invokevirtual 85, 3) := by decide +kernel
theorem d_GR_grade_12 : decode b_GR_grade 12 = .ok (.ireturn, 1) := by decide +kernel
theorem d_GR_rank_0 : decode b_GR_rank 0 = .ok (.aload_n 0, 1) := by decide +kernel
theorem d_GR_rank_1 : decode b_GR_rank 1 = .ok (.invokevirtual 89, 3) := by decide +kernel
theorem d_GR_rank_4 : decode b_GR_rank 4 = .ok (.istore_n 1, 1) := by decide +kernel
theorem d_GR_rank_5 : decode b_GR_rank 5 = .ok (.iload_n 1, 1) := by decide +kernel
theorem d_GR_rank_6 : decode b_GR_rank 6 = .ok (.ifCond .ge 5, 3) := by decide +kernel
theorem d_GR_rank_9 : decode b_GR_rank 9 = .ok (.iconst (-1), 1) := by decide +kernel
theorem d_GR_rank_10 : decode b_GR_rank 10 = .ok (.ireturn, 1) := by decide +kernel
theorem d_GR_rank_11 : decode b_GR_rank 11 = .ok (.iconst 0, 1) := by decide +kernel
theorem d_GR_rank_12 : decode b_GR_rank 12 = .ok (.istore_n 2, 1) := by decide +kernel
theorem d_GR_rank_13 : decode b_GR_rank 13 = .ok (.iconst 0, 1) := by decide +kernel
theorem d_GR_rank_14 : decode b_GR_rank 14 = .ok (.istore_n 3, 1) := by decide +kernel
theorem d_GR_rank_15 : decode b_GR_rank 15 = .ok (.iload_n 3, 1) := by decide +kernel
theorem d_GR_rank_16 : decode b_GR_rank 16 = .ok (.aload_n 0, 1) := by decide +kernel
theorem d_GR_rank_17 : decode b_GR_rank 17 = .ok (.getfield 78, 3) := by decide +kernel
theorem d_GR_rank_20 : decode b_GR_rank 20 = .ok (.if_icmp .ge 33, 3) := by decide +kernel
theorem d_GR_rank_23 : decode b_GR_rank 23 = .ok (.iload_n 2, 1) := by decide +kernel
theorem d_GR_rank_24 : decode b_GR_rank 24 = .ok (.aload_n 0, 1) := by decide +kernel
theorem d_GR_rank_25 : decode b_GR_rank 25 = .ok (.getfield 26, 3) := by decide +kernel
theorem d_GR_rank_28 : decode b_GR_rank 28 = .ok (.iload_n 3, 1) := by decide +kernel
theorem d_GR_rank_29 : decode b_GR_rank 29 = .ok (.laload, 1) := by decide +kernel
theorem d_GR_rank_30 : decode b_GR_rank 30 = .ok (.aload_n 0, 1) := by decide +kernel
theorem d_GR_rank_31 : decode b_GR_rank 31 = .ok (.getfield 22, 3) := by decide +kernel
theorem d_GR_rank_34 : decode b_GR_rank 34 = .ok (.iload_n 1, 1) := by decide +kernel
theorem d_GR_rank_35 : decode b_GR_rank 35 = .ok (.laload, 1) := by decide +kernel
theorem d_GR_rank_36 : decode b_GR_rank 36 = .ok (.lcmp, 1) := by decide +kernel
theorem d_GR_rank_37 : decode b_GR_rank 37 = .ok (.ifCond .ge 7, 3) := by decide +kernel
theorem d_GR_rank_40 : decode b_GR_rank 40 = .ok (.iconst 1, 1) := by decide +kernel
theorem d_GR_rank_41 : decode b_GR_rank 41 = .ok (.goto 4, 3) := by decide +kernel
theorem d_GR_rank_44 : decode b_GR_rank 44 = .ok (.iconst 0, 1) := by decide +kernel
theorem d_GR_rank_45 : decode b_GR_rank 45 = .ok (.iadd, 1) := by decide +kernel
theorem d_GR_rank_46 : decode b_GR_rank 46 = .ok (.istore_n 2, 1) := by decide +kernel
theorem d_GR_rank_47 : decode b_GR_rank 47 = .ok (.iinc 3 1, 3) := by decide +kernel
theorem d_GR_rank_50 : decode b_GR_rank 50 = .ok (.goto (-35), 3) := by decide +kernel
theorem d_GR_rank_53 : decode b_GR_rank 53 = .ok (.iload_n 2, 1) := by decide +kernel
theorem d_GR_rank_54 : decode b_GR_rank 54 = .ok (.ireturn, 1) := by decide +kernel
theorem d_GR_gap_0 : decode b_GR_gap 0 = .ok (.lload_n 1, 1) := by decide +kernel
theorem d_GR_gap_1 : decode b_GR_gap 1 = .ok (.lconst 0, 1) := by decide +kernel
theorem d_GR_gap_2 : decode b_GR_gap 2 = .ok (.lcmp, 1) := by decide +kernel
theorem d_GR_gap_3 : decode b_GR_gap 3 = .ok (.ifCond .ge 7, 3) := by decide +kernel
theorem d_GR_gap_6 : decode b_GR_gap 6 = .ok (.ldc2_w 70, 3) := by decide +kernel
theorem d_GR_gap_9 : decode b_GR_gap 9 = .ok (.lreturn, 1) := by decide +kernel
theorem d_GR_gap_10 : decode b_GR_gap 10 = .ok (.lload_n 1, 1) := by decide +kernel
theorem d_GR_gap_11 : decode b_GR_gap 11 = .ok (.lstore_n 3, 1) := by decide +kernel
theorem d_GR_gap_12 : decode b_GR_gap 12 = .ok (.aload_n 0, 1) := by decide +kernel
theorem d_GR_gap_13 : decode b_GR_gap 13 = .ok (.lload_n 3, 1) := by decide +kernel
theorem d_GR_gap_14 : decode b_GR_gap 14 = .ok (.invokevirtual 85, 3) := by decide +kernel
theorem d_GR_gap_17 : decode b_GR_gap 17 = .ok (.istore 5, 2) := by decide +kernel
theorem d_GR_gap_19 : decode b_GR_gap 19 = .ok (.iload 5, 2) := by decide +kernel
theorem d_GR_gap_21 : decode b_GR_gap 21 = .ok (.ifCond .lt 23, 3) := by decide +kernel
theorem d_GR_gap_24 : decode b_GR_gap 24 = .ok (.aload_n 0, 1) := by decide +kernel
theorem d_GR_gap_25 : decode b_GR_gap 25 = .ok (.getfield 26, 3) := by decide +kernel
theorem d_GR_gap_28 : decode b_GR_gap 28 = .ok (.iload 5, 2) := by decide +kernel
theorem d_GR_gap_30 : decode b_GR_gap 30 = .ok (.laload, 1) := by decide +kernel
theorem d_GR_gap_31 : decode b_GR_gap 31 = .ok (.lconst 1, 1) := by decide +kernel
theorem d_GR_gap_32 : decode b_GR_gap 32 = .ok (.ladd, 1) := by decide +kernel
theorem d_GR_gap_33 : decode b_GR_gap 33 = .ok (.lstore_n 3, 1) := by decide +kernel
theorem d_GR_gap_34 : decode b_GR_gap 34 = .ok (.aload_n 0, 1) := by decide +kernel
theorem d_GR_gap_35 : decode b_GR_gap 35 = .ok (.lload_n 3, 1) := by decide +kernel
theorem d_GR_gap_36 : decode b_GR_gap 36 = .ok (.invokevirtual 85, 3) := by decide +kernel
theorem d_GR_gap_39 : decode b_GR_gap 39 = .ok (.istore 5, 2) := by decide +kernel
theorem d_GR_gap_41 : decode b_GR_gap 41 = .ok (.goto (-22), 3) := by decide +kernel
theorem d_GR_gap_44 : decode b_GR_gap 44 = .ok (.lload_n 3, 1) := by decide +kernel
theorem d_GR_gap_45 : decode b_GR_gap 45 = .ok (.lreturn, 1) := by decide +kernel
theorem d_GR_isStuckAhead_0 : decode b_GR_isStuckAhead 0 = .ok (.iconst 0, 1) := by decide +kernel
theorem d_GR_isStuckAhead_1 : decode b_GR_isStuckAhead 1 = .ok (.istore_n 3, 1) := by decide +kernel
theorem d_GR_isStuckAhead_2 : decode b_GR_isStuckAhead 2 = .ok (.iload_n 3, 1) := by decide +kernel
theorem d_GR_isStuckAhead_3 : decode b_GR_isStuckAhead 3 = .ok (.iload_n 2, 1) := by decide +kernel
theorem d_GR_isStuckAhead_4 : decode b_GR_isStuckAhead 4 = .ok (.if_icmp .ge 36, 3) := by decide +kernel
theorem d_GR_isStuckAhead_7 : decode b_GR_isStuckAhead 7 = .ok (.aload_n 0, 1) := by decide +kernel
theorem d_GR_isStuckAhead_8 : decode b_GR_isStuckAhead 8 = .ok (.getfield 18, 3) := by decide +kernel
theorem d_GR_isStuckAhead_11 : decode b_GR_isStuckAhead 11 = .ok (.iload_n 3, 1) := by decide +kernel
theorem d_GR_isStuckAhead_12 : decode b_GR_isStuckAhead 12 = .ok (.aaload, 1) := by decide +kernel
theorem d_GR_isStuckAhead_13 : decode b_GR_isStuckAhead 13 = .ok (.invokevirtual 92, 3) := by decide +kernel
theorem d_GR_isStuckAhead_16 : decode b_GR_isStuckAhead 16 = .ok (.ifCond .eq 18, 3) := by decide +kernel
theorem d_GR_isStuckAhead_19 : decode b_GR_isStuckAhead 19 = .ok (.aload_n 0, 1) := by decide +kernel
theorem d_GR_isStuckAhead_20 : decode b_GR_isStuckAhead 20 = .ok (.getfield 18, 3) := by decide +kernel
theorem d_GR_isStuckAhead_23 : decode b_GR_isStuckAhead 23 = .ok (.iload_n 3, 1) := by decide +kernel
theorem d_GR_isStuckAhead_24 : decode b_GR_isStuckAhead 24 = .ok (.aaload, 1) := by decide +kernel
theorem d_GR_isStuckAhead_25 : decode b_GR_isStuckAhead 25 = .ok (.invokevirtual 96, 3) := by decide +kernel
theorem d_GR_isStuckAhead_28 : decode b_GR_isStuckAhead 28 = .ok (.iload_n 1, 1) := by decide +kernel
theorem d_GR_isStuckAhead_29 : decode b_GR_isStuckAhead 29 = .ok (.if_icmp .ne 5, 3) := by decide +kernel
theorem d_GR_isStuckAhead_32 : decode b_GR_isStuckAhead 32 = .ok (.iconst 1, 1) := by decide +kernel
theorem d_GR_isStuckAhead_33 : decode b_GR_isStuckAhead 33 = .ok (.ireturn, 1) := by decide +kernel
theorem d_GR_isStuckAhead_34 : decode b_GR_isStuckAhead 34 = .ok (.iinc 3 1, 3) := by decide +kernel
theorem d_GR_isStuckAhead_37 : decode b_GR_isStuckAhead 37 = .ok (.goto (-35), 3) := by decide +kernel
theorem d_GR_isStuckAhead_40 : decode b_GR_isStuckAhead 40 = .ok (.iconst 0, 1) := by decide +kernel
theorem d_GR_isStuckAhead_41 : decode b_GR_isStuckAhead 41 = .ok (.ireturn, 1) := by decide +kernel
theorem d_GR_stuck_0 : decode b_GR_stuck 0 = .ok (.iconst 0, 1) := by decide +kernel
theorem d_GR_stuck_1 : decode b_GR_stuck 1 = .ok (.istore_n 2, 1) := by decide +kernel
theorem d_GR_stuck_2 : decode b_GR_stuck 2 = .ok (.iconst 0, 1) := by decide +kernel
theorem d_GR_stuck_3 : decode b_GR_stuck 3 = .ok (.istore_n 3, 1) := by decide +kernel
theorem d_GR_stuck_4 : decode b_GR_stuck 4 = .ok (.iload_n 3, 1) := by decide +kernel
theorem d_GR_stuck_5 : decode b_GR_stuck 5 = .ok (.aload_n 0, 1) := by decide +kernel
theorem d_GR_stuck_6 : decode b_GR_stuck 6 = .ok (.getfield 40, 3) := by decide +kernel
theorem d_GR_stuck_9 : decode b_GR_stuck 9 = .ok (.if_icmp .ge 59, 3) := by decide +kernel
theorem d_GR_stuck_12 : decode b_GR_stuck 12 = .ok (.aload_n 0, 1) := by decide +kernel
theorem d_GR_stuck_13 : decode b_GR_stuck 13 = .ok (.getfield 18, 3) := by decide +kernel
theorem d_GR_stuck_16 : decode b_GR_stuck 16 = .ok (.iload_n 3, 1) := by decide +kernel
theorem d_GR_stuck_17 : decode b_GR_stuck 17 = .ok (.aaload, 1) := by decide +kernel
theorem d_GR_stuck_18 : decode b_GR_stuck 18 = .ok (.invokevirtual 92, 3) := by decide +kernel
theorem d_GR_stuck_21 : decode b_GR_stuck 21 = .ok (.ifCond .eq 41, 3) := by decide +kernel
theorem d_GR_stuck_24 : decode b_GR_stuck 24 = .ok (.aload_n 0, 1) := by decide +kernel
theorem d_GR_stuck_25 : decode b_GR_stuck 25 = .ok (.aload_n 0, 1) := by decide +kernel
theorem d_GR_stuck_26 : decode b_GR_stuck 26 = .ok (.getfield 18, 3) := by decide +kernel
theorem d_GR_stuck_29 : decode b_GR_stuck 29 = .ok (.iload_n 3, 1) := by decide +kernel
theorem d_GR_stuck_30 : decode b_GR_stuck 30 = .ok (.aaload, 1) := by decide +kernel
theorem d_GR_stuck_31 : decode b_GR_stuck 31 = .ok (.invokevirtual 96, 3) := by decide +kernel
theorem d_GR_stuck_34 : decode b_GR_stuck 34 = .ok (.iload_n 3, 1) := by decide +kernel
theorem d_GR_stuck_35 : decode b_GR_stuck 35 = .ok (.invokevirtual 99, 3) := by decide +kernel
theorem d_GR_stuck_38 : decode b_GR_stuck 38 = .ok (.ifCond .eq 6, 3) := by decide +kernel
theorem d_GR_stuck_41 : decode b_GR_stuck 41 = .ok (.goto 21, 3) := by decide +kernel
theorem d_GR_stuck_44 : decode b_GR_stuck 44 = .ok (.iload_n 2, 1) := by decide +kernel
theorem d_GR_stuck_45 : decode b_GR_stuck 45 = .ok (.iload_n 1, 1) := by decide +kernel
theorem d_GR_stuck_46 : decode b_GR_stuck 46 = .ok (.if_icmp .ne 13, 3) := by decide +kernel
theorem d_GR_stuck_49 : decode b_GR_stuck 49 = .ok (.aload_n 0, 1) := by decide +kernel
theorem d_GR_stuck_50 : decode b_GR_stuck 50 = .ok (.getfield 18, 3) := by decide +kernel
theorem d_GR_stuck_53 : decode b_GR_stuck 53 = .ok (.iload_n 3, 1) := by decide +kernel
theorem d_GR_stuck_54 : decode b_GR_stuck 54 = .ok (.aaload, 1) := by decide +kernel
theorem d_GR_stuck_55 : decode b_GR_stuck 55 = .ok (.invokevirtual 96, 3) := by decide +kernel
theorem d_GR_stuck_58 : decode b_GR_stuck 58 = .ok (.ireturn, 1) := by decide +kernel
theorem d_GR_stuck_59 : decode b_GR_stuck 59 = .ok (.iinc 2 1, 3) := by decide +kernel
theorem d_GR_stuck_62 : decode b_GR_stuck 62 = .ok (.iinc 3 1, 3) := by decide +kernel
theorem d_GR_stuck_65 : decode b_GR_stuck 65 = .ok (.goto (-61), 3) := by decide +kernel
theorem d_GR_stuck_68 : decode b_GR_stuck 68 = .ok (.iconst (-1), 1) := by decide +kernel
theorem d_GR_stuck_69 : decode b_GR_stuck 69 = .ok (.ireturn, 1) := by decide +kernel
theorem d_GR_run_0 : decode b_GR_run 0 = .ok (.iconst 0, 1) := by decide +kernel
theorem d_GR_run_1 : decode b_GR_run 1 = .ok (.istore_n 1, 1) := by decide +kernel
theorem d_GR_run_2 : decode b_GR_run 2 = .ok (.iconst 0, 1) := by decide +kernel
theorem d_GR_run_3 : decode b_GR_run 3 = .ok (.istore_n 2, 1) := by decide +kernel
theorem d_GR_run_4 : decode b_GR_run 4 = .ok (.iconst 0, 1) := by decide +kernel
theorem d_GR_run_5 : decode b_GR_run 5 = .ok (.istore_n 3, 1) := by decide +kernel
theorem d_GR_run_6 : decode b_GR_run 6 = .ok (.iload_n 3, 1) := by decide +kernel
theorem d_GR_run_7 : decode b_GR_run 7 = .ok (.aload_n 0, 1) := by decide +kernel
theorem d_GR_run_8 : decode b_GR_run 8 = .ok (.getfield 40, 3) := by decide +kernel
theorem d_GR_run_11 : decode b_GR_run 11 = .ok (.if_icmp .ge 43, 3) := by decide +kernel
theorem d_GR_run_14 : decode b_GR_run 14 = .ok (.iload_n 3, 1) := by decide +kernel
theorem d_GR_run_15 : decode b_GR_run 15 = .ok (.ifCond .le 25, 3) := by decide +kernel
theorem d_GR_run_18 : decode b_GR_run 18 = .ok (.aload_n 0, 1) := by decide +kernel
theorem d_GR_run_19 : decode b_GR_run 19 = .ok (.iload_n 3, 1) := by decide +kernel
theorem d_GR_run_20 : decode b_GR_run 20 = .ok (.invokevirtual 103, 3) := by decide +kernel
theorem d_GR_run_23 : decode b_GR_run 23 = .ok (.aload_n 0, 1) := by decide +kernel
theorem d_GR_run_24 : decode b_GR_run 24 = .ok (.iload_n 3, 1) := by decide +kernel
theorem d_GR_run_25 : decode b_GR_run 25 = .ok (.iconst 1, 1) := by decide +kernel
theorem d_GR_run_26 : decode b_GR_run 26 = .ok (.isub, 1) := by decide +kernel
theorem d_GR_run_27 : decode b_GR_run 27 = .ok (.invokevirtual 103, 3) := by decide +kernel
theorem d_GR_run_30 : decode b_GR_run 30 = .ok (.lcmp, 1) := by decide +kernel
theorem d_GR_run_31 : decode b_GR_run 31 = .ok (.ifCond .lt 9, 3) := by decide +kernel
theorem d_GR_run_34 : decode b_GR_run 34 = .ok (.iload_n 2, 1) := by decide +kernel
theorem d_GR_run_35 : decode b_GR_run 35 = .ok (.iconst 1, 1) := by decide +kernel
theorem d_GR_run_36 : decode b_GR_run 36 = .ok (.iadd, 1) := by decide +kernel
theorem d_GR_run_37 : decode b_GR_run 37 = .ok (.goto 4, 3) := by decide +kernel
theorem d_GR_run_40 : decode b_GR_run 40 = .ok (.iconst 1, 1) := by decide +kernel
theorem d_GR_run_41 : decode b_GR_run 41 = .ok (.istore_n 2, 1) := by decide +kernel
theorem d_GR_run_42 : decode b_GR_run 42 = .ok (.iload_n 1, 1) := by decide +kernel
theorem d_GR_run_43 : decode b_GR_run 43 = .ok (.iload_n 2, 1) := by decide +kernel
theorem d_GR_run_44 : decode b_GR_run 44 = .ok (.invokestatic 105, 3) := by decide +kernel
theorem d_GR_run_47 : decode b_GR_run 47 = .ok (.istore_n 1, 1) := by decide +kernel
theorem d_GR_run_48 : decode b_GR_run 48 = .ok (.iinc 3 1, 3) := by decide +kernel
theorem d_GR_run_51 : decode b_GR_run 51 = .ok (.goto (-45), 3) := by decide +kernel
theorem d_GR_run_54 : decode b_GR_run 54 = .ok (.iload_n 1, 1) := by decide +kernel
theorem d_GR_run_55 : decode b_GR_run 55 = .ok (.ireturn, 1) := by decide +kernel
theorem d_GR_hardest_0 : decode b_GR_hardest 0 = .ok (.iconst (-1), 1) := by decide +kernel
theorem d_GR_hardest_1 : decode b_GR_hardest 1 = .ok (.istore_n 1, 1) := by decide +kernel
theorem d_GR_hardest_2 : decode b_GR_hardest 2 = .ok (.ldc2_w 70, 3) := by decide +kernel
theorem d_GR_hardest_5 : decode b_GR_hardest 5 = .ok (.lstore_n 2, 1) := by decide +kernel
theorem d_GR_hardest_6 : decode b_GR_hardest 6 = .ok (.iconst 0, 1) := by decide +kernel
theorem d_GR_hardest_7 : decode b_GR_hardest 7 = .ok (.istore 4, 2) := by decide +kernel
theorem d_GR_hardest_9 : decode b_GR_hardest 9 = .ok (.iload 4, 2) := by decide +kernel
theorem d_GR_hardest_11 : decode b_GR_hardest 11 = .ok (.aload_n 0, 1) := by decide +kernel
theorem d_GR_hardest_12 : decode b_GR_hardest 12 = .ok (.getfield 36, 3) := by decide +kernel
theorem d_GR_hardest_15 : decode b_GR_hardest 15 = .ok (.if_icmp .ge 78, 3) := by decide +kernel
theorem d_GR_hardest_18 : decode b_GR_hardest 18 = .ok (.ldc2_w 70, 3) := by decide +kernel
theorem d_GR_hardest_21 : decode b_GR_hardest 21 = .ok (.lstore 5, 2) := by decide +kernel
theorem d_GR_hardest_23 : decode b_GR_hardest 23 = .ok (.iconst 0, 1) := by decide +kernel
theorem d_GR_hardest_24 : decode b_GR_hardest 24 = .ok (.istore 7, 2) := by decide +kernel
theorem d_GR_hardest_26 : decode b_GR_hardest 26 = .ok (.iload 7, 2) := by decide +kernel
theorem d_GR_hardest_28 : decode b_GR_hardest 28 = .ok (.aload_n 0, 1) := by decide +kernel
theorem d_GR_hardest_29 : decode b_GR_hardest 29 = .ok (.getfield 40, 3) := by decide +kernel
theorem d_GR_hardest_32 : decode b_GR_hardest 32 = .ok (.if_icmp .ge 39, 3) := by decide +kernel
theorem d_GR_hardest_35 : decode b_GR_hardest 35 = .ok (.aload_n 0, 1) := by decide +kernel
theorem d_GR_hardest_36 : decode b_GR_hardest 36 = .ok (.getfield 18, 3) := by decide +kernel
theorem d_GR_hardest_39 : decode b_GR_hardest 39 = .ok (.iload 7, 2) := by decide +kernel
theorem d_GR_hardest_41 : decode b_GR_hardest 41 = .ok (.aaload, 1) := by decide +kernel
theorem d_GR_hardest_42 : decode b_GR_hardest 42 = .ok (.invokevirtual 66, 3) := by decide +kernel
theorem d_GR_hardest_45 : decode b_GR_hardest 45 = .ok (.iload 4, 2) := by decide +kernel
theorem d_GR_hardest_47 : decode b_GR_hardest 47 = .ok (.if_icmp .ne 18, 3) := by decide +kernel
theorem d_GR_hardest_50 : decode b_GR_hardest 50 = .ok (.lload 5, 2) := by decide +kernel
theorem d_GR_hardest_52 : decode b_GR_hardest 52 = .ok (.lconst 0, 1) := by decide +kernel
theorem d_GR_hardest_53 : decode b_GR_hardest 53 = .ok (.invokestatic 108, 3) := by decide +kernel
theorem d_GR_hardest_56 : decode b_GR_hardest 56 = .ok (.aload_n 0, 1) := by decide +kernel
theorem d_GR_hardest_57 : decode b_GR_hardest 57 = .ok (.iload 7, 2) := by decide +kernel
theorem d_GR_hardest_59 : decode b_GR_hardest 59 = .ok (.invokevirtual 103, 3) := by decide +kernel
theorem d_GR_hardest_62 : decode b_GR_hardest 62 = .ok (.ladd, 1) := by decide +kernel
theorem d_GR_hardest_63 : decode b_GR_hardest 63 = .ok (.lstore 5, 2) := by decide +kernel
theorem d_GR_hardest_65 : decode b_GR_hardest 65 = .ok (.iinc 7 1, 3) := by decide +kernel
theorem d_GR_hardest_68 : decode b_GR_hardest 68 = .ok (.goto (-42), 3) := by decide +kernel
theorem d_GR_hardest_71 : decode b_GR_hardest 71 = .ok (.lload 5, 2) := by decide +kernel
theorem d_GR_hardest_73 : decode b_GR_hardest 73 = .ok (.lload_n 2, 1) := by decide +kernel
theorem d_GR_hardest_74 : decode b_GR_hardest 74 = .ok (.lcmp, 1) := by decide +kernel
theorem d_GR_hardest_75 : decode b_GR_hardest 75 = .ok (.ifCond .gt 6, 3) := by decide +kernel
theorem d_GR_hardest_78 : decode b_GR_hardest 78 = .ok (.goto 9, 3) := by decide +kernel
theorem d_GR_hardest_81 : decode b_GR_hardest 81 = .ok (.lload 5, 2) := by decide +kernel
theorem d_GR_hardest_83 : decode b_GR_hardest 83 = .ok (.lstore_n 2, 1) := by decide +kernel
theorem d_GR_hardest_84 : decode b_GR_hardest 84 = .ok (.iload 4, 2) := by decide +kernel
theorem d_GR_hardest_86 : decode b_GR_hardest 86 = .ok (.istore_n 1, 1) := by decide +kernel
theorem d_GR_hardest_87 : decode b_GR_hardest 87 = .ok (.iinc 4 1, 3) := by decide +kernel
theorem d_GR_hardest_90 : decode b_GR_hardest 90 = .ok (.goto (-81), 3) := by decide +kernel
theorem d_GR_hardest_93 : decode b_GR_hardest 93 = .ok (.iload_n 1, 1) := by decide +kernel
theorem d_GR_hardest_94 : decode b_GR_hardest 94 = .ok (.ireturn, 1) := by decide +kernel
theorem d_GR_go_0 : decode b_GR_go 0 = .ok (.iload_n 1, 1) := by decide +kernel
theorem d_GR_go_1 : decode b_GR_go 1 = .ok (.ifCond .lt 11, 3) := by decide +kernel
theorem d_GR_go_4 : decode b_GR_go 4 = .ok (.iload_n 1, 1) := by decide +kernel
theorem d_GR_go_5 : decode b_GR_go 5 = .ok (.aload_n 0, 1) := by decide +kernel
theorem d_GR_go_6 : decode b_GR_go 6 = .ok (.getfield 40, 3) := by decide +kernel
theorem d_GR_go_9 : decode b_GR_go 9 = .ok (.if_icmp .le 5, 3) := by decide +kernel
theorem d_GR_go_12 : decode b_GR_go 12 = .ok (.iconst 0, 1) := by decide +kernel
theorem d_GR_go_13 : decode b_GR_go 13 = .ok (.ireturn, 1) := by decide +kernel
theorem d_GR_go_14 : decode b_GR_go 14 = .ok (.aload_n 0, 1) := by decide +kernel
theorem d_GR_go_15 : decode b_GR_go 15 = .ok (.iload_n 1, 1) := by decide +kernel
theorem d_GR_go_16 : decode b_GR_go 16 = .ok (.putfield 57, 3) := by decide +kernel
theorem d_GR_go_19 : decode b_GR_go 19 = .ok (.iconst 1, 1) := by decide +kernel
theorem d_GR_go_20 : decode b_GR_go 20 = .ok (.ireturn, 1) := by decide +kernel
theorem d_GR_hint_0 : decode b_GR_hint 0 = .ok (.aload_n 0, 1) := by decide +kernel
theorem d_GR_hint_1 : decode b_GR_hint 1 = .ok (.getfield 57, 3) := by decide +kernel
theorem d_GR_hint_4 : decode b_GR_hint 4 = .ok (.aload_n 0, 1) := by decide +kernel
theorem d_GR_hint_5 : decode b_GR_hint 5 = .ok (.getfield 40, 3) := by decide +kernel
theorem d_GR_hint_8 : decode b_GR_hint 8 = .ok (.if_icmp .eq 13, 3) := by decide +kernel
theorem d_GR_hint_11 : decode b_GR_hint 11 = .ok (.iload_n 1, 1) := by decide +kernel
theorem d_GR_hint_12 : decode b_GR_hint 12 = .ok (.iconst 1, 1) := by decide +kernel
theorem d_GR_hint_13 : decode b_GR_hint 13 = .ok (.if_icmp .lt 8, 3) := by decide +kernel
theorem d_GR_hint_16 : decode b_GR_hint 16 = .ok (.iload_n 1, 1) := by decide +kernel
theorem d_GR_hint_17 : decode b_GR_hint 17 = .ok (.iconst 4, 1) := by decide +kernel
theorem d_GR_hint_18 : decode b_GR_hint 18 = .ok (.if_icmp .le 5, 3) := by decide +kernel
theorem d_GR_hint_21 : decode b_GR_hint 21 = .ok (.iconst (-1), 1) := by decide +kernel
theorem d_GR_hint_22 : decode b_GR_hint 22 = .ok (.ireturn, 1) := by decide +kernel
theorem d_GR_hint_23 : decode b_GR_hint 23 = .ok (.aload_n 0, 1) := by decide +kernel
theorem d_GR_hint_24 : decode b_GR_hint 24 = .ok (.getfield 18, 3) := by decide +kernel
theorem d_GR_hint_27 : decode b_GR_hint 27 = .ok (.aload_n 0, 1) := by decide +kernel
theorem d_GR_hint_28 : decode b_GR_hint 28 = .ok (.getfield 57, 3) := by decide +kernel
theorem d_GR_hint_31 : decode b_GR_hint 31 = .ok (.aaload, 1) := by decide +kernel
theorem d_GR_hint_32 : decode b_GR_hint 32 = .ok (.iload_n 1, 1) := by decide +kernel
theorem d_GR_hint_33 : decode b_GR_hint 33 = .ok (.invokevirtual 111, 3) := by decide +kernel
theorem d_GR_hint_36 : decode b_GR_hint 36 = .ok (.istore_n 2, 1) := by decide +kernel
theorem d_GR_hint_37 : decode b_GR_hint 37 = .ok (.iload_n 1, 1) := by decide +kernel
theorem d_GR_hint_38 : decode b_GR_hint 38 = .ok (.iconst 4, 1) := by decide +kernel
theorem d_GR_hint_39 : decode b_GR_hint 39 = .ok (.if_icmp .ne 13, 3) := by decide +kernel
theorem d_GR_hint_42 : decode b_GR_hint 42 = .ok (.aload_n 0, 1) := by decide +kernel
theorem d_GR_hint_43 : decode b_GR_hint 43 = .ok (.dup, 1) := by decide +kernel
theorem d_GR_hint_44 : decode b_GR_hint 44 = .ok (.getfield 57, 3) := by decide +kernel
theorem d_GR_hint_47 : decode b_GR_hint 47 = .ok (.iconst 1, 1) := by decide +kernel
theorem d_GR_hint_48 : decode b_GR_hint 48 = .ok (.iadd, 1) := by decide +kernel
theorem d_GR_hint_49 : decode b_GR_hint 49 = .ok (.putfield 57, 3) := by decide +kernel
theorem d_GR_hint_52 : decode b_GR_hint 52 = .ok (.iload_n 2, 1) := by decide +kernel
theorem d_GR_hint_53 : decode b_GR_hint 53 = .ok (.ireturn, 1) := by decide +kernel
theorem d_GR_sortedCosts_0 : decode b_GR_sortedCosts 0 = .ok (.aload_n 0, 1) := by decide +kernel
theorem d_GR_sortedCosts_1 : decode b_GR_sortedCosts 1 = .ok (.getfield 40, 3) := by decide +kernel
theorem d_GR_sortedCosts_4 : decode b_GR_sortedCosts 4 = .ok (.newarray .long, 2) := by decide +kernel
theorem d_GR_sortedCosts_6 : decode b_GR_sortedCosts 6 = .ok (.astore_n 1, 1) := by decide +kernel
theorem d_GR_sortedCosts_7 : decode b_GR_sortedCosts 7 = .ok (.iconst 0, 1) := by decide +kernel
theorem d_GR_sortedCosts_8 : decode b_GR_sortedCosts 8 = .ok (.istore_n 2, 1) := by decide +kernel
theorem d_GR_sortedCosts_9 : decode b_GR_sortedCosts 9 = .ok (.iload_n 2, 1) := by decide +kernel
theorem d_GR_sortedCosts_10 : decode b_GR_sortedCosts 10 = .ok (.aload_n 0, 1) := by decide +kernel
theorem d_GR_sortedCosts_11 : decode b_GR_sortedCosts 11 = .ok (.getfield 40, 3) := by decide +kernel
theorem d_GR_sortedCosts_14 : decode b_GR_sortedCosts 14 = .ok (.if_icmp .ge 55, 3) := by decide +kernel
theorem d_GR_sortedCosts_17 : decode b_GR_sortedCosts 17 = .ok (.aload_n 0, 1) := by decide +kernel
theorem d_GR_sortedCosts_18 : decode b_GR_sortedCosts 18 = .ok (.iload_n 2, 1) := by decide +kernel
theorem d_GR_sortedCosts_19 : decode b_GR_sortedCosts 19 = .ok (.invokevirtual 103, 3) := by decide +kernel
theorem d_GR_sortedCosts_22 : decode b_GR_sortedCosts 22 = .ok (.lstore_n 3, 1) := by decide +kernel
theorem d_GR_sortedCosts_23 : decode b_GR_sortedCosts 23 = .ok (.iload_n 2, 1) := by decide +kernel
theorem d_GR_sortedCosts_24 : decode b_GR_sortedCosts 24 = .ok (.istore 5, 2) := by decide +kernel
theorem d_GR_sortedCosts_26 : decode b_GR_sortedCosts 26 = .ok (.iload 5, 2) := by decide +kernel
theorem d_GR_sortedCosts_28 : decode b_GR_sortedCosts 28 = .ok (.ifCond .le 30, 3) := by decide +kernel
theorem d_GR_sortedCosts_31 : decode b_GR_sortedCosts 31 = .ok (.aload_n 1, 1) := by decide +kernel
theorem d_GR_sortedCosts_32 : decode b_GR_sortedCosts 32 = .ok (.iload 5, 2) := by decide +kernel
theorem d_GR_sortedCosts_34 : decode b_GR_sortedCosts 34 = .ok (.iconst 1, 1) := by decide +kernel
theorem d_GR_sortedCosts_35 : decode b_GR_sortedCosts 35 = .ok (.isub, 1) := by decide +kernel
theorem d_GR_sortedCosts_36 : decode b_GR_sortedCosts 36 = .ok (.laload, 1) := by decide +kernel
theorem d_GR_sortedCosts_37 : decode b_GR_sortedCosts 37 = .ok (.lload_n 3, 1) := by decide +kernel
theorem d_GR_sortedCosts_38 : decode b_GR_sortedCosts 38 = .ok (.lcmp, 1) := by decide +kernel
theorem d_GR_sortedCosts_39 : decode b_GR_sortedCosts 39 = .ok (.ifCond .ge 19, 3) := by decide +kernel
theorem d_GR_sortedCosts_42 : decode b_GR_sortedCosts 42 = .ok (.aload_n 1, 1) := by decide +kernel
theorem d_GR_sortedCosts_43 : decode b_GR_sortedCosts 43 = .ok (.iload 5, 2) := by decide +kernel
theorem d_GR_sortedCosts_45 : decode b_GR_sortedCosts 45 = .ok (.aload_n 1, 1) := by decide +kernel
theorem d_GR_sortedCosts_46 : decode b_GR_sortedCosts 46 = .ok (.iload 5, 2) := by decide +kernel
theorem d_GR_sortedCosts_48 : decode b_GR_sortedCosts 48 = .ok (.iconst 1, 1) := by decide +kernel
theorem d_GR_sortedCosts_49 : decode b_GR_sortedCosts 49 = .ok (.isub, 1) := by decide +kernel
theorem d_GR_sortedCosts_50 : decode b_GR_sortedCosts 50 = .ok (.laload, 1) := by decide +kernel
theorem d_GR_sortedCosts_51 : decode b_GR_sortedCosts 51 = .ok (.lastore, 1) := by decide +kernel
theorem d_GR_sortedCosts_52 : decode b_GR_sortedCosts 52 = .ok (.iinc 5 (-1), 3) := by decide +kernel
theorem d_GR_sortedCosts_55 : decode b_GR_sortedCosts 55 = .ok (.goto (-29), 3) := by decide +kernel
theorem d_GR_sortedCosts_58 : decode b_GR_sortedCosts 58 = .ok (.aload_n 1, 1) := by decide +kernel
theorem d_GR_sortedCosts_59 : decode b_GR_sortedCosts 59 = .ok (.iload 5, 2) := by decide +kernel
theorem d_GR_sortedCosts_61 : decode b_GR_sortedCosts 61 = .ok (.lload_n 3, 1) := by decide +kernel
theorem d_GR_sortedCosts_62 : decode b_GR_sortedCosts 62 = .ok (.lastore, 1) := by decide +kernel
theorem d_GR_sortedCosts_63 : decode b_GR_sortedCosts 63 = .ok (.iinc 2 1, 3) := by decide +kernel
theorem d_GR_sortedCosts_66 : decode b_GR_sortedCosts 66 = .ok (.goto (-57), 3) := by decide +kernel
theorem d_GR_sortedCosts_69 : decode b_GR_sortedCosts 69 = .ok (.aload_n 1, 1) := by decide +kernel
theorem d_GR_sortedCosts_70 : decode b_GR_sortedCosts 70 = .ok (.areturn, 1) := by decide +kernel
theorem d_GR_sortedCodes_0 : decode b_GR_sortedCodes 0 = .ok (.aload_n 0, 1) := by decide +kernel
theorem d_GR_sortedCodes_1 : decode b_GR_sortedCodes 1 = .ok (.getfield 40, 3) := by decide +kernel
theorem d_GR_sortedCodes_4 : decode b_GR_sortedCodes 4 = .ok (.newarray .int, 2) := by decide +kernel
theorem d_GR_sortedCodes_6 : decode b_GR_sortedCodes 6 = .ok (.astore_n 1, 1) := by decide +kernel
theorem d_GR_sortedCodes_7 : decode b_GR_sortedCodes 7 = .ok (.iconst 0, 1) := by decide +kernel
theorem d_GR_sortedCodes_8 : decode b_GR_sortedCodes 8 = .ok (.istore_n 2, 1) := by decide +kernel
theorem d_GR_sortedCodes_9 : decode b_GR_sortedCodes 9 = .ok (.iload_n 2, 1) := by decide +kernel
theorem d_GR_sortedCodes_10 : decode b_GR_sortedCodes 10 = .ok (.aload_n 0, 1) := by decide +kernel
theorem d_GR_sortedCodes_11 : decode b_GR_sortedCodes 11 = .ok (.getfield 40, 3) := by decide +kernel
theorem d_GR_sortedCodes_14 : decode b_GR_sortedCodes 14 = .ok (.if_icmp .ge 58, 3) := by decide +kernel
theorem d_GR_sortedCodes_17 : decode b_GR_sortedCodes 17 = .ok (.aload_n 0, 1) := by decide +kernel
theorem d_GR_sortedCodes_18 : decode b_GR_sortedCodes 18 = .ok (.getfield 18, 3) := by decide +kernel
theorem d_GR_sortedCodes_21 : decode b_GR_sortedCodes 21 = .ok (.iload_n 2, 1) := by decide +kernel
theorem d_GR_sortedCodes_22 : decode b_GR_sortedCodes 22 = .ok (.aaload, 1) := by decide +kernel
theorem d_GR_sortedCodes_23 : decode b_GR_sortedCodes 23 = .ok (.invokevirtual 115, 3) := by decide +kernel
theorem d_GR_sortedCodes_26 : decode b_GR_sortedCodes 26 = .ok (.istore_n 3, 1) := by decide +kernel
theorem d_GR_sortedCodes_27 : decode b_GR_sortedCodes 27 = .ok (.iload_n 2, 1) := by decide +kernel
theorem d_GR_sortedCodes_28 : decode b_GR_sortedCodes 28 = .ok (.istore 4, 2) := by decide +kernel
theorem d_GR_sortedCodes_30 : decode b_GR_sortedCodes 30 = .ok (.iload 4, 2) := by decide +kernel
theorem d_GR_sortedCodes_32 : decode b_GR_sortedCodes 32 = .ok (.ifCond .le 29, 3) := by decide +kernel
theorem d_GR_sortedCodes_35 : decode b_GR_sortedCodes 35 = .ok (.aload_n 1, 1) := by decide +kernel
theorem d_GR_sortedCodes_36 : decode b_GR_sortedCodes 36 = .ok (.iload 4, 2) := by decide +kernel
theorem d_GR_sortedCodes_38 : decode b_GR_sortedCodes 38 = .ok (.iconst 1, 1) := by decide +kernel
theorem d_GR_sortedCodes_39 : decode b_GR_sortedCodes 39 = .ok (.isub, 1) := by decide +kernel
theorem d_GR_sortedCodes_40 : decode b_GR_sortedCodes 40 = .ok (.iaload, 1) := by decide +kernel
theorem d_GR_sortedCodes_41 : decode b_GR_sortedCodes 41 = .ok (.iload_n 3, 1) := by decide +kernel
theorem d_GR_sortedCodes_42 : decode b_GR_sortedCodes 42 = .ok (.if_icmp .le 19, 3) := by decide +kernel
theorem d_GR_sortedCodes_45 : decode b_GR_sortedCodes 45 = .ok (.aload_n 1, 1) := by decide +kernel
theorem d_GR_sortedCodes_46 : decode b_GR_sortedCodes 46 = .ok (.iload 4, 2) := by decide +kernel
theorem d_GR_sortedCodes_48 : decode b_GR_sortedCodes 48 = .ok (.aload_n 1, 1) := by decide +kernel
theorem d_GR_sortedCodes_49 : decode b_GR_sortedCodes 49 = .ok (.iload 4, 2) := by decide +kernel
theorem d_GR_sortedCodes_51 : decode b_GR_sortedCodes 51 = .ok (.iconst 1, 1) := by decide +kernel
theorem d_GR_sortedCodes_52 : decode b_GR_sortedCodes 52 = .ok (.isub, 1) := by decide +kernel
theorem d_GR_sortedCodes_53 : decode b_GR_sortedCodes 53 = .ok (.iaload, 1) := by decide +kernel
theorem d_GR_sortedCodes_54 : decode b_GR_sortedCodes 54 = .ok (.iastore, 1) := by decide +kernel
theorem d_GR_sortedCodes_55 : decode b_GR_sortedCodes 55 = .ok (.iinc 4 (-1), 3) := by decide +kernel
theorem d_GR_sortedCodes_58 : decode b_GR_sortedCodes 58 = .ok (.goto (-28), 3) := by decide +kernel
theorem d_GR_sortedCodes_61 : decode b_GR_sortedCodes 61 = .ok (.aload_n 1, 1) := by decide +kernel
theorem d_GR_sortedCodes_62 : decode b_GR_sortedCodes 62 = .ok (.iload 4, 2) := by decide +kernel
theorem d_GR_sortedCodes_64 : decode b_GR_sortedCodes 64 = .ok (.iload_n 3, 1) := by decide +kernel
theorem d_GR_sortedCodes_65 : decode b_GR_sortedCodes 65 = .ok (.iastore, 1) := by decide +kernel
theorem d_GR_sortedCodes_66 : decode b_GR_sortedCodes 66 = .ok (.iinc 2 1, 3) := by decide +kernel
theorem d_GR_sortedCodes_69 : decode b_GR_sortedCodes 69 = .ok (.goto (-60), 3) := by decide +kernel
theorem d_GR_sortedCodes_72 : decode b_GR_sortedCodes 72 = .ok (.aload_n 1, 1) := by decide +kernel
theorem d_GR_sortedCodes_73 : decode b_GR_sortedCodes 73 = .ok (.areturn, 1) := by decide +kernel
theorem d_GR_keep_0 : decode b_GR_keep 0 = .ok (.aload_n 0, 1) := by decide +kernel
theorem d_GR_keep_1 : decode b_GR_keep 1 = .ok (.getfield 118, 3) := by decide +kernel
theorem d_GR_keep_4 : decode b_GR_keep 4 = .ok (.bipush 10, 2) := by decide +kernel
theorem d_GR_keep_6 : decode b_GR_keep 6 = .ok (.if_icmp .ne 5, 3) := by decide +kernel
theorem d_GR_keep_9 : decode b_GR_keep 9 = .ok (.iconst (-1), 1) := by decide +kernel
theorem d_GR_keep_10 : decode b_GR_keep 10 = .ok (.ireturn, 1) := by decide +kernel
theorem d_GR_keep_11 : decode b_GR_keep 11 = .ok (.aload_n 0, 1) := by decide +kernel
theorem d_GR_keep_12 : decode b_GR_keep 12 = .ok (.getfield 31, 3) := by decide +kernel
theorem d_GR_keep_15 : decode b_GR_keep 15 = .ok (.aload_n 0, 1) := by decide +kernel
theorem d_GR_keep_16 : decode b_GR_keep 16 = .ok (.getfield 118, 3) := by decide +kernel
theorem d_GR_keep_19 : decode b_GR_keep 19 = .ok (.new 29, 3) := by decide +kernel
theorem d_GR_keep_22 : decode b_GR_keep 22 = .ok (.dup, 1) := by decide +kernel
theorem d_GR_keep_23 : decode b_GR_keep 23 = .ok (.aload_n 0, 1) := by decide +kernel
theorem d_GR_keep_24 : decode b_GR_keep 24 = .ok (.invokespecial 121, 3) := by decide +kernel
theorem d_GR_keep_27 : decode b_GR_keep 27 = .ok (.aastore, 1) := by decide +kernel
theorem d_GR_keep_28 : decode b_GR_keep 28 = .ok (.aload_n 0, 1) := by decide +kernel
theorem d_GR_keep_29 : decode b_GR_keep 29 = .ok (.dup, 1) := by decide +kernel
theorem d_GR_keep_30 : decode b_GR_keep 30 = .ok (.getfield 118, 3) := by decide +kernel
theorem d_GR_keep_33 : decode b_GR_keep 33 = .ok (.iconst 1, 1) := by decide +kernel
theorem d_GR_keep_34 : decode b_GR_keep 34 = .ok (.iadd, 1) := by decide +kernel
theorem d_GR_keep_35 : decode b_GR_keep 35 = .ok (.putfield 118, 3) := by decide +kernel
theorem d_GR_keep_38 : decode b_GR_keep 38 = .ok (.aload_n 0, 1) := by decide +kernel
theorem d_GR_keep_39 : decode b_GR_keep 39 = .ok (.getfield 118, 3) := by decide +kernel
theorem d_GR_keep_42 : decode b_GR_keep 42 = .ok (.iconst 1, 1) := by decide +kernel
theorem d_GR_keep_43 : decode b_GR_keep 43 = .ok (.isub, 1) := by decide +kernel
theorem d_GR_keep_44 : decode b_GR_keep 44 = .ok (.ireturn, 1) := by decide +kernel
theorem d_GR_isKept_0 : decode b_GR_isKept 0 = .ok (.iload_n 1, 1) := by decide +kernel
theorem d_GR_isKept_1 : decode b_GR_isKept 1 = .ok (.ifCond .lt 15, 3) := by decide +kernel
theorem d_GR_isKept_4 : decode b_GR_isKept 4 = .ok (.iload_n 1, 1) := by decide +kernel
theorem d_GR_isKept_5 : decode b_GR_isKept 5 = .ok (.aload_n 0, 1) := by decide +kernel
theorem d_GR_isKept_6 : decode b_GR_isKept 6 = .ok (.getfield 118, 3) := by decide +kernel
theorem d_GR_isKept_9 : decode b_GR_isKept 9 = .ok (.if_icmp .ge 7, 3) := by decide +kernel
theorem d_GR_isKept_12 : decode b_GR_isKept 12 = .ok (.iconst 1, 1) := by decide +kernel
theorem d_GR_isKept_13 : decode b_GR_isKept 13 = .ok (.goto 4, 3) := by decide +kernel
theorem d_GR_isKept_16 : decode b_GR_isKept 16 = .ok (.iconst 0, 1) := by decide +kernel
theorem d_GR_isKept_17 : decode b_GR_isKept 17 = .ok (.ireturn, 1) := by decide +kernel
theorem d_GR_compare_0 : decode b_GR_compare 0 = .ok (.aload_n 0, 1) := by decide +kernel
theorem d_GR_compare_1 : decode b_GR_compare 1 = .ok (.iload_n 1, 1) := by decide +kernel
theorem d_GR_compare_2 : decode b_GR_compare 2 = .ok (.invokevirtual 124, 3) := by decide +kernel
theorem d_GR_compare_5 : decode b_GR_compare 5 = .ok (.ifCond .ne 6, 3) := by decide +kernel
theorem d_GR_compare_8 : decode b_GR_compare 8 = .ok (.bipush (-2), 2) := by decide +kernel
theorem d_GR_compare_10 : decode b_GR_compare 10 = .ok (.ireturn, 1) := by decide +kernel
theorem d_GR_compare_11 : decode b_GR_compare 11 = .ok (.aload_n 0, 1) := by decide +kernel
theorem d_GR_compare_12 : decode b_GR_compare 12 = .ok (.getfield 31, 3) := by decide +kernel
theorem d_GR_compare_15 : decode b_GR_compare 15 = .ok (.iload_n 1, 1) := by decide +kernel
theorem d_GR_compare_16 : decode b_GR_compare 16 = .ok (.aaload, 1) := by decide +kernel
theorem d_GR_compare_17 : decode b_GR_compare 17 = .ok (.astore_n 2, 1) := by decide +kernel
theorem d_GR_compare_18 : decode b_GR_compare 18 = .ok (.aload_n 0, 1) := by decide +kernel
theorem d_GR_compare_19 : decode b_GR_compare 19 = .ok (.aload_n 0, 1) := by decide +kernel
theorem d_GR_compare_20 : decode b_GR_compare 20 = .ok (.getfield 40, 3) := by decide +kernel
theorem d_GR_compare_23 : decode b_GR_compare 23 = .ok (.invokevirtual 81, 3) := by decide +kernel
theorem d_GR_compare_26 : decode b_GR_compare 26 = .ok (.aload_n 2, 1) := by decide +kernel
theorem d_GR_compare_27 : decode b_GR_compare 27 = .ok (.getfield 128, 3) := by decide +kernel
theorem d_GR_compare_30 : decode b_GR_compare 30 = .ok (.invokestatic 131, 3) := by decide +kernel
theorem d_GR_compare_33 : decode b_GR_compare 33 = .ok (.istore_n 3, 1) := by decide +kernel
theorem d_GR_compare_34 : decode b_GR_compare 34 = .ok (.iload_n 3, 1) := by decide +kernel
theorem d_GR_compare_35 : decode b_GR_compare 35 = .ok (.ifCond .ne 16, 3) := by decide +kernel
theorem d_GR_compare_38 : decode b_GR_compare 38 = .ok (.aload_n 0, 1) := by decide +kernel
theorem d_GR_compare_39 : decode b_GR_compare 39 = .ok (.getfield 40, 3) := by decide +kernel
theorem d_GR_compare_42 : decode b_GR_compare 42 = .ok (.aload_n 2, 1) := by decide +kernel
theorem d_GR_compare_43 : decode b_GR_compare 43 = .ok (.getfield 137, 3) := by decide +kernel
theorem d_GR_compare_46 : decode b_GR_compare 46 = .ok (.arraylength, 1) := by decide +kernel
theorem d_GR_compare_47 : decode b_GR_compare 47 = .ok (.invokestatic 140, 3) := by decide +kernel
theorem d_GR_compare_50 : decode b_GR_compare 50 = .ok (.istore_n 3, 1) := by decide +kernel
theorem d_GR_compare_51 : decode b_GR_compare 51 = .ok (.aload_n 0, 1) := by decide +kernel
theorem d_GR_compare_52 : decode b_GR_compare 52 = .ok (.invokevirtual 144, 3) := by decide +kernel
theorem d_GR_compare_55 : decode b_GR_compare 55 = .ok (.astore 4, 2) := by decide +kernel
theorem d_GR_compare_57 : decode b_GR_compare 57 = .ok (.iconst 0, 1) := by decide +kernel
theorem d_GR_compare_58 : decode b_GR_compare 58 = .ok (.istore 5, 2) := by decide +kernel
theorem d_GR_compare_60 : decode b_GR_compare 60 = .ok (.iload 5, 2) := by decide +kernel
theorem d_GR_compare_62 : decode b_GR_compare 62 = .ok (.aload_n 0, 1) := by decide +kernel
theorem d_GR_compare_63 : decode b_GR_compare 63 = .ok (.getfield 40, 3) := by decide +kernel
theorem d_GR_compare_66 : decode b_GR_compare 66 = .ok (.if_icmp .ge 29, 3) := by decide +kernel
theorem d_GR_compare_69 : decode b_GR_compare 69 = .ok (.iload_n 3, 1) := by decide +kernel
theorem d_GR_compare_70 : decode b_GR_compare 70 = .ok (.ifCond .ne 25, 3) := by decide +kernel
theorem d_GR_compare_73 : decode b_GR_compare 73 = .ok (.aload 4, 2) := by decide +kernel
theorem d_GR_compare_75 : decode b_GR_compare 75 = .ok (.iload 5, 2) := by decide +kernel
theorem d_GR_compare_77 : decode b_GR_compare 77 = .ok (.laload, 1) := by decide +kernel
theorem d_GR_compare_78 : decode b_GR_compare 78 = .ok (.aload_n 2, 1) := by decide +kernel
theorem d_GR_compare_79 : decode b_GR_compare 79 = .ok (.getfield 137, 3) := by decide +kernel
theorem d_GR_compare_82 : decode b_GR_compare 82 = .ok (.iload 5, 2) := by decide +kernel
theorem d_GR_compare_84 : decode b_GR_compare 84 = .ok (.laload, 1) := by decide +kernel
theorem d_GR_compare_85 : decode b_GR_compare 85 = .ok (.invokestatic 131, 3) := by decide +kernel
theorem d_GR_compare_88 : decode b_GR_compare 88 = .ok (.istore_n 3, 1) := by decide +kernel
theorem d_GR_compare_89 : decode b_GR_compare 89 = .ok (.iinc 5 1, 3) := by decide +kernel
theorem d_GR_compare_92 : decode b_GR_compare 92 = .ok (.goto (-32), 3) := by decide +kernel
theorem d_GR_compare_95 : decode b_GR_compare 95 = .ok (.iload_n 3, 1) := by decide +kernel
theorem d_GR_compare_96 : decode b_GR_compare 96 = .ok (.ireturn, 1) := by decide +kernel
theorem d_GR_same_0 : decode b_GR_same 0 = .ok (.aload_n 0, 1) := by decide +kernel
theorem d_GR_same_1 : decode b_GR_same 1 = .ok (.iload_n 1, 1) := by decide +kernel
theorem d_GR_same_2 : decode b_GR_same 2 = .ok (.invokevirtual 124, 3) := by decide +kernel
theorem d_GR_same_5 : decode b_GR_same 5 = .ok (.ifCond .eq 20, 3) := by decide +kernel
theorem d_GR_same_8 : decode b_GR_same 8 = .ok (.aload_n 0, 1) := by decide +kernel
theorem d_GR_same_9 : decode b_GR_same 9 = .ok (.getfield 31, 3) := by decide +kernel
theorem d_GR_same_12 : decode b_GR_same 12 = .ok (.iload_n 1, 1) := by decide +kernel
theorem d_GR_same_13 : decode b_GR_same 13 = .ok (.aaload, 1) := by decide +kernel
theorem d_GR_same_14 : decode b_GR_same 14 = .ok (.getfield 148, 3) := by decide +kernel
theorem d_GR_same_17 : decode b_GR_same 17 = .ok (.arraylength, 1) := by decide +kernel
theorem d_GR_same_18 : decode b_GR_same 18 = .ok (.aload_n 0, 1) := by decide +kernel
theorem d_GR_same_19 : decode b_GR_same 19 = .ok (.getfield 40, 3) := by decide +kernel
theorem d_GR_same_22 : decode b_GR_same 22 = .ok (.if_icmp .eq 5, 3) := by decide +kernel
theorem d_GR_same_25 : decode b_GR_same 25 = .ok (.iconst 0, 1) := by decide +kernel
theorem d_GR_same_26 : decode b_GR_same 26 = .ok (.ireturn, 1) := by decide +kernel
theorem d_GR_same_27 : decode b_GR_same 27 = .ok (.aload_n 0, 1) := by decide +kernel
theorem d_GR_same_28 : decode b_GR_same 28 = .ok (.invokevirtual 151, 3) := by decide +kernel
theorem d_GR_same_31 : decode b_GR_same 31 = .ok (.astore_n 2, 1) := by decide +kernel
theorem d_GR_same_32 : decode b_GR_same 32 = .ok (.iconst 0, 1) := by decide +kernel
theorem d_GR_same_33 : decode b_GR_same 33 = .ok (.istore_n 3, 1) := by decide +kernel
theorem d_GR_same_34 : decode b_GR_same 34 = .ok (.iload_n 3, 1) := by decide +kernel
theorem d_GR_same_35 : decode b_GR_same 35 = .ok (.aload_n 0, 1) := by decide +kernel
theorem d_GR_same_36 : decode b_GR_same 36 = .ok (.getfield 40, 3) := by decide +kernel
theorem d_GR_same_39 : decode b_GR_same 39 = .ok (.if_icmp .ge 28, 3) := by decide +kernel
theorem d_GR_same_42 : decode b_GR_same 42 = .ok (.aload_n 2, 1) := by decide +kernel
theorem d_GR_same_43 : decode b_GR_same 43 = .ok (.iload_n 3, 1) := by decide +kernel
theorem d_GR_same_44 : decode b_GR_same 44 = .ok (.iaload, 1) := by decide +kernel
theorem d_GR_same_45 : decode b_GR_same 45 = .ok (.aload_n 0, 1) := by decide +kernel
theorem d_GR_same_46 : decode b_GR_same 46 = .ok (.getfield 31, 3) := by decide +kernel
theorem d_GR_same_49 : decode b_GR_same 49 = .ok (.iload_n 1, 1) := by decide +kernel
theorem d_GR_same_50 : decode b_GR_same 50 = .ok (.aaload, 1) := by decide +kernel
theorem d_GR_same_51 : decode b_GR_same 51 = .ok (.getfield 148, 3) := by decide +kernel
theorem d_GR_same_54 : decode b_GR_same 54 = .ok (.iload_n 3, 1) := by decide +kernel
theorem d_GR_same_55 : decode b_GR_same 55 = .ok (.iaload, 1) := by decide +kernel
theorem d_GR_same_56 : decode b_GR_same 56 = .ok (.if_icmp .eq 5, 3) := by decide +kernel
theorem d_GR_same_59 : decode b_GR_same 59 = .ok (.iconst 0, 1) := by decide +kernel
theorem d_GR_same_60 : decode b_GR_same 60 = .ok (.ireturn, 1) := by decide +kernel
theorem d_GR_same_61 : decode b_GR_same 61 = .ok (.iinc 3 1, 3) := by decide +kernel
theorem d_GR_same_64 : decode b_GR_same 64 = .ok (.goto (-30), 3) := by decide +kernel
theorem d_GR_same_67 : decode b_GR_same 67 = .ok (.iconst 1, 1) := by decide +kernel
theorem d_GR_same_68 : decode b_GR_same 68 = .ok (.ireturn, 1) := by decide +kernel
theorem d_GG_init_0 : decode b_GG_init 0 = .ok (.aload_n 0, 1) := by decide +kernel
theorem d_GG_init_1 : decode b_GG_init 1 = .ok (.invokespecial 3, 3) := by decide +kernel
theorem d_GG_init_4 : decode b_GG_init 4 = .ok (.aload_n 0, 1) := by decide +kernel
theorem d_GG_init_5 : decode b_GG_init 5 = .ok (.iload_n 1, 1) := by decide +kernel
theorem d_GG_init_6 : decode b_GG_init 6 = .ok (.putfield 9, 3) := by decide +kernel
theorem d_GG_init_9 : decode b_GG_init 9 = .ok (.return_, 1) := by decide +kernel
theorem d_GG_cost_0 : decode b_GG_cost 0 = .ok (.iload_n 2, 1) := by decide +kernel
theorem d_GG_cost_1 : decode b_GG_cost 1 = .ok (.ifCond .le 21, 3) := by decide +kernel
theorem d_GG_cost_4 : decode b_GG_cost 4 = .ok (.aload_n 1, 1) := by decide +kernel
theorem d_GG_cost_5 : decode b_GG_cost 5 = .ok (.getfield 15, 3) := by decide +kernel
theorem d_GG_cost_8 : decode b_GG_cost 8 = .ok (.iload_n 2, 1) := by decide +kernel
theorem d_GG_cost_9 : decode b_GG_cost 9 = .ok (.iconst 1, 1) := by decide +kernel
theorem d_GG_cost_10 : decode b_GG_cost 10 = .ok (.isub, 1) := by decide +kernel
theorem d_GG_cost_11 : decode b_GG_cost 11 = .ok (.aaload, 1) := by decide +kernel
theorem d_GG_cost_12 : decode b_GG_cost 12 = .ok (.invokevirtual 19, 3) := by decide +kernel
theorem d_GG_cost_15 : decode b_GG_cost 15 = .ok (.ifCond .ge 7, 3) := by decide +kernel
theorem d_GG_cost_18 : decode b_GG_cost 18 = .ok (.iconst 1, 1) := by decide +kernel
theorem d_GG_cost_19 : decode b_GG_cost 19 = .ok (.goto 4, 3) := by decide +kernel
theorem d_GG_cost_22 : decode b_GG_cost 22 = .ok (.iconst 0, 1) := by decide +kernel
theorem d_GG_cost_23 : decode b_GG_cost 23 = .ok (.istore_n 3, 1) := by decide +kernel
theorem d_GG_cost_24 : decode b_GG_cost 24 = .ok (.ldc2_w 23, 3) := by decide +kernel
theorem d_GG_cost_27 : decode b_GG_cost 27 = .ok (.aload_n 0, 1) := by decide +kernel
theorem d_GG_cost_28 : decode b_GG_cost 28 = .ok (.getfield 9, 3) := by decide +kernel
theorem d_GG_cost_31 : decode b_GG_cost 31 = .ok (.i2l, 1) := by decide +kernel
theorem d_GG_cost_32 : decode b_GG_cost 32 = .ok (.lmul, 1) := by decide +kernel
theorem d_GG_cost_33 : decode b_GG_cost 33 = .ok (.iload_n 3, 1) := by decide +kernel
theorem d_GG_cost_34 : decode b_GG_cost 34 = .ok (.ifCond .eq 7, 3) := by decide +kernel
theorem d_GG_cost_37 : decode b_GG_cost 37 = .ok (.iconst 2, 1) := by decide +kernel
theorem d_GG_cost_38 : decode b_GG_cost 38 = .ok (.goto 4, 3) := by decide +kernel
theorem d_GG_cost_41 : decode b_GG_cost 41 = .ok (.iconst 1, 1) := by decide +kernel
theorem d_GG_cost_42 : decode b_GG_cost 42 = .ok (.i2l, 1) := by decide +kernel
theorem d_GG_cost_43 : decode b_GG_cost 43 = .ok (.lmul, 1) := by decide +kernel
theorem d_GG_cost_44 : decode b_GG_cost 44 = .ok (.lreturn, 1) := by decide +kernel
theorem d_GG_code_0 : decode b_GG_code 0 = .ok (.iconst (-1), 1) := by decide +kernel
theorem d_GG_code_1 : decode b_GG_code 1 = .ok (.aload_n 0, 1) := by decide +kernel
theorem d_GG_code_2 : decode b_GG_code 2 = .ok (.getfield 9, 3) := by decide +kernel
theorem d_GG_code_5 : decode b_GG_code 5 = .ok (.isub, 1) := by decide +kernel
theorem d_GG_code_6 : decode b_GG_code 6 = .ok (.ireturn, 1) := by decide +kernel
theorem d_GG_hint_0 : decode b_GG_hint 0 = .ok (.iload_n 1, 1) := by decide +kernel
theorem d_GG_hint_1 : decode b_GG_hint 1 = .ok (.iconst 4, 1) := by decide +kernel
theorem d_GG_hint_2 : decode b_GG_hint 2 = .ok (.if_icmp .ne 10, 3) := by decide +kernel
theorem d_GG_hint_5 : decode b_GG_hint 5 = .ok (.aload_n 0, 1) := by decide +kernel
theorem d_GG_hint_6 : decode b_GG_hint 6 = .ok (.getfield 9, 3) := by decide +kernel
theorem d_GG_hint_9 : decode b_GG_hint 9 = .ok (.goto 5, 3) := by decide +kernel
theorem d_GG_hint_12 : decode b_GG_hint 12 = .ok (.bipush (-2), 2) := by decide +kernel
theorem d_GG_hint_14 : decode b_GG_hint 14 = .ok (.ireturn, 1) := by decide +kernel
theorem d_GK_init_0 : decode b_GK_init 0 = .ok (.aload_n 0, 1) := by decide +kernel
theorem d_GK_init_1 : decode b_GK_init 1 = .ok (.invokespecial 1, 3) := by decide +kernel
theorem d_GK_init_4 : decode b_GK_init 4 = .ok (.aload_n 0, 1) := by decide +kernel
theorem d_GK_init_5 : decode b_GK_init 5 = .ok (.aload_n 1, 1) := by decide +kernel
theorem d_GK_init_6 : decode b_GK_init 6 = .ok (.aload_n 1, 1) := by decide +kernel
theorem d_GK_init_7 : decode b_GK_init 7 = .ok (.getfield 7, 3) := by decide +kernel
theorem d_GK_init_10 : decode b_GK_init 10 = .ok (.invokevirtual 13, 3) := by decide +kernel
theorem d_GK_init_13 : decode b_GK_init 13 = .ok (.putfield 17, 3) := by decide +kernel
theorem d_GK_init_16 : decode b_GK_init 16 = .ok (.aload_n 0, 1) := by decide +kernel
theorem d_GK_init_17 : decode b_GK_init 17 = .ok (.aload_n 1, 1) := by decide +kernel
theorem d_GK_init_18 : decode b_GK_init 18 = .ok (.invokevirtual 22, 3) := by decide +kernel
theorem d_GK_init_21 : decode b_GK_init 21 = .ok (.putfield 26, 3) := by decide +kernel
theorem d_GK_init_24 : decode b_GK_init 24 = .ok (.aload_n 0, 1) := by decide +kernel
theorem d_GK_init_25 : decode b_GK_init 25 = .ok (.aload_n 1, 1) := by decide +kernel
theorem d_GK_init_26 : decode b_GK_init 26 = .ok (.invokevirtual 30, 3) := by decide +kernel
theorem d_GK_init_29 : decode b_GK_init 29 = .ok (.putfield 34, 3) := by decide +kernel
theorem d_GK_init_32 : decode b_GK_init 32 = .ok (.return_, 1) := by decide +kernel
theorem d_GS_init_0 : decode b_GS_init 0 = .ok (.aload_n 0, 1) := by decide +kernel
theorem d_GS_init_1 : decode b_GS_init 1 = .ok (.invokespecial 3, 3) := by decide +kernel
theorem d_GS_init_4 : decode b_GS_init 4 = .ok (.return_, 1) := by decide +kernel
theorem d_GS_rule_0 : decode b_GS_rule 0 = .ok (.iconst (-1), 1) := by decide +kernel
theorem d_GS_rule_1 : decode b_GS_rule 1 = .ok (.ireturn, 1) := by decide +kernel
theorem d_GS_place_0 : decode b_GS_place 0 = .ok (.iconst (-1), 1) := by decide +kernel
theorem d_GS_place_1 : decode b_GS_place 1 = .ok (.ireturn, 1) := by decide +kernel
theorem d_GS_isAlone_0 : decode b_GS_isAlone 0 = .ok (.iconst 0, 1) := by decide +kernel
theorem d_GS_isAlone_1 : decode b_GS_isAlone 1 = .ok (.ireturn, 1) := by decide +kernel
theorem d_GU_init_0 : decode b_GU_init 0 = .ok (.aload_n 0, 1) := by decide +kernel
theorem d_GU_init_1 : decode b_GU_init 1 = .ok (.invokespecial 3, 3) := by decide +kernel
theorem d_GU_init_4 : decode b_GU_init 4 = .ok (.aload_n 0, 1) := by decide +kernel
theorem d_GU_init_5 : decode b_GU_init 5 = .ok (.iload_n 1, 1) := by decide +kernel
theorem d_GU_init_6 : decode b_GU_init 6 = .ok (.putfield 9, 3) := by decide +kernel
theorem d_GU_init_9 : decode b_GU_init 9 = .ok (.aload_n 0, 1) := by decide +kernel
theorem d_GU_init_10 : decode b_GU_init 10 = .ok (.iload_n 2, 1) := by decide +kernel
theorem d_GU_init_11 : decode b_GU_init 11 = .ok (.putfield 15, 3) := by decide +kernel
theorem d_GU_init_14 : decode b_GU_init 14 = .ok (.aload_n 0, 1) := by decide +kernel
theorem d_GU_init_15 : decode b_GU_init 15 = .ok (.iload_n 3, 1) := by decide +kernel
theorem d_GU_init_16 : decode b_GU_init 16 = .ok (.putfield 18, 3) := by decide +kernel
theorem d_GU_init_19 : decode b_GU_init 19 = .ok (.return_, 1) := by decide +kernel
theorem d_GU_cost_0 : decode b_GU_cost 0 = .ok (.aload_n 1, 1) := by decide +kernel
theorem d_GU_cost_1 : decode b_GU_cost 1 = .ok (.aload_n 0, 1) := by decide +kernel
theorem d_GU_cost_2 : decode b_GU_cost 2 = .ok (.getfield 9, 3) := by decide +kernel
theorem d_GU_cost_5 : decode b_GU_cost 5 = .ok (.iload_n 2, 1) := by decide +kernel
theorem d_GU_cost_6 : decode b_GU_cost 6 = .ok (.invokevirtual 21, 3) := by decide +kernel
theorem d_GU_cost_9 : decode b_GU_cost 9 = .ok (.ifCond .eq 16, 3) := by decide +kernel
theorem d_GU_cost_12 : decode b_GU_cost 12 = .ok (.aload_n 1, 1) := by decide +kernel
theorem d_GU_cost_13 : decode b_GU_cost 13 = .ok (.getfield 25, 3) := by decide +kernel
theorem d_GU_cost_16 : decode b_GU_cost 16 = .ok (.aload_n 0, 1) := by decide +kernel
theorem d_GU_cost_17 : decode b_GU_cost 17 = .ok (.getfield 9, 3) := by decide +kernel
theorem d_GU_cost_20 : decode b_GU_cost 20 = .ok (.iaload, 1) := by decide +kernel
theorem d_GU_cost_21 : decode b_GU_cost 21 = .ok (.i2l, 1) := by decide +kernel
theorem d_GU_cost_22 : decode b_GU_cost 22 = .ok (.goto 4, 3) := by decide +kernel
theorem d_GU_cost_25 : decode b_GU_cost 25 = .ok (.lconst 0, 1) := by decide +kernel
theorem d_GU_cost_26 : decode b_GU_cost 26 = .ok (.lstore_n 3, 1) := by decide +kernel
theorem d_GU_cost_27 : decode b_GU_cost 27 = .ok (.aload_n 1, 1) := by decide +kernel
theorem d_GU_cost_28 : decode b_GU_cost 28 = .ok (.getfield 29, 3) := by decide +kernel
theorem d_GU_cost_31 : decode b_GU_cost 31 = .ok (.aload_n 0, 1) := by decide +kernel
theorem d_GU_cost_32 : decode b_GU_cost 32 = .ok (.getfield 9, 3) := by decide +kernel
theorem d_GU_cost_35 : decode b_GU_cost 35 = .ok (.iaload, 1) := by decide +kernel
theorem d_GU_cost_36 : decode b_GU_cost 36 = .ok (.i2l, 1) := by decide +kernel
theorem d_GU_cost_37 : decode b_GU_cost 37 = .ok (.bipush 12, 2) := by decide +kernel
theorem d_GU_cost_39 : decode b_GU_cost 39 = .ok (.aload_n 0, 1) := by decide +kernel
theorem d_GU_cost_40 : decode b_GU_cost 40 = .ok (.getfield 18, 3) := by decide +kernel
theorem d_GU_cost_43 : decode b_GU_cost 43 = .ok (.isub, 1) := by decide +kernel
theorem d_GU_cost_44 : decode b_GU_cost 44 = .ok (.i2l, 1) := by decide +kernel
theorem d_GU_cost_45 : decode b_GU_cost 45 = .ok (.lmul, 1) := by decide +kernel
theorem d_GU_cost_46 : decode b_GU_cost 46 = .ok (.ldc2_w 32, 3) := by decide +kernel
theorem d_GU_cost_49 : decode b_GU_cost 49 = .ok (.ldiv, 1) := by decide +kernel
theorem d_GU_cost_50 : decode b_GU_cost 50 = .ok (.lload_n 3, 1) := by decide +kernel
theorem d_GU_cost_51 : decode b_GU_cost 51 = .ok (.ladd, 1) := by decide +kernel
theorem d_GU_cost_52 : decode b_GU_cost 52 = .ok (.lreturn, 1) := by decide +kernel
theorem d_GU_code_0 : decode b_GU_code 0 = .ok (.aload_n 0, 1) := by decide +kernel
theorem d_GU_code_1 : decode b_GU_code 1 = .ok (.getfield 9, 3) := by decide +kernel
theorem d_GU_code_4 : decode b_GU_code 4 = .ok (.sipush 256, 3) := by decide +kernel
theorem d_GU_code_7 : decode b_GU_code 7 = .ok (.imul, 1) := by decide +kernel
theorem d_GU_code_8 : decode b_GU_code 8 = .ok (.aload_n 0, 1) := by decide +kernel
theorem d_GU_code_9 : decode b_GU_code 9 = .ok (.getfield 15, 3) := by decide +kernel
theorem d_GU_code_12 : decode b_GU_code 12 = .ok (.iadd, 1) := by decide +kernel
theorem d_GU_code_13 : decode b_GU_code 13 = .ok (.bipush 10, 2) := by decide +kernel
theorem d_GU_code_15 : decode b_GU_code 15 = .ok (.imul, 1) := by decide +kernel
theorem d_GU_code_16 : decode b_GU_code 16 = .ok (.aload_n 0, 1) := by decide +kernel
theorem d_GU_code_17 : decode b_GU_code 17 = .ok (.getfield 18, 3) := by decide +kernel
theorem d_GU_code_20 : decode b_GU_code 20 = .ok (.iadd, 1) := by decide +kernel
theorem d_GU_code_21 : decode b_GU_code 21 = .ok (.ireturn, 1) := by decide +kernel
theorem d_GU_hint_0 : decode b_GU_hint 0 = .ok (.iload_n 1, 1) := by decide +kernel
theorem d_GU_hint_1 : decode b_GU_hint 1 = .ok (.tableswitch 45 1 3 #[27, 35, 40], 27) := by decide +kernel
theorem d_GU_hint_28 : decode b_GU_hint 28 = .ok (.aload_n 0, 1) := by decide +kernel
theorem d_GU_hint_29 : decode b_GU_hint 29 = .ok (.getfield 15, 3) := by decide +kernel
theorem d_GU_hint_32 : decode b_GU_hint 32 = .ok (.bipush 16, 2) := by decide +kernel
theorem d_GU_hint_34 : decode b_GU_hint 34 = .ok (.idiv, 1) := by decide +kernel
theorem d_GU_hint_35 : decode b_GU_hint 35 = .ok (.ireturn, 1) := by decide +kernel
theorem d_GU_hint_36 : decode b_GU_hint 36 = .ok (.aload_n 0, 1) := by decide +kernel
theorem d_GU_hint_37 : decode b_GU_hint 37 = .ok (.getfield 15, 3) := by decide +kernel
theorem d_GU_hint_40 : decode b_GU_hint 40 = .ok (.ireturn, 1) := by decide +kernel
theorem d_GU_hint_41 : decode b_GU_hint 41 = .ok (.aload_n 0, 1) := by decide +kernel
theorem d_GU_hint_42 : decode b_GU_hint 42 = .ok (.getfield 9, 3) := by decide +kernel
theorem d_GU_hint_45 : decode b_GU_hint 45 = .ok (.ireturn, 1) := by decide +kernel
theorem d_GU_hint_46 : decode b_GU_hint 46 = .ok (.aload_n 0, 1) := by decide +kernel
theorem d_GU_hint_47 : decode b_GU_hint 47 = .ok (.getfield 18, 3) := by decide +kernel
theorem d_GU_hint_50 : decode b_GU_hint 50 = .ok (.ireturn, 1) := by decide +kernel
theorem d_GU_rule_0 : decode b_GU_rule 0 = .ok (.aload_n 0, 1) := by decide +kernel
theorem d_GU_rule_1 : decode b_GU_rule 1 = .ok (.getfield 9, 3) := by decide +kernel
theorem d_GU_rule_4 : decode b_GU_rule 4 = .ok (.ireturn, 1) := by decide +kernel
theorem d_GU_place_0 : decode b_GU_place 0 = .ok (.aload_n 0, 1) := by decide +kernel
theorem d_GU_place_1 : decode b_GU_place 1 = .ok (.getfield 15, 3) := by decide +kernel
theorem d_GU_place_4 : decode b_GU_place 4 = .ok (.ireturn, 1) := by decide +kernel
theorem d_GU_isAlone_0 : decode b_GU_isAlone 0 = .ok (.aload_n 0, 1) := by decide +kernel
theorem d_GU_isAlone_1 : decode b_GU_isAlone 1 = .ok (.getfield 18, 3) := by decide +kernel
theorem d_GU_isAlone_4 : decode b_GU_isAlone 4 = .ok (.iconst 1, 1) := by decide +kernel
theorem d_GU_isAlone_5 : decode b_GU_isAlone 5 = .ok (.if_icmp .ne 7, 3) := by decide +kernel
theorem d_GU_isAlone_8 : decode b_GU_isAlone 8 = .ok (.iconst 1, 1) := by decide +kernel
theorem d_GU_isAlone_9 : decode b_GU_isAlone 9 = .ok (.goto 4, 3) := by decide +kernel
theorem d_GU_isAlone_12 : decode b_GU_isAlone 12 = .ok (.iconst 0, 1) := by decide +kernel
theorem d_GU_isAlone_13 : decode b_GU_isAlone 13 = .ok (.ireturn, 1) := by decide +kernel
theorem d_IN_compare_0 : decode b_IN_compare 0 = .ok (.iload_n 0, 1) := by decide +kernel
theorem d_IN_compare_1 : decode b_IN_compare 1 = .ok (.iload_n 1, 1) := by decide +kernel
theorem d_IN_compare_2 : decode b_IN_compare 2 = .ok (.if_icmp .ge 7, 3) := by decide +kernel
theorem d_IN_compare_5 : decode b_IN_compare 5 = .ok (.iconst (-1), 1) := by decide +kernel
theorem d_IN_compare_6 : decode b_IN_compare 6 = .ok (.goto 13, 3) := by decide +kernel
theorem d_IN_compare_9 : decode b_IN_compare 9 = .ok (.iload_n 0, 1) := by decide +kernel
theorem d_IN_compare_10 : decode b_IN_compare 10 = .ok (.iload_n 1, 1) := by decide +kernel
theorem d_IN_compare_11 : decode b_IN_compare 11 = .ok (.if_icmp .ne 7, 3) := by decide +kernel
theorem d_IN_compare_14 : decode b_IN_compare 14 = .ok (.iconst 0, 1) := by decide +kernel
theorem d_IN_compare_15 : decode b_IN_compare 15 = .ok (.goto 4, 3) := by decide +kernel
theorem d_IN_compare_18 : decode b_IN_compare 18 = .ok (.iconst 1, 1) := by decide +kernel
theorem d_IN_compare_19 : decode b_IN_compare 19 = .ok (.ireturn, 1) := by decide +kernel
theorem d_LO_compare_0 : decode b_LO_compare 0 = .ok (.lload_n 0, 1) := by decide +kernel
theorem d_LO_compare_1 : decode b_LO_compare 1 = .ok (.lload_n 2, 1) := by decide +kernel
theorem d_LO_compare_2 : decode b_LO_compare 2 = .ok (.lcmp, 1) := by decide +kernel
theorem d_LO_compare_3 : decode b_LO_compare 3 = .ok (.ifCond .ge 7, 3) := by decide +kernel
theorem d_LO_compare_6 : decode b_LO_compare 6 = .ok (.iconst (-1), 1) := by decide +kernel
theorem d_LO_compare_7 : decode b_LO_compare 7 = .ok (.goto 14, 3) := by decide +kernel
theorem d_LO_compare_10 : decode b_LO_compare 10 = .ok (.lload_n 0, 1) := by decide +kernel
theorem d_LO_compare_11 : decode b_LO_compare 11 = .ok (.lload_n 2, 1) := by decide +kernel
theorem d_LO_compare_12 : decode b_LO_compare 12 = .ok (.lcmp, 1) := by decide +kernel
theorem d_LO_compare_13 : decode b_LO_compare 13 = .ok (.ifCond .ne 7, 3) := by decide +kernel
theorem d_LO_compare_16 : decode b_LO_compare 16 = .ok (.iconst 0, 1) := by decide +kernel
theorem d_LO_compare_17 : decode b_LO_compare 17 = .ok (.goto 4, 3) := by decide +kernel
theorem d_LO_compare_20 : decode b_LO_compare 20 = .ok (.iconst 1, 1) := by decide +kernel
theorem d_LO_compare_21 : decode b_LO_compare 21 = .ok (.ireturn, 1) := by decide +kernel
end
section
theorem d_GM_init_0 : decode b_GM_init 0 = .ok (.aload_n 0, 1) := by decide +kernel
theorem d_GM_init_1 : decode b_GM_init 1 = .ok (.invokespecial 1, 3) := by decide +kernel
theorem d_GM_init_4 : decode b_GM_init 4 = .ok (.aload_n 0, 1) := by decide +kernel
theorem d_GM_init_5 : decode b_GM_init 5 = .ok (.bipush 40, 2) := by decide +kernel
theorem d_GM_init_7 : decode b_GM_init 7 = .ok (.newarray .int, 2) := by decide +kernel
theorem d_GM_init_9 : decode b_GM_init 9 = .ok (.putfield 7, 3) := by decide +kernel
theorem d_GM_init_12 : decode b_GM_init 12 = .ok (.aload_n 0, 1) := by decide +kernel
theorem d_GM_init_13 : decode b_GM_init 13 = .ok (.bipush 40, 2) := by decide +kernel
theorem d_GM_init_15 : decode b_GM_init 15 = .ok (.newarray .int, 2) := by decide +kernel
theorem d_GM_init_17 : decode b_GM_init 17 = .ok (.putfield 13, 3) := by decide +kernel
theorem d_GM_init_20 : decode b_GM_init 20 = .ok (.aload_n 0, 1) := by decide +kernel
theorem d_GM_init_21 : decode b_GM_init 21 = .ok (.bipush 11, 2) := by decide +kernel
theorem d_GM_init_23 : decode b_GM_init 23 = .ok (.newarray .int, 2) := by decide +kernel
theorem d_GM_init_25 : decode b_GM_init 25 = .ok (.putfield 16, 3) := by decide +kernel
theorem d_GM_init_28 : decode b_GM_init 28 = .ok (.aload_n 0, 1) := by decide +kernel
theorem d_GM_init_29 : decode b_GM_init 29 = .ok (.sipush 2200, 3) := by decide +kernel
theorem d_GM_init_32 : decode b_GM_init 32 = .ok (.newarray .int, 2) := by decide +kernel
theorem d_GM_init_34 : decode b_GM_init 34 = .ok (.putfield 19, 3) := by decide +kernel
theorem d_GM_init_37 : decode b_GM_init 37 = .ok (.aload_n 0, 1) := by decide +kernel
theorem d_GM_init_38 : decode b_GM_init 38 = .ok (.sipush 2200, 3) := by decide +kernel
theorem d_GM_init_41 : decode b_GM_init 41 = .ok (.newarray .int, 2) := by decide +kernel
theorem d_GM_init_43 : decode b_GM_init 43 = .ok (.putfield 22, 3) := by decide +kernel
theorem d_GM_init_46 : decode b_GM_init 46 = .ok (.aload_n 0, 1) := by decide +kernel
theorem d_GM_init_47 : decode b_GM_init 47 = .ok (.sipush 2200, 3) := by decide +kernel
theorem d_GM_init_50 : decode b_GM_init 50 = .ok (.newarray .int, 2) := by decide +kernel
theorem d_GM_init_52 : decode b_GM_init 52 = .ok (.putfield 25, 3) := by decide +kernel
theorem d_GM_init_55 : decode b_GM_init 55 = .ok (.aload_n 0, 1) := by decide +kernel
theorem d_GM_init_56 : decode b_GM_init 56 = .ok (.bipush 20, 2) := by decide +kernel
theorem d_GM_init_58 : decode b_GM_init 58 = .ok (.newarray .long, 2) := by decide +kernel
theorem d_GM_init_60 : decode b_GM_init 60 = .ok (.putfield 28, 3) := by decide +kernel
theorem d_GM_init_63 : decode b_GM_init 63 = .ok (.aload_n 0, 1) := by decide +kernel
theorem d_GM_init_64 : decode b_GM_init 64 = .ok (.bipush 20, 2) := by decide +kernel
theorem d_GM_init_66 : decode b_GM_init 66 = .ok (.newarray .long, 2) := by decide +kernel
theorem d_GM_init_68 : decode b_GM_init 68 = .ok (.putfield 32, 3) := by decide +kernel
theorem d_GM_init_71 : decode b_GM_init 71 = .ok (.aload_n 0, 1) := by decide +kernel
theorem d_GM_init_72 : decode b_GM_init 72 = .ok (.sipush 256, 3) := by decide +kernel
theorem d_GM_init_75 : decode b_GM_init 75 = .ok (.newarray .boolean, 2) := by decide +kernel
theorem d_GM_init_77 : decode b_GM_init 77 = .ok (.putfield 35, 3) := by decide +kernel
theorem d_GM_init_80 : decode b_GM_init 80 = .ok (.aload_n 0, 1) := by decide +kernel
theorem d_GM_init_81 : decode b_GM_init 81 = .ok (.sipush 200, 3) := by decide +kernel
theorem d_GM_init_84 : decode b_GM_init 84 = .ok (.newarray .long, 2) := by decide +kernel
theorem d_GM_init_86 : decode b_GM_init 86 = .ok (.putfield 39, 3) := by decide +kernel
theorem d_GM_init_89 : decode b_GM_init 89 = .ok (.aload_n 0, 1) := by decide +kernel
theorem d_GM_init_90 : decode b_GM_init 90 = .ok (.sipush 200, 3) := by decide +kernel
theorem d_GM_init_93 : decode b_GM_init 93 = .ok (.newarray .long, 2) := by decide +kernel
theorem d_GM_init_95 : decode b_GM_init 95 = .ok (.putfield 42, 3) := by decide +kernel
theorem d_GM_init_98 : decode b_GM_init 98 = .ok (.return_, 1) := by decide +kernel
theorem d_GM_count_0 : decode b_GM_count 0 = .ok (.aload_n 0, 1) := by decide +kernel
theorem d_GM_count_1 : decode b_GM_count 1 = .ok (.getfield 16, 3) := by decide +kernel
theorem d_GM_count_4 : decode b_GM_count 4 = .ok (.bipush 10, 2) := by decide +kernel
theorem d_GM_count_6 : decode b_GM_count 6 = .ok (.iaload, 1) := by decide +kernel
theorem d_GM_count_7 : decode b_GM_count 7 = .ok (.ireturn, 1) := by decide +kernel
theorem d_GM_rule_0 : decode b_GM_rule 0 = .ok (.aload_n 0, 1) := by decide +kernel
theorem d_GM_rule_1 : decode b_GM_rule 1 = .ok (.iconst 0, 1) := by decide +kernel
theorem d_GM_rule_2 : decode b_GM_rule 2 = .ok (.putfield 45, 3) := by decide +kernel
theorem d_GM_rule_5 : decode b_GM_rule 5 = .ok (.iload_n 1, 1) := by decide +kernel
theorem d_GM_rule_6 : decode b_GM_rule 6 = .ok (.ifCond .lt 29, 3) := by decide +kernel
theorem d_GM_rule_9 : decode b_GM_rule 9 = .ok (.iload_n 1, 1) := by decide +kernel
theorem d_GM_rule_10 : decode b_GM_rule 10 = .ok (.sipush 10000, 3) := by decide +kernel
theorem d_GM_rule_13 : decode b_GM_rule 13 = .ok (.if_icmp .gt 22, 3) := by decide +kernel
theorem d_GM_rule_16 : decode b_GM_rule 16 = .ok (.iload_n 2, 1) := by decide +kernel
theorem d_GM_rule_17 : decode b_GM_rule 17 = .ok (.ifCond .lt 18, 3) := by decide +kernel
theorem d_GM_rule_20 : decode b_GM_rule 20 = .ok (.iload_n 2, 1) := by decide +kernel
theorem d_GM_rule_21 : decode b_GM_rule 21 = .ok (.ldc 49, 2) := by decide +kernel
theorem d_GM_rule_23 : decode b_GM_rule 23 = .ok (.if_icmp .gt 12, 3) := by decide +kernel
theorem d_GM_rule_26 : decode b_GM_rule 26 = .ok (.aload_n 0, 1) := by decide +kernel
theorem d_GM_rule_27 : decode b_GM_rule 27 = .ok (.getfield 50, 3) := by decide +kernel
theorem d_GM_rule_30 : decode b_GM_rule 30 = .ok (.bipush 40, 2) := by decide +kernel
theorem d_GM_rule_32 : decode b_GM_rule 32 = .ok (.if_icmp .ne 5, 3) := by decide +kernel
theorem d_GM_rule_35 : decode b_GM_rule 35 = .ok (.iconst (-1), 1) := by decide +kernel
theorem d_GM_rule_36 : decode b_GM_rule 36 = .ok (.ireturn, 1) := by decide +kernel
theorem d_GM_rule_37 : decode b_GM_rule 37 = .ok (.aload_n 0, 1) := by decide +kernel
theorem d_GM_rule_38 : decode b_GM_rule 38 = .ok (.getfield 7, 3) := by decide +kernel
theorem d_GM_rule_41 : decode b_GM_rule 41 = .ok (.aload_n 0, 1) := by decide +kernel
theorem d_GM_rule_42 : decode b_GM_rule 42 = .ok (.getfield 50, 3) := by decide +kernel
theorem d_GM_rule_45 : decode b_GM_rule 45 = .ok (.iload_n 1, 1) := by decide +kernel
theorem d_GM_rule_46 : decode b_GM_rule 46 = .ok (.iastore, 1) := by decide +kernel
theorem d_GM_rule_47 : decode b_GM_rule 47 = .ok (.aload_n 0, 1) := by decide +kernel
theorem d_GM_rule_48 : decode b_GM_rule 48 = .ok (.getfield 13, 3) := by decide +kernel
theorem d_GM_rule_51 : decode b_GM_rule 51 = .ok (.aload_n 0, 1) := by decide +kernel
theorem d_GM_rule_52 : decode b_GM_rule 52 = .ok (.getfield 50, 3) := by decide +kernel
theorem d_GM_rule_55 : decode b_GM_rule 55 = .ok (.iload_n 2, 1) := by decide +kernel
theorem d_GM_rule_56 : decode b_GM_rule 56 = .ok (.iastore, 1) := by decide +kernel
theorem d_GM_rule_57 : decode b_GM_rule 57 = .ok (.aload_n 0, 1) := by decide +kernel
theorem d_GM_rule_58 : decode b_GM_rule 58 = .ok (.dup, 1) := by decide +kernel
theorem d_GM_rule_59 : decode b_GM_rule 59 = .ok (.getfield 50, 3) := by decide +kernel
theorem d_GM_rule_62 : decode b_GM_rule 62 = .ok (.iconst 1, 1) := by decide +kernel
theorem d_GM_rule_63 : decode b_GM_rule 63 = .ok (.iadd, 1) := by decide +kernel
theorem d_GM_rule_64 : decode b_GM_rule 64 = .ok (.putfield 50, 3) := by decide +kernel
theorem d_GM_rule_67 : decode b_GM_rule 67 = .ok (.aload_n 0, 1) := by decide +kernel
theorem d_GM_rule_68 : decode b_GM_rule 68 = .ok (.getfield 50, 3) := by decide +kernel
theorem d_GM_rule_71 : decode b_GM_rule 71 = .ok (.iconst 1, 1) := by decide +kernel
theorem d_GM_rule_72 : decode b_GM_rule 72 = .ok (.isub, 1) := by decide +kernel
theorem d_GM_rule_73 : decode b_GM_rule 73 = .ok (.ireturn, 1) := by decide +kernel
theorem d_GM_add_0 : decode b_GM_add 0 = .ok (.sipush 2000, 3) := by decide +kernel
theorem d_GM_add_3 : decode b_GM_add 3 = .ok (.aload_n 0, 1) := by decide +kernel
theorem d_GM_add_4 : decode b_GM_add 4 = .ok (.invokevirtual 53, 3) := by decide +kernel
theorem d_GM_add_7 : decode b_GM_add 7 = .ok (.iadd, 1) := by decide +kernel
theorem d_GM_add_8 : decode b_GM_add 8 = .ok (.istore 4, 2) := by decide +kernel
theorem d_GM_add_10 : decode b_GM_add 10 = .ok (.aload_n 0, 1) := by decide +kernel
theorem d_GM_add_11 : decode b_GM_add 11 = .ok (.getfield 19, 3) := by decide +kernel
theorem d_GM_add_14 : decode b_GM_add 14 = .ok (.iload 4, 2) := by decide +kernel
theorem d_GM_add_16 : decode b_GM_add 16 = .ok (.iload_n 1, 1) := by decide +kernel
theorem d_GM_add_17 : decode b_GM_add 17 = .ok (.iastore, 1) := by decide +kernel
theorem d_GM_add_18 : decode b_GM_add 18 = .ok (.aload_n 0, 1) := by decide +kernel
theorem d_GM_add_19 : decode b_GM_add 19 = .ok (.getfield 22, 3) := by decide +kernel
theorem d_GM_add_22 : decode b_GM_add 22 = .ok (.iload 4, 2) := by decide +kernel
theorem d_GM_add_24 : decode b_GM_add 24 = .ok (.iload_n 2, 1) := by decide +kernel
theorem d_GM_add_25 : decode b_GM_add 25 = .ok (.iastore, 1) := by decide +kernel
theorem d_GM_add_26 : decode b_GM_add 26 = .ok (.aload_n 0, 1) := by decide +kernel
theorem d_GM_add_27 : decode b_GM_add 27 = .ok (.getfield 25, 3) := by decide +kernel
theorem d_GM_add_30 : decode b_GM_add 30 = .ok (.iload 4, 2) := by decide +kernel
theorem d_GM_add_32 : decode b_GM_add 32 = .ok (.iload_n 3, 1) := by decide +kernel
theorem d_GM_add_33 : decode b_GM_add 33 = .ok (.iastore, 1) := by decide +kernel
theorem d_GM_add_34 : decode b_GM_add 34 = .ok (.aload_n 0, 1) := by decide +kernel
theorem d_GM_add_35 : decode b_GM_add 35 = .ok (.getfield 16, 3) := by decide +kernel
theorem d_GM_add_38 : decode b_GM_add 38 = .ok (.bipush 10, 2) := by decide +kernel
theorem d_GM_add_40 : decode b_GM_add 40 = .ok (.dup2, 1) := by decide +kernel
theorem d_GM_add_41 : decode b_GM_add 41 = .ok (.iaload, 1) := by decide +kernel
theorem d_GM_add_42 : decode b_GM_add 42 = .ok (.iconst 1, 1) := by decide +kernel
theorem d_GM_add_43 : decode b_GM_add 43 = .ok (.iadd, 1) := by decide +kernel
theorem d_GM_add_44 : decode b_GM_add 44 = .ok (.iastore, 1) := by decide +kernel
theorem d_GM_add_45 : decode b_GM_add 45 = .ok (.aload_n 0, 1) := by decide +kernel
theorem d_GM_add_46 : decode b_GM_add 46 = .ok (.invokevirtual 53, 3) := by decide +kernel
theorem d_GM_add_49 : decode b_GM_add 49 = .ok (.iconst 1, 1) := by decide +kernel
theorem d_GM_add_50 : decode b_GM_add 50 = .ok (.isub, 1) := by decide +kernel
theorem d_GM_add_51 : decode b_GM_add 51 = .ok (.ireturn, 1) := by decide +kernel
theorem d_GM_used_0 : decode b_GM_used 0 = .ok (.aload_n 0, 1) := by decide +kernel
theorem d_GM_used_1 : decode b_GM_used 1 = .ok (.iconst 0, 1) := by decide +kernel
theorem d_GM_used_2 : decode b_GM_used 2 = .ok (.putfield 45, 3) := by decide +kernel
theorem d_GM_used_5 : decode b_GM_used 5 = .ok (.iload_n 1, 1) := by decide +kernel
theorem d_GM_used_6 : decode b_GM_used 6 = .ok (.ifCond .lt 43, 3) := by decide +kernel
theorem d_GM_used_9 : decode b_GM_used 9 = .ok (.iload_n 1, 1) := by decide +kernel
theorem d_GM_used_10 : decode b_GM_used 10 = .ok (.aload_n 0, 1) := by decide +kernel
theorem d_GM_used_11 : decode b_GM_used 11 = .ok (.getfield 50, 3) := by decide +kernel
theorem d_GM_used_14 : decode b_GM_used 14 = .ok (.if_icmp .ge 35, 3) := by decide +kernel
theorem d_GM_used_17 : decode b_GM_used 17 = .ok (.iload_n 2, 1) := by decide +kernel
theorem d_GM_used_18 : decode b_GM_used 18 = .ok (.ifCond .lt 31, 3) := by decide +kernel
theorem d_GM_used_21 : decode b_GM_used 21 = .ok (.iload_n 2, 1) := by decide +kernel
theorem d_GM_used_22 : decode b_GM_used 22 = .ok (.sipush 255, 3) := by decide +kernel
theorem d_GM_used_25 : decode b_GM_used 25 = .ok (.if_icmp .gt 24, 3) := by decide +kernel
theorem d_GM_used_28 : decode b_GM_used 28 = .ok (.iload_n 3, 1) := by decide +kernel
theorem d_GM_used_29 : decode b_GM_used 29 = .ok (.iconst 1, 1) := by decide +kernel
theorem d_GM_used_30 : decode b_GM_used 30 = .ok (.if_icmp .lt 19, 3) := by decide +kernel
theorem d_GM_used_33 : decode b_GM_used 33 = .ok (.iload_n 3, 1) := by decide +kernel
theorem d_GM_used_34 : decode b_GM_used 34 = .ok (.bipush 9, 2) := by decide +kernel
theorem d_GM_used_36 : decode b_GM_used 36 = .ok (.if_icmp .gt 13, 3) := by decide +kernel
theorem d_GM_used_39 : decode b_GM_used 39 = .ok (.aload_n 0, 1) := by decide +kernel
theorem d_GM_used_40 : decode b_GM_used 40 = .ok (.invokevirtual 53, 3) := by decide +kernel
theorem d_GM_used_43 : decode b_GM_used 43 = .ok (.sipush 200, 3) := by decide +kernel
theorem d_GM_used_46 : decode b_GM_used 46 = .ok (.if_icmp .ne 5, 3) := by decide +kernel
theorem d_GM_used_49 : decode b_GM_used 49 = .ok (.iconst (-1), 1) := by decide +kernel
theorem d_GM_used_50 : decode b_GM_used 50 = .ok (.ireturn, 1) := by decide +kernel
theorem d_GM_used_51 : decode b_GM_used 51 = .ok (.aload_n 0, 1) := by decide +kernel
theorem d_GM_used_52 : decode b_GM_used 52 = .ok (.iload_n 1, 1) := by decide +kernel
theorem d_GM_used_53 : decode b_GM_used 53 = .ok (.iload_n 2, 1) := by decide +kernel
theorem d_GM_used_54 : decode b_GM_used 54 = .ok (.iload_n 3, 1) := by decide +kernel
theorem d_GM_used_55 : decode b_GM_used 55 = .ok (.invokevirtual 57, 3) := by decide +kernel
theorem d_GM_used_58 : decode b_GM_used 58 = .ok (.ireturn, 1) := by decide +kernel
theorem d_GM_guess_0 : decode b_GM_guess 0 = .ok (.aload_n 0, 1) := by decide +kernel
theorem d_GM_guess_1 : decode b_GM_guess 1 = .ok (.iconst 0, 1) := by decide +kernel
theorem d_GM_guess_2 : decode b_GM_guess 2 = .ok (.putfield 45, 3) := by decide +kernel
theorem d_GM_guess_5 : decode b_GM_guess 5 = .ok (.iload_n 1, 1) := by decide +kernel
theorem d_GM_guess_6 : decode b_GM_guess 6 = .ok (.iconst 1, 1) := by decide +kernel
theorem d_GM_guess_7 : decode b_GM_guess 7 = .ok (.if_icmp .lt 19, 3) := by decide +kernel
theorem d_GM_guess_10 : decode b_GM_guess 10 = .ok (.iload_n 1, 1) := by decide +kernel
theorem d_GM_guess_11 : decode b_GM_guess 11 = .ok (.bipush 20, 2) := by decide +kernel
theorem d_GM_guess_13 : decode b_GM_guess 13 = .ok (.if_icmp .gt 13, 3) := by decide +kernel
theorem d_GM_guess_16 : decode b_GM_guess 16 = .ok (.aload_n 0, 1) := by decide +kernel
theorem d_GM_guess_17 : decode b_GM_guess 17 = .ok (.invokevirtual 53, 3) := by decide +kernel
theorem d_GM_guess_20 : decode b_GM_guess 20 = .ok (.sipush 200, 3) := by decide +kernel
theorem d_GM_guess_23 : decode b_GM_guess 23 = .ok (.if_icmp .ne 5, 3) := by decide +kernel
theorem d_GM_guess_26 : decode b_GM_guess 26 = .ok (.iconst (-1), 1) := by decide +kernel
theorem d_GM_guess_27 : decode b_GM_guess 27 = .ok (.ireturn, 1) := by decide +kernel
theorem d_GM_guess_28 : decode b_GM_guess 28 = .ok (.aload_n 0, 1) := by decide +kernel
theorem d_GM_guess_29 : decode b_GM_guess 29 = .ok (.iconst (-1), 1) := by decide +kernel
theorem d_GM_guess_30 : decode b_GM_guess 30 = .ok (.iload_n 1, 1) := by decide +kernel
theorem d_GM_guess_31 : decode b_GM_guess 31 = .ok (.iconst 0, 1) := by decide +kernel
theorem d_GM_guess_32 : decode b_GM_guess 32 = .ok (.invokevirtual 57, 3) := by decide +kernel
theorem d_GM_guess_35 : decode b_GM_guess 35 = .ok (.ireturn, 1) := by decide +kernel
theorem d_GM_drop_0 : decode b_GM_drop 0 = .ok (.aload_n 0, 1) := by decide +kernel
theorem d_GM_drop_1 : decode b_GM_drop 1 = .ok (.iconst 0, 1) := by decide +kernel
theorem d_GM_drop_2 : decode b_GM_drop 2 = .ok (.putfield 45, 3) := by decide +kernel
theorem d_GM_drop_5 : decode b_GM_drop 5 = .ok (.aload_n 0, 1) := by decide +kernel
theorem d_GM_drop_6 : decode b_GM_drop 6 = .ok (.invokevirtual 53, 3) := by decide +kernel
theorem d_GM_drop_9 : decode b_GM_drop 9 = .ok (.ifCond .ne 5, 3) := by decide +kernel
theorem d_GM_drop_12 : decode b_GM_drop 12 = .ok (.iconst 0, 1) := by decide +kernel
theorem d_GM_drop_13 : decode b_GM_drop 13 = .ok (.ireturn, 1) := by decide +kernel
theorem d_GM_drop_14 : decode b_GM_drop 14 = .ok (.aload_n 0, 1) := by decide +kernel
theorem d_GM_drop_15 : decode b_GM_drop 15 = .ok (.getfield 61, 3) := by decide +kernel
theorem d_GM_drop_18 : decode b_GM_drop 18 = .ok (.aload_n 0, 1) := by decide +kernel
theorem d_GM_drop_19 : decode b_GM_drop 19 = .ok (.invokevirtual 53, 3) := by decide +kernel
theorem d_GM_drop_22 : decode b_GM_drop 22 = .ok (.if_icmp .ne 13, 3) := by decide +kernel
theorem d_GM_drop_25 : decode b_GM_drop 25 = .ok (.aload_n 0, 1) := by decide +kernel
theorem d_GM_drop_26 : decode b_GM_drop 26 = .ok (.dup, 1) := by decide +kernel
theorem d_GM_drop_27 : decode b_GM_drop 27 = .ok (.getfield 61, 3) := by decide +kernel
theorem d_GM_drop_30 : decode b_GM_drop 30 = .ok (.iconst 1, 1) := by decide +kernel
theorem d_GM_drop_31 : decode b_GM_drop 31 = .ok (.isub, 1) := by decide +kernel
theorem d_GM_drop_32 : decode b_GM_drop 32 = .ok (.putfield 61, 3) := by decide +kernel
theorem d_GM_drop_35 : decode b_GM_drop 35 = .ok (.aload_n 0, 1) := by decide +kernel
theorem d_GM_drop_36 : decode b_GM_drop 36 = .ok (.getfield 16, 3) := by decide +kernel
theorem d_GM_drop_39 : decode b_GM_drop 39 = .ok (.bipush 10, 2) := by decide +kernel
theorem d_GM_drop_41 : decode b_GM_drop 41 = .ok (.dup2, 1) := by decide +kernel
theorem d_GM_drop_42 : decode b_GM_drop 42 = .ok (.iaload, 1) := by decide +kernel
theorem d_GM_drop_43 : decode b_GM_drop 43 = .ok (.iconst 1, 1) := by decide +kernel
theorem d_GM_drop_44 : decode b_GM_drop 44 = .ok (.isub, 1) := by decide +kernel
theorem d_GM_drop_45 : decode b_GM_drop 45 = .ok (.iastore, 1) := by decide +kernel
theorem d_GM_drop_46 : decode b_GM_drop 46 = .ok (.iconst 1, 1) := by decide +kernel
theorem d_GM_drop_47 : decode b_GM_drop 47 = .ok (.ireturn, 1) := by decide +kernel
theorem d_GM_costOf_0 : decode b_GM_costOf 0 = .ok (.sipush 200, 3) := by decide +kernel
theorem d_GM_costOf_3 : decode b_GM_costOf 3 = .ok (.iload_n 1, 1) := by decide +kernel
theorem d_GM_costOf_4 : decode b_GM_costOf 4 = .ok (.imul, 1) := by decide +kernel
theorem d_GM_costOf_5 : decode b_GM_costOf 5 = .ok (.iload_n 2, 1) := by decide +kernel
theorem d_GM_costOf_6 : decode b_GM_costOf 6 = .ok (.iadd, 1) := by decide +kernel
theorem d_GM_costOf_7 : decode b_GM_costOf 7 = .ok (.istore_n 3, 1) := by decide +kernel
theorem d_GM_costOf_8 : decode b_GM_costOf 8 = .ok (.aload_n 0, 1) := by decide +kernel
theorem d_GM_costOf_9 : decode b_GM_costOf 9 = .ok (.getfield 19, 3) := by decide +kernel
theorem d_GM_costOf_12 : decode b_GM_costOf 12 = .ok (.iload_n 3, 1) := by decide +kernel
theorem d_GM_costOf_13 : decode b_GM_costOf 13 = .ok (.iaload, 1) := by decide +kernel
theorem d_GM_costOf_14 : decode b_GM_costOf 14 = .ok (.iconst (-1), 1) := by decide +kernel
theorem d_GM_costOf_15 : decode b_GM_costOf 15 = .ok (.if_icmp .ne 38, 3) := by decide +kernel
theorem d_GM_costOf_18 : decode b_GM_costOf 18 = .ok (.ldc2_w 64, 3) := by decide +kernel
theorem d_GM_costOf_21 : decode b_GM_costOf 21 = .ok (.aload_n 0, 1) := by decide +kernel
theorem d_GM_costOf_22 : decode b_GM_costOf 22 = .ok (.getfield 22, 3) := by decide +kernel
theorem d_GM_costOf_25 : decode b_GM_costOf 25 = .ok (.iload_n 3, 1) := by decide +kernel
theorem d_GM_costOf_26 : decode b_GM_costOf 26 = .ok (.iaload, 1) := by decide +kernel
theorem d_GM_costOf_27 : decode b_GM_costOf 27 = .ok (.i2l, 1) := by decide +kernel
theorem d_GM_costOf_28 : decode b_GM_costOf 28 = .ok (.lmul, 1) := by decide +kernel
theorem d_GM_costOf_29 : decode b_GM_costOf 29 = .ok (.iload_n 2, 1) := by decide +kernel
theorem d_GM_costOf_30 : decode b_GM_costOf 30 = .ok (.ifCond .le 19, 3) := by decide +kernel
theorem d_GM_costOf_33 : decode b_GM_costOf 33 = .ok (.aload_n 0, 1) := by decide +kernel
theorem d_GM_costOf_34 : decode b_GM_costOf 34 = .ok (.getfield 19, 3) := by decide +kernel
theorem d_GM_costOf_37 : decode b_GM_costOf 37 = .ok (.iload_n 3, 1) := by decide +kernel
theorem d_GM_costOf_38 : decode b_GM_costOf 38 = .ok (.iconst 1, 1) := by decide +kernel
theorem d_GM_costOf_39 : decode b_GM_costOf 39 = .ok (.isub, 1) := by decide +kernel
theorem d_GM_costOf_40 : decode b_GM_costOf 40 = .ok (.iaload, 1) := by decide +kernel
theorem d_GM_costOf_41 : decode b_GM_costOf 41 = .ok (.iconst (-1), 1) := by decide +kernel
theorem d_GM_costOf_42 : decode b_GM_costOf 42 = .ok (.if_icmp .ne 7, 3) := by decide +kernel
theorem d_GM_costOf_45 : decode b_GM_costOf 45 = .ok (.iconst 2, 1) := by decide +kernel
theorem d_GM_costOf_46 : decode b_GM_costOf 46 = .ok (.goto 4, 3) := by decide +kernel
theorem d_GM_costOf_49 : decode b_GM_costOf 49 = .ok (.iconst 1, 1) := by decide +kernel
theorem d_GM_costOf_50 : decode b_GM_costOf 50 = .ok (.i2l, 1) := by decide +kernel
theorem d_GM_costOf_51 : decode b_GM_costOf 51 = .ok (.lmul, 1) := by decide +kernel
theorem d_GM_costOf_52 : decode b_GM_costOf 52 = .ok (.lreturn, 1) := by decide +kernel
theorem d_GM_costOf_53 : decode b_GM_costOf 53 = .ok (.iconst 1, 1) := by decide +kernel
theorem d_GM_costOf_54 : decode b_GM_costOf 54 = .ok (.istore 4, 2) := by decide +kernel
theorem d_GM_costOf_56 : decode b_GM_costOf 56 = .ok (.iconst 0, 1) := by decide +kernel
theorem d_GM_costOf_57 : decode b_GM_costOf 57 = .ok (.istore 5, 2) := by decide +kernel
theorem d_GM_costOf_59 : decode b_GM_costOf 59 = .ok (.iload 5, 2) := by decide +kernel
theorem d_GM_costOf_61 : decode b_GM_costOf 61 = .ok (.iload_n 2, 1) := by decide +kernel
theorem d_GM_costOf_62 : decode b_GM_costOf 62 = .ok (.if_icmp .ge 43, 3) := by decide +kernel
theorem d_GM_costOf_65 : decode b_GM_costOf 65 = .ok (.iload 4, 2) := by decide +kernel
theorem d_GM_costOf_67 : decode b_GM_costOf 67 = .ok (.ifCond .eq 29, 3) := by decide +kernel
theorem d_GM_costOf_70 : decode b_GM_costOf 70 = .ok (.aload_n 0, 1) := by decide +kernel
theorem d_GM_costOf_71 : decode b_GM_costOf 71 = .ok (.getfield 19, 3) := by decide +kernel
theorem d_GM_costOf_74 : decode b_GM_costOf 74 = .ok (.sipush 200, 3) := by decide +kernel
theorem d_GM_costOf_77 : decode b_GM_costOf 77 = .ok (.iload_n 1, 1) := by decide +kernel
theorem d_GM_costOf_78 : decode b_GM_costOf 78 = .ok (.imul, 1) := by decide +kernel
theorem d_GM_costOf_79 : decode b_GM_costOf 79 = .ok (.iload 5, 2) := by decide +kernel
theorem d_GM_costOf_81 : decode b_GM_costOf 81 = .ok (.iadd, 1) := by decide +kernel
theorem d_GM_costOf_82 : decode b_GM_costOf 82 = .ok (.iaload, 1) := by decide +kernel
theorem d_GM_costOf_83 : decode b_GM_costOf 83 = .ok (.aload_n 0, 1) := by decide +kernel
theorem d_GM_costOf_84 : decode b_GM_costOf 84 = .ok (.getfield 19, 3) := by decide +kernel
theorem d_GM_costOf_87 : decode b_GM_costOf 87 = .ok (.iload_n 3, 1) := by decide +kernel
theorem d_GM_costOf_88 : decode b_GM_costOf 88 = .ok (.iaload, 1) := by decide +kernel
theorem d_GM_costOf_89 : decode b_GM_costOf 89 = .ok (.if_icmp .eq 7, 3) := by decide +kernel
theorem d_GM_costOf_92 : decode b_GM_costOf 92 = .ok (.iconst 1, 1) := by decide +kernel
theorem d_GM_costOf_93 : decode b_GM_costOf 93 = .ok (.goto 4, 3) := by decide +kernel
theorem d_GM_costOf_96 : decode b_GM_costOf 96 = .ok (.iconst 0, 1) := by decide +kernel
theorem d_GM_costOf_97 : decode b_GM_costOf 97 = .ok (.istore 4, 2) := by decide +kernel
theorem d_GM_costOf_99 : decode b_GM_costOf 99 = .ok (.iinc 5 1, 3) := by decide +kernel
theorem d_GM_costOf_102 : decode b_GM_costOf 102 = .ok (.goto (-43), 3) := by decide +kernel
theorem d_GM_costOf_105 : decode b_GM_costOf 105 = .ok (.aload_n 0, 1) := by decide +kernel
theorem d_GM_costOf_106 : decode b_GM_costOf 106 = .ok (.getfield 7, 3) := by decide +kernel
theorem d_GM_costOf_109 : decode b_GM_costOf 109 = .ok (.aload_n 0, 1) := by decide +kernel
theorem d_GM_costOf_110 : decode b_GM_costOf 110 = .ok (.getfield 19, 3) := by decide +kernel
theorem d_GM_costOf_113 : decode b_GM_costOf 113 = .ok (.iload_n 3, 1) := by decide +kernel
theorem d_GM_costOf_114 : decode b_GM_costOf 114 = .ok (.iaload, 1) := by decide +kernel
theorem d_GM_costOf_115 : decode b_GM_costOf 115 = .ok (.iaload, 1) := by decide +kernel
theorem d_GM_costOf_116 : decode b_GM_costOf 116 = .ok (.i2l, 1) := by decide +kernel
theorem d_GM_costOf_117 : decode b_GM_costOf 117 = .ok (.bipush 12, 2) := by decide +kernel
theorem d_GM_costOf_119 : decode b_GM_costOf 119 = .ok (.aload_n 0, 1) := by decide +kernel
theorem d_GM_costOf_120 : decode b_GM_costOf 120 = .ok (.getfield 25, 3) := by decide +kernel
theorem d_GM_costOf_123 : decode b_GM_costOf 123 = .ok (.iload_n 3, 1) := by decide +kernel
theorem d_GM_costOf_124 : decode b_GM_costOf 124 = .ok (.iaload, 1) := by decide +kernel
theorem d_GM_costOf_125 : decode b_GM_costOf 125 = .ok (.isub, 1) := by decide +kernel
theorem d_GM_costOf_126 : decode b_GM_costOf 126 = .ok (.i2l, 1) := by decide +kernel
theorem d_GM_costOf_127 : decode b_GM_costOf 127 = .ok (.lmul, 1) := by decide +kernel
theorem d_GM_costOf_128 : decode b_GM_costOf 128 = .ok (.ldc2_w 66, 3) := by decide +kernel
theorem d_GM_costOf_131 : decode b_GM_costOf 131 = .ok (.ldiv, 1) := by decide +kernel
theorem d_GM_costOf_132 : decode b_GM_costOf 132 = .ok (.lstore 5, 2) := by decide +kernel
theorem d_GM_costOf_134 : decode b_GM_costOf 134 = .ok (.iload 4, 2) := by decide +kernel
theorem d_GM_costOf_136 : decode b_GM_costOf 136 = .ok (.ifCond .eq 21, 3) := by decide +kernel
theorem d_GM_costOf_139 : decode b_GM_costOf 139 = .ok (.lload 5, 2) := by decide +kernel
theorem d_GM_costOf_141 : decode b_GM_costOf 141 = .ok (.aload_n 0, 1) := by decide +kernel
theorem d_GM_costOf_142 : decode b_GM_costOf 142 = .ok (.getfield 13, 3) := by decide +kernel
theorem d_GM_costOf_145 : decode b_GM_costOf 145 = .ok (.aload_n 0, 1) := by decide +kernel
theorem d_GM_costOf_146 : decode b_GM_costOf 146 = .ok (.getfield 19, 3) := by decide +kernel
theorem d_GM_costOf_149 : decode b_GM_costOf 149 = .ok (.iload_n 3, 1) := by decide +kernel
theorem d_GM_costOf_150 : decode b_GM_costOf 150 = .ok (.iaload, 1) := by decide +kernel
theorem d_GM_costOf_151 : decode b_GM_costOf 151 = .ok (.iaload, 1) := by decide +kernel
theorem d_GM_costOf_152 : decode b_GM_costOf 152 = .ok (.i2l, 1) := by decide +kernel
theorem d_GM_costOf_153 : decode b_GM_costOf 153 = .ok (.ladd, 1) := by decide +kernel
theorem d_GM_costOf_154 : decode b_GM_costOf 154 = .ok (.goto 5, 3) := by decide +kernel
theorem d_GM_costOf_157 : decode b_GM_costOf 157 = .ok (.lload 5, 2) := by decide +kernel
theorem d_GM_costOf_159 : decode b_GM_costOf 159 = .ok (.lreturn, 1) := by decide +kernel
theorem d_GM_sumOf_0 : decode b_GM_sumOf 0 = .ok (.lconst 0, 1) := by decide +kernel
theorem d_GM_sumOf_1 : decode b_GM_sumOf 1 = .ok (.lstore_n 3, 1) := by decide +kernel
theorem d_GM_sumOf_2 : decode b_GM_sumOf 2 = .ok (.iconst 0, 1) := by decide +kernel
theorem d_GM_sumOf_3 : decode b_GM_sumOf 3 = .ok (.istore 5, 2) := by decide +kernel
theorem d_GM_sumOf_5 : decode b_GM_sumOf 5 = .ok (.iload 5, 2) := by decide +kernel
theorem d_GM_sumOf_7 : decode b_GM_sumOf 7 = .ok (.iload_n 2, 1) := by decide +kernel
theorem d_GM_sumOf_8 : decode b_GM_sumOf 8 = .ok (.if_icmp .ge 30, 3) := by decide +kernel
theorem d_GM_sumOf_11 : decode b_GM_sumOf 11 = .ok (.iload 5, 2) := by decide +kernel
theorem d_GM_sumOf_13 : decode b_GM_sumOf 13 = .ok (.aload_n 0, 1) := by decide +kernel
theorem d_GM_sumOf_14 : decode b_GM_sumOf 14 = .ok (.getfield 16, 3) := by decide +kernel
theorem d_GM_sumOf_17 : decode b_GM_sumOf 17 = .ok (.iload_n 1, 1) := by decide +kernel
theorem d_GM_sumOf_18 : decode b_GM_sumOf 18 = .ok (.iaload, 1) := by decide +kernel
theorem d_GM_sumOf_19 : decode b_GM_sumOf 19 = .ok (.if_icmp .ge 19, 3) := by decide +kernel
theorem d_GM_sumOf_22 : decode b_GM_sumOf 22 = .ok (.lload_n 3, 1) := by decide +kernel
theorem d_GM_sumOf_23 : decode b_GM_sumOf 23 = .ok (.aload_n 0, 1) := by decide +kernel
theorem d_GM_sumOf_24 : decode b_GM_sumOf 24 = .ok (.iload_n 1, 1) := by decide +kernel
theorem d_GM_sumOf_25 : decode b_GM_sumOf 25 = .ok (.iload 5, 2) := by decide +kernel
theorem d_GM_sumOf_27 : decode b_GM_sumOf 27 = .ok (.invokevirtual 68, 3) := by decide +kernel
theorem d_GM_sumOf_30 : decode b_GM_sumOf 30 = .ok (.ladd, 1) := by decide +kernel
theorem d_GM_sumOf_31 : decode b_GM_sumOf 31 = .ok (.lstore_n 3, 1) := by decide +kernel
theorem d_GM_sumOf_32 : decode b_GM_sumOf 32 = .ok (.iinc 5 1, 3) := by decide +kernel
theorem d_GM_sumOf_35 : decode b_GM_sumOf 35 = .ok (.goto (-30), 3) := by decide +kernel
theorem d_GM_sumOf_38 : decode b_GM_sumOf 38 = .ok (.lload_n 3, 1) := by decide +kernel
theorem d_GM_sumOf_39 : decode b_GM_sumOf 39 = .ok (.lreturn, 1) := by decide +kernel
theorem d_GM_all_0 : decode b_GM_all 0 = .ok (.aload_n 0, 1) := by decide +kernel
theorem d_GM_all_1 : decode b_GM_all 1 = .ok (.bipush 10, 2) := by decide +kernel
theorem d_GM_all_3 : decode b_GM_all 3 = .ok (.sipush 200, 3) := by decide +kernel
theorem d_GM_all_6 : decode b_GM_all 6 = .ok (.invokevirtual 72, 3) := by decide +kernel
theorem d_GM_all_9 : decode b_GM_all 9 = .ok (.lreturn, 1) := by decide +kernel
theorem d_GM_cost_0 : decode b_GM_cost 0 = .ok (.aload_n 0, 1) := by decide +kernel
theorem d_GM_cost_1 : decode b_GM_cost 1 = .ok (.iconst 0, 1) := by decide +kernel
theorem d_GM_cost_2 : decode b_GM_cost 2 = .ok (.putfield 45, 3) := by decide +kernel
theorem d_GM_cost_5 : decode b_GM_cost 5 = .ok (.iload_n 1, 1) := by decide +kernel
theorem d_GM_cost_6 : decode b_GM_cost 6 = .ok (.ifCond .lt 11, 3) := by decide +kernel
theorem d_GM_cost_9 : decode b_GM_cost 9 = .ok (.iload_n 1, 1) := by decide +kernel
theorem d_GM_cost_10 : decode b_GM_cost 10 = .ok (.aload_n 0, 1) := by decide +kernel
theorem d_GM_cost_11 : decode b_GM_cost 11 = .ok (.invokevirtual 53, 3) := by decide +kernel
theorem d_GM_cost_14 : decode b_GM_cost 14 = .ok (.if_icmp .lt 9, 3) := by decide +kernel
theorem d_GM_cost_17 : decode b_GM_cost 17 = .ok (.ldc2_w 75, 3) := by decide +kernel
theorem d_GM_cost_20 : decode b_GM_cost 20 = .ok (.goto 10, 3) := by decide +kernel
theorem d_GM_cost_23 : decode b_GM_cost 23 = .ok (.aload_n 0, 1) := by decide +kernel
theorem d_GM_cost_24 : decode b_GM_cost 24 = .ok (.bipush 10, 2) := by decide +kernel
theorem d_GM_cost_26 : decode b_GM_cost 26 = .ok (.iload_n 1, 1) := by decide +kernel
theorem d_GM_cost_27 : decode b_GM_cost 27 = .ok (.invokevirtual 68, 3) := by decide +kernel
theorem d_GM_cost_30 : decode b_GM_cost 30 = .ok (.lreturn, 1) := by decide +kernel
theorem d_GM_sum_0 : decode b_GM_sum 0 = .ok (.aload_n 0, 1) := by decide +kernel
theorem d_GM_sum_1 : decode b_GM_sum 1 = .ok (.iconst 0, 1) := by decide +kernel
theorem d_GM_sum_2 : decode b_GM_sum 2 = .ok (.putfield 45, 3) := by decide +kernel
theorem d_GM_sum_5 : decode b_GM_sum 5 = .ok (.iload_n 1, 1) := by decide +kernel
theorem d_GM_sum_6 : decode b_GM_sum 6 = .ok (.ifCond .ge 9, 3) := by decide +kernel
theorem d_GM_sum_9 : decode b_GM_sum 9 = .ok (.ldc2_w 75, 3) := by decide +kernel
theorem d_GM_sum_12 : decode b_GM_sum 12 = .ok (.goto 10, 3) := by decide +kernel
theorem d_GM_sum_15 : decode b_GM_sum 15 = .ok (.aload_n 0, 1) := by decide +kernel
theorem d_GM_sum_16 : decode b_GM_sum 16 = .ok (.bipush 10, 2) := by decide +kernel
theorem d_GM_sum_18 : decode b_GM_sum 18 = .ok (.iload_n 1, 1) := by decide +kernel
theorem d_GM_sum_19 : decode b_GM_sum 19 = .ok (.invokevirtual 72, 3) := by decide +kernel
theorem d_GM_sum_22 : decode b_GM_sum 22 = .ok (.lreturn, 1) := by decide +kernel
theorem d_GM_cls_0 : decode b_GM_cls 0 = .ok (.aload_n 0, 1) := by decide +kernel
theorem d_GM_cls_1 : decode b_GM_cls 1 = .ok (.iconst 0, 1) := by decide +kernel
theorem d_GM_cls_2 : decode b_GM_cls 2 = .ok (.putfield 45, 3) := by decide +kernel
theorem d_GM_cls_5 : decode b_GM_cls 5 = .ok (.lload_n 1, 1) := by decide +kernel
theorem d_GM_cls_6 : decode b_GM_cls 6 = .ok (.lconst 0, 1) := by decide +kernel
theorem d_GM_cls_7 : decode b_GM_cls 7 = .ok (.lcmp, 1) := by decide +kernel
theorem d_GM_cls_8 : decode b_GM_cls 8 = .ok (.ifCond .lt 26, 3) := by decide +kernel
theorem d_GM_cls_11 : decode b_GM_cls 11 = .ok (.lload_n 3, 1) := by decide +kernel
theorem d_GM_cls_12 : decode b_GM_cls 12 = .ok (.lload_n 1, 1) := by decide +kernel
theorem d_GM_cls_13 : decode b_GM_cls 13 = .ok (.lcmp, 1) := by decide +kernel
theorem d_GM_cls_14 : decode b_GM_cls 14 = .ok (.ifCond .lt 20, 3) := by decide +kernel
theorem d_GM_cls_17 : decode b_GM_cls 17 = .ok (.lload_n 3, 1) := by decide +kernel
theorem d_GM_cls_18 : decode b_GM_cls 18 = .ok (.ldc2_w 77, 3) := by decide +kernel
theorem d_GM_cls_21 : decode b_GM_cls 21 = .ok (.lcmp, 1) := by decide +kernel
theorem d_GM_cls_22 : decode b_GM_cls 22 = .ok (.ifCond .gt 12, 3) := by decide +kernel
theorem d_GM_cls_25 : decode b_GM_cls 25 = .ok (.aload_n 0, 1) := by decide +kernel
theorem d_GM_cls_26 : decode b_GM_cls 26 = .ok (.getfield 79, 3) := by decide +kernel
theorem d_GM_cls_29 : decode b_GM_cls 29 = .ok (.bipush 20, 2) := by decide +kernel
theorem d_GM_cls_31 : decode b_GM_cls 31 = .ok (.if_icmp .ne 5, 3) := by decide +kernel
theorem d_GM_cls_34 : decode b_GM_cls 34 = .ok (.iconst (-1), 1) := by decide +kernel
theorem d_GM_cls_35 : decode b_GM_cls 35 = .ok (.ireturn, 1) := by decide +kernel
theorem d_GM_cls_36 : decode b_GM_cls 36 = .ok (.iconst 0, 1) := by decide +kernel
theorem d_GM_cls_37 : decode b_GM_cls 37 = .ok (.istore 5, 2) := by decide +kernel
theorem d_GM_cls_39 : decode b_GM_cls 39 = .ok (.iload 5, 2) := by decide +kernel
theorem d_GM_cls_41 : decode b_GM_cls 41 = .ok (.aload_n 0, 1) := by decide +kernel
theorem d_GM_cls_42 : decode b_GM_cls 42 = .ok (.getfield 79, 3) := by decide +kernel
theorem d_GM_cls_45 : decode b_GM_cls 45 = .ok (.if_icmp .ge 35, 3) := by decide +kernel
theorem d_GM_cls_48 : decode b_GM_cls 48 = .ok (.lload_n 1, 1) := by decide +kernel
theorem d_GM_cls_49 : decode b_GM_cls 49 = .ok (.aload_n 0, 1) := by decide +kernel
theorem d_GM_cls_50 : decode b_GM_cls 50 = .ok (.getfield 32, 3) := by decide +kernel
theorem d_GM_cls_53 : decode b_GM_cls 53 = .ok (.iload 5, 2) := by decide +kernel
theorem d_GM_cls_55 : decode b_GM_cls 55 = .ok (.laload, 1) := by decide +kernel
theorem d_GM_cls_56 : decode b_GM_cls 56 = .ok (.lcmp, 1) := by decide +kernel
theorem d_GM_cls_57 : decode b_GM_cls 57 = .ok (.ifCond .gt 17, 3) := by decide +kernel
theorem d_GM_cls_60 : decode b_GM_cls 60 = .ok (.lload_n 3, 1) := by decide +kernel
theorem d_GM_cls_61 : decode b_GM_cls 61 = .ok (.aload_n 0, 1) := by decide +kernel
theorem d_GM_cls_62 : decode b_GM_cls 62 = .ok (.getfield 28, 3) := by decide +kernel
theorem d_GM_cls_65 : decode b_GM_cls 65 = .ok (.iload 5, 2) := by decide +kernel
theorem d_GM_cls_67 : decode b_GM_cls 67 = .ok (.laload, 1) := by decide +kernel
theorem d_GM_cls_68 : decode b_GM_cls 68 = .ok (.lcmp, 1) := by decide +kernel
theorem d_GM_cls_69 : decode b_GM_cls 69 = .ok (.ifCond .lt 5, 3) := by decide +kernel
theorem d_GM_cls_72 : decode b_GM_cls 72 = .ok (.iconst (-1), 1) := by decide +kernel
theorem d_GM_cls_73 : decode b_GM_cls 73 = .ok (.ireturn, 1) := by decide +kernel
theorem d_GM_cls_74 : decode b_GM_cls 74 = .ok (.iinc 5 1, 3) := by decide +kernel
theorem d_GM_cls_77 : decode b_GM_cls 77 = .ok (.goto (-38), 3) := by decide +kernel
theorem d_GM_cls_80 : decode b_GM_cls 80 = .ok (.aload_n 0, 1) := by decide +kernel
theorem d_GM_cls_81 : decode b_GM_cls 81 = .ok (.getfield 28, 3) := by decide +kernel
theorem d_GM_cls_84 : decode b_GM_cls 84 = .ok (.aload_n 0, 1) := by decide +kernel
theorem d_GM_cls_85 : decode b_GM_cls 85 = .ok (.getfield 79, 3) := by decide +kernel
theorem d_GM_cls_88 : decode b_GM_cls 88 = .ok (.lload_n 1, 1) := by decide +kernel
theorem d_GM_cls_89 : decode b_GM_cls 89 = .ok (.lastore, 1) := by decide +kernel
theorem d_GM_cls_90 : decode b_GM_cls 90 = .ok (.aload_n 0, 1) := by decide +kernel
theorem d_GM_cls_91 : decode b_GM_cls 91 = .ok (.getfield 32, 3) := by decide +kernel
theorem d_GM_cls_94 : decode b_GM_cls 94 = .ok (.aload_n 0, 1) := by decide +kernel
theorem d_GM_cls_95 : decode b_GM_cls 95 = .ok (.getfield 79, 3) := by decide +kernel
theorem d_GM_cls_98 : decode b_GM_cls 98 = .ok (.lload_n 3, 1) := by decide +kernel
theorem d_GM_cls_99 : decode b_GM_cls 99 = .ok (.lastore, 1) := by decide +kernel
theorem d_GM_cls_100 : decode b_GM_cls 100 = .ok (.aload_n 0, 1) := by decide +kernel
theorem d_GM_cls_101 : decode b_GM_cls 101 = .ok (.dup, 1) := by decide +kernel
theorem d_GM_cls_102 : decode b_GM_cls 102 = .ok (.getfield 79, 3) := by decide +kernel
theorem d_GM_cls_105 : decode b_GM_cls 105 = .ok (.iconst 1, 1) := by decide +kernel
theorem d_GM_cls_106 : decode b_GM_cls 106 = .ok (.iadd, 1) := by decide +kernel
theorem d_GM_cls_107 : decode b_GM_cls 107 = .ok (.putfield 79, 3) := by decide +kernel
theorem d_GM_cls_110 : decode b_GM_cls 110 = .ok (.aload_n 0, 1) := by decide +kernel
theorem d_GM_cls_111 : decode b_GM_cls 111 = .ok (.getfield 79, 3) := by decide +kernel
theorem d_GM_cls_114 : decode b_GM_cls 114 = .ok (.iconst 1, 1) := by decide +kernel
theorem d_GM_cls_115 : decode b_GM_cls 115 = .ok (.isub, 1) := by decide +kernel
theorem d_GM_cls_116 : decode b_GM_cls 116 = .ok (.ireturn, 1) := by decide +kernel
theorem d_GM_classOf_0 : decode b_GM_classOf 0 = .ok (.iconst 0, 1) := by decide +kernel
theorem d_GM_classOf_1 : decode b_GM_classOf 1 = .ok (.istore_n 3, 1) := by decide +kernel
theorem d_GM_classOf_2 : decode b_GM_classOf 2 = .ok (.iload_n 3, 1) := by decide +kernel
theorem d_GM_classOf_3 : decode b_GM_classOf 3 = .ok (.aload_n 0, 1) := by decide +kernel
theorem d_GM_classOf_4 : decode b_GM_classOf 4 = .ok (.getfield 79, 3) := by decide +kernel
theorem d_GM_classOf_7 : decode b_GM_classOf 7 = .ok (.if_icmp .ge 33, 3) := by decide +kernel
theorem d_GM_classOf_10 : decode b_GM_classOf 10 = .ok (.lload_n 1, 1) := by decide +kernel
theorem d_GM_classOf_11 : decode b_GM_classOf 11 = .ok (.aload_n 0, 1) := by decide +kernel
theorem d_GM_classOf_12 : decode b_GM_classOf 12 = .ok (.getfield 28, 3) := by decide +kernel
theorem d_GM_classOf_15 : decode b_GM_classOf 15 = .ok (.iload_n 3, 1) := by decide +kernel
theorem d_GM_classOf_16 : decode b_GM_classOf 16 = .ok (.laload, 1) := by decide +kernel
theorem d_GM_classOf_17 : decode b_GM_classOf 17 = .ok (.lcmp, 1) := by decide +kernel
theorem d_GM_classOf_18 : decode b_GM_classOf 18 = .ok (.ifCond .lt 16, 3) := by decide +kernel
theorem d_GM_classOf_21 : decode b_GM_classOf 21 = .ok (.lload_n 1, 1) := by decide +kernel
theorem d_GM_classOf_22 : decode b_GM_classOf 22 = .ok (.aload_n 0, 1) := by decide +kernel
theorem d_GM_classOf_23 : decode b_GM_classOf 23 = .ok (.getfield 32, 3) := by decide +kernel
theorem d_GM_classOf_26 : decode b_GM_classOf 26 = .ok (.iload_n 3, 1) := by decide +kernel
theorem d_GM_classOf_27 : decode b_GM_classOf 27 = .ok (.laload, 1) := by decide +kernel
theorem d_GM_classOf_28 : decode b_GM_classOf 28 = .ok (.lcmp, 1) := by decide +kernel
theorem d_GM_classOf_29 : decode b_GM_classOf 29 = .ok (.ifCond .gt 5, 3) := by decide +kernel
theorem d_GM_classOf_32 : decode b_GM_classOf 32 = .ok (.iload_n 3, 1) := by decide +kernel
theorem d_GM_classOf_33 : decode b_GM_classOf 33 = .ok (.ireturn, 1) := by decide +kernel
theorem d_GM_classOf_34 : decode b_GM_classOf 34 = .ok (.iinc 3 1, 3) := by decide +kernel
theorem d_GM_classOf_37 : decode b_GM_classOf 37 = .ok (.goto (-35), 3) := by decide +kernel
theorem d_GM_classOf_40 : decode b_GM_classOf 40 = .ok (.iconst (-1), 1) := by decide +kernel
theorem d_GM_classOf_41 : decode b_GM_classOf 41 = .ok (.ireturn, 1) := by decide +kernel
theorem d_GM_grade_0 : decode b_GM_grade 0 = .ok (.aload_n 0, 1) := by decide +kernel
theorem d_GM_grade_1 : decode b_GM_grade 1 = .ok (.iconst 0, 1) := by decide +kernel
theorem d_GM_grade_2 : decode b_GM_grade 2 = .ok (.putfield 45, 3) := by decide +kernel
theorem d_GM_grade_5 : decode b_GM_grade 5 = .ok (.aload_n 0, 1) := by decide +kernel
theorem d_GM_grade_6 : decode b_GM_grade 6 = .ok (.aload_n 0, 1) := by decide +kernel
theorem d_GM_grade_7 : decode b_GM_grade 7 = .ok (.invokevirtual 82, 3) := by decide +kernel
theorem d_GM_grade_10 : decode b_GM_grade 10 = .ok (.invokevirtual 86, 3) := by decide +kernel
theorem d_GM_grade_13 : decode b_GM_grade 13 = .ok (.ireturn, 1) := by decide +kernel
theorem d_GM_rank_0 : decode b_GM_rank 0 = .ok (.aload_n 0, 1) := by decide +kernel
theorem d_GM_rank_1 : decode b_GM_rank 1 = .ok (.iconst 0, 1) := by decide +kernel
theorem d_GM_rank_2 : decode b_GM_rank 2 = .ok (.putfield 45, 3) := by decide +kernel
theorem d_GM_rank_5 : decode b_GM_rank 5 = .ok (.aload_n 0, 1) := by decide +kernel
theorem d_GM_rank_6 : decode b_GM_rank 6 = .ok (.invokevirtual 82, 3) := by decide +kernel
theorem d_GM_rank_9 : decode b_GM_rank 9 = .ok (.lstore_n 1, 1) := by decide +kernel
theorem d_GM_rank_10 : decode b_GM_rank 10 = .ok (.aload_n 0, 1) := by decide +kernel
theorem d_GM_rank_11 : decode b_GM_rank 11 = .ok (.lload_n 1, 1) := by decide +kernel
theorem d_GM_rank_12 : decode b_GM_rank 12 = .ok (.invokevirtual 86, 3) := by decide +kernel
theorem d_GM_rank_15 : decode b_GM_rank 15 = .ok (.ifCond .ge 5, 3) := by decide +kernel
theorem d_GM_rank_18 : decode b_GM_rank 18 = .ok (.iconst (-1), 1) := by decide +kernel
theorem d_GM_rank_19 : decode b_GM_rank 19 = .ok (.ireturn, 1) := by decide +kernel
theorem d_GM_rank_20 : decode b_GM_rank 20 = .ok (.iconst 0, 1) := by decide +kernel
theorem d_GM_rank_21 : decode b_GM_rank 21 = .ok (.istore_n 3, 1) := by decide +kernel
theorem d_GM_rank_22 : decode b_GM_rank 22 = .ok (.iconst 0, 1) := by decide +kernel
theorem d_GM_rank_23 : decode b_GM_rank 23 = .ok (.istore 4, 2) := by decide +kernel
theorem d_GM_rank_25 : decode b_GM_rank 25 = .ok (.iload 4, 2) := by decide +kernel
theorem d_GM_rank_27 : decode b_GM_rank 27 = .ok (.aload_n 0, 1) := by decide +kernel
theorem d_GM_rank_28 : decode b_GM_rank 28 = .ok (.getfield 79, 3) := by decide +kernel
theorem d_GM_rank_31 : decode b_GM_rank 31 = .ok (.if_icmp .ge 29, 3) := by decide +kernel
theorem d_GM_rank_34 : decode b_GM_rank 34 = .ok (.iload_n 3, 1) := by decide +kernel
theorem d_GM_rank_35 : decode b_GM_rank 35 = .ok (.aload_n 0, 1) := by decide +kernel
theorem d_GM_rank_36 : decode b_GM_rank 36 = .ok (.getfield 32, 3) := by decide +kernel
theorem d_GM_rank_39 : decode b_GM_rank 39 = .ok (.iload 4, 2) := by decide +kernel
theorem d_GM_rank_41 : decode b_GM_rank 41 = .ok (.laload, 1) := by decide +kernel
theorem d_GM_rank_42 : decode b_GM_rank 42 = .ok (.lload_n 1, 1) := by decide +kernel
theorem d_GM_rank_43 : decode b_GM_rank 43 = .ok (.lcmp, 1) := by decide +kernel
theorem d_GM_rank_44 : decode b_GM_rank 44 = .ok (.ifCond .ge 7, 3) := by decide +kernel
theorem d_GM_rank_47 : decode b_GM_rank 47 = .ok (.iconst 1, 1) := by decide +kernel
theorem d_GM_rank_48 : decode b_GM_rank 48 = .ok (.goto 4, 3) := by decide +kernel
theorem d_GM_rank_51 : decode b_GM_rank 51 = .ok (.iconst 0, 1) := by decide +kernel
theorem d_GM_rank_52 : decode b_GM_rank 52 = .ok (.iadd, 1) := by decide +kernel
theorem d_GM_rank_53 : decode b_GM_rank 53 = .ok (.istore_n 3, 1) := by decide +kernel
theorem d_GM_rank_54 : decode b_GM_rank 54 = .ok (.iinc 4 1, 3) := by decide +kernel
theorem d_GM_rank_57 : decode b_GM_rank 57 = .ok (.goto (-32), 3) := by decide +kernel
theorem d_GM_rank_60 : decode b_GM_rank 60 = .ok (.iload_n 3, 1) := by decide +kernel
theorem d_GM_rank_61 : decode b_GM_rank 61 = .ok (.ireturn, 1) := by decide +kernel
theorem d_GM_gap_0 : decode b_GM_gap 0 = .ok (.aload_n 0, 1) := by decide +kernel
theorem d_GM_gap_1 : decode b_GM_gap 1 = .ok (.iconst 0, 1) := by decide +kernel
theorem d_GM_gap_2 : decode b_GM_gap 2 = .ok (.putfield 45, 3) := by decide +kernel
theorem d_GM_gap_5 : decode b_GM_gap 5 = .ok (.lload_n 1, 1) := by decide +kernel
theorem d_GM_gap_6 : decode b_GM_gap 6 = .ok (.lconst 0, 1) := by decide +kernel
theorem d_GM_gap_7 : decode b_GM_gap 7 = .ok (.lcmp, 1) := by decide +kernel
theorem d_GM_gap_8 : decode b_GM_gap 8 = .ok (.ifCond .ge 7, 3) := by decide +kernel
theorem d_GM_gap_11 : decode b_GM_gap 11 = .ok (.ldc2_w 75, 3) := by decide +kernel
theorem d_GM_gap_14 : decode b_GM_gap 14 = .ok (.lreturn, 1) := by decide +kernel
theorem d_GM_gap_15 : decode b_GM_gap 15 = .ok (.lload_n 1, 1) := by decide +kernel
theorem d_GM_gap_16 : decode b_GM_gap 16 = .ok (.lstore_n 3, 1) := by decide +kernel
theorem d_GM_gap_17 : decode b_GM_gap 17 = .ok (.aload_n 0, 1) := by decide +kernel
theorem d_GM_gap_18 : decode b_GM_gap 18 = .ok (.lload_n 3, 1) := by decide +kernel
theorem d_GM_gap_19 : decode b_GM_gap 19 = .ok (.invokevirtual 86, 3) := by decide +kernel
theorem d_GM_gap_22 : decode b_GM_gap 22 = .ok (.ifCond .lt 19, 3) := by decide +kernel
theorem d_GM_gap_25 : decode b_GM_gap 25 = .ok (.aload_n 0, 1) := by decide +kernel
theorem d_GM_gap_26 : decode b_GM_gap 26 = .ok (.getfield 32, 3) := by decide +kernel
theorem d_GM_gap_29 : decode b_GM_gap 29 = .ok (.aload_n 0, 1) := by decide +kernel
theorem d_GM_gap_30 : decode b_GM_gap 30 = .ok (.lload_n 3, 1) := by decide +kernel
theorem d_GM_gap_31 : decode b_GM_gap 31 = .ok (.invokevirtual 86, 3) := by decide +kernel
theorem d_GM_gap_34 : decode b_GM_gap 34 = .ok (.laload, 1) := by decide +kernel
theorem d_GM_gap_35 : decode b_GM_gap 35 = .ok (.lconst 1, 1) := by decide +kernel
theorem d_GM_gap_36 : decode b_GM_gap 36 = .ok (.ladd, 1) := by decide +kernel
theorem d_GM_gap_37 : decode b_GM_gap 37 = .ok (.lstore_n 3, 1) := by decide +kernel
theorem d_GM_gap_38 : decode b_GM_gap 38 = .ok (.goto (-21), 3) := by decide +kernel
theorem d_GM_gap_41 : decode b_GM_gap 41 = .ok (.lload_n 3, 1) := by decide +kernel
theorem d_GM_gap_42 : decode b_GM_gap 42 = .ok (.lreturn, 1) := by decide +kernel
theorem d_GM_stuck_0 : decode b_GM_stuck 0 = .ok (.aload_n 0, 1) := by decide +kernel
theorem d_GM_stuck_1 : decode b_GM_stuck 1 = .ok (.iconst 0, 1) := by decide +kernel
theorem d_GM_stuck_2 : decode b_GM_stuck 2 = .ok (.putfield 45, 3) := by decide +kernel
theorem d_GM_stuck_5 : decode b_GM_stuck 5 = .ok (.iconst 0, 1) := by decide +kernel
theorem d_GM_stuck_6 : decode b_GM_stuck 6 = .ok (.istore_n 2, 1) := by decide +kernel
theorem d_GM_stuck_7 : decode b_GM_stuck 7 = .ok (.iload_n 2, 1) := by decide +kernel
theorem d_GM_stuck_8 : decode b_GM_stuck 8 = .ok (.sipush 256, 3) := by decide +kernel
theorem d_GM_stuck_11 : decode b_GM_stuck 11 = .ok (.if_icmp .ge 16, 3) := by decide +kernel
theorem d_GM_stuck_14 : decode b_GM_stuck 14 = .ok (.aload_n 0, 1) := by decide +kernel
theorem d_GM_stuck_15 : decode b_GM_stuck 15 = .ok (.getfield 35, 3) := by decide +kernel
theorem d_GM_stuck_18 : decode b_GM_stuck 18 = .ok (.iload_n 2, 1) := by decide +kernel
theorem d_GM_stuck_19 : decode b_GM_stuck 19 = .ok (.iconst 0, 1) := by decide +kernel
theorem d_GM_stuck_20 : decode b_GM_stuck 20 = .ok (.bastore, 1) := by decide +kernel
theorem d_GM_stuck_21 : decode b_GM_stuck 21 = .ok (.iinc 2 1, 3) := by decide +kernel
theorem d_GM_stuck_24 : decode b_GM_stuck 24 = .ok (.goto (-17), 3) := by decide +kernel
theorem d_GM_stuck_27 : decode b_GM_stuck 27 = .ok (.iconst 0, 1) := by decide +kernel
theorem d_GM_stuck_28 : decode b_GM_stuck 28 = .ok (.istore_n 2, 1) := by decide +kernel
theorem d_GM_stuck_29 : decode b_GM_stuck 29 = .ok (.iconst 0, 1) := by decide +kernel
theorem d_GM_stuck_30 : decode b_GM_stuck 30 = .ok (.istore_n 3, 1) := by decide +kernel
theorem d_GM_stuck_31 : decode b_GM_stuck 31 = .ok (.iload_n 3, 1) := by decide +kernel
theorem d_GM_stuck_32 : decode b_GM_stuck 32 = .ok (.aload_n 0, 1) := by decide +kernel
theorem d_GM_stuck_33 : decode b_GM_stuck 33 = .ok (.invokevirtual 53, 3) := by decide +kernel
theorem d_GM_stuck_36 : decode b_GM_stuck 36 = .ok (.if_icmp .ge 85, 3) := by decide +kernel
theorem d_GM_stuck_39 : decode b_GM_stuck 39 = .ok (.sipush 2000, 3) := by decide +kernel
theorem d_GM_stuck_42 : decode b_GM_stuck 42 = .ok (.iload_n 3, 1) := by decide +kernel
theorem d_GM_stuck_43 : decode b_GM_stuck 43 = .ok (.iadd, 1) := by decide +kernel
theorem d_GM_stuck_44 : decode b_GM_stuck 44 = .ok (.istore 4, 2) := by decide +kernel
theorem d_GM_stuck_46 : decode b_GM_stuck 46 = .ok (.aload_n 0, 1) := by decide +kernel
theorem d_GM_stuck_47 : decode b_GM_stuck 47 = .ok (.getfield 19, 3) := by decide +kernel
theorem d_GM_stuck_50 : decode b_GM_stuck 50 = .ok (.iload 4, 2) := by decide +kernel
theorem d_GM_stuck_52 : decode b_GM_stuck 52 = .ok (.iaload, 1) := by decide +kernel
theorem d_GM_stuck_53 : decode b_GM_stuck 53 = .ok (.iconst (-1), 1) := by decide +kernel
theorem d_GM_stuck_54 : decode b_GM_stuck 54 = .ok (.if_icmp .eq 61, 3) := by decide +kernel
theorem d_GM_stuck_57 : decode b_GM_stuck 57 = .ok (.aload_n 0, 1) := by decide +kernel
theorem d_GM_stuck_58 : decode b_GM_stuck 58 = .ok (.getfield 25, 3) := by decide +kernel
theorem d_GM_stuck_61 : decode b_GM_stuck 61 = .ok (.iload 4, 2) := by decide +kernel
theorem d_GM_stuck_63 : decode b_GM_stuck 63 = .ok (.iaload, 1) := by decide +kernel
theorem d_GM_stuck_64 : decode b_GM_stuck 64 = .ok (.iconst 1, 1) := by decide +kernel
theorem d_GM_stuck_65 : decode b_GM_stuck 65 = .ok (.if_icmp .ne 50, 3) := by decide +kernel
theorem d_GM_stuck_68 : decode b_GM_stuck 68 = .ok (.aload_n 0, 1) := by decide +kernel
theorem d_GM_stuck_69 : decode b_GM_stuck 69 = .ok (.getfield 35, 3) := by decide +kernel
theorem d_GM_stuck_72 : decode b_GM_stuck 72 = .ok (.aload_n 0, 1) := by decide +kernel
theorem d_GM_stuck_73 : decode b_GM_stuck 73 = .ok (.getfield 22, 3) := by decide +kernel
theorem d_GM_stuck_76 : decode b_GM_stuck 76 = .ok (.iload 4, 2) := by decide +kernel
theorem d_GM_stuck_78 : decode b_GM_stuck 78 = .ok (.iaload, 1) := by decide +kernel
theorem d_GM_stuck_79 : decode b_GM_stuck 79 = .ok (.baload, 1) := by decide +kernel
theorem d_GM_stuck_80 : decode b_GM_stuck 80 = .ok (.ifCond .eq 6, 3) := by decide +kernel
theorem d_GM_stuck_83 : decode b_GM_stuck 83 = .ok (.goto 32, 3) := by decide +kernel
theorem d_GM_stuck_86 : decode b_GM_stuck 86 = .ok (.aload_n 0, 1) := by decide +kernel
theorem d_GM_stuck_87 : decode b_GM_stuck 87 = .ok (.getfield 35, 3) := by decide +kernel
theorem d_GM_stuck_90 : decode b_GM_stuck 90 = .ok (.aload_n 0, 1) := by decide +kernel
theorem d_GM_stuck_91 : decode b_GM_stuck 91 = .ok (.getfield 22, 3) := by decide +kernel
theorem d_GM_stuck_94 : decode b_GM_stuck 94 = .ok (.iload 4, 2) := by decide +kernel
theorem d_GM_stuck_96 : decode b_GM_stuck 96 = .ok (.iaload, 1) := by decide +kernel
theorem d_GM_stuck_97 : decode b_GM_stuck 97 = .ok (.iconst 1, 1) := by decide +kernel
theorem d_GM_stuck_98 : decode b_GM_stuck 98 = .ok (.bastore, 1) := by decide +kernel
theorem d_GM_stuck_99 : decode b_GM_stuck 99 = .ok (.iload_n 2, 1) := by decide +kernel
theorem d_GM_stuck_100 : decode b_GM_stuck 100 = .ok (.iload_n 1, 1) := by decide +kernel
theorem d_GM_stuck_101 : decode b_GM_stuck 101 = .ok (.if_icmp .ne 11, 3) := by decide +kernel
theorem d_GM_stuck_104 : decode b_GM_stuck 104 = .ok (.aload_n 0, 1) := by decide +kernel
theorem d_GM_stuck_105 : decode b_GM_stuck 105 = .ok (.getfield 22, 3) := by decide +kernel
theorem d_GM_stuck_108 : decode b_GM_stuck 108 = .ok (.iload 4, 2) := by decide +kernel
theorem d_GM_stuck_110 : decode b_GM_stuck 110 = .ok (.iaload, 1) := by decide +kernel
theorem d_GM_stuck_111 : decode b_GM_stuck 111 = .ok (.ireturn, 1) := by decide +kernel
theorem d_GM_stuck_112 : decode b_GM_stuck 112 = .ok (.iinc 2 1, 3) := by decide +kernel
theorem d_GM_stuck_115 : decode b_GM_stuck 115 = .ok (.iinc 3 1, 3) := by decide +kernel
theorem d_GM_stuck_118 : decode b_GM_stuck 118 = .ok (.goto (-87), 3) := by decide +kernel
theorem d_GM_stuck_121 : decode b_GM_stuck 121 = .ok (.iconst (-1), 1) := by decide +kernel
theorem d_GM_stuck_122 : decode b_GM_stuck 122 = .ok (.ireturn, 1) := by decide +kernel
theorem d_GM_run_0 : decode b_GM_run 0 = .ok (.aload_n 0, 1) := by decide +kernel
theorem d_GM_run_1 : decode b_GM_run 1 = .ok (.iconst 0, 1) := by decide +kernel
theorem d_GM_run_2 : decode b_GM_run 2 = .ok (.putfield 45, 3) := by decide +kernel
theorem d_GM_run_5 : decode b_GM_run 5 = .ok (.iconst 0, 1) := by decide +kernel
theorem d_GM_run_6 : decode b_GM_run 6 = .ok (.istore_n 1, 1) := by decide +kernel
theorem d_GM_run_7 : decode b_GM_run 7 = .ok (.iconst 0, 1) := by decide +kernel
theorem d_GM_run_8 : decode b_GM_run 8 = .ok (.istore_n 2, 1) := by decide +kernel
theorem d_GM_run_9 : decode b_GM_run 9 = .ok (.iconst 0, 1) := by decide +kernel
theorem d_GM_run_10 : decode b_GM_run 10 = .ok (.istore_n 3, 1) := by decide +kernel
theorem d_GM_run_11 : decode b_GM_run 11 = .ok (.iload_n 3, 1) := by decide +kernel
theorem d_GM_run_12 : decode b_GM_run 12 = .ok (.aload_n 0, 1) := by decide +kernel
theorem d_GM_run_13 : decode b_GM_run 13 = .ok (.invokevirtual 53, 3) := by decide +kernel
theorem d_GM_run_16 : decode b_GM_run 16 = .ok (.if_icmp .ge 52, 3) := by decide +kernel
theorem d_GM_run_19 : decode b_GM_run 19 = .ok (.iload_n 3, 1) := by decide +kernel
theorem d_GM_run_20 : decode b_GM_run 20 = .ok (.ifCond .le 29, 3) := by decide +kernel
theorem d_GM_run_23 : decode b_GM_run 23 = .ok (.aload_n 0, 1) := by decide +kernel
theorem d_GM_run_24 : decode b_GM_run 24 = .ok (.bipush 10, 2) := by decide +kernel
theorem d_GM_run_26 : decode b_GM_run 26 = .ok (.iload_n 3, 1) := by decide +kernel
theorem d_GM_run_27 : decode b_GM_run 27 = .ok (.invokevirtual 68, 3) := by decide +kernel
theorem d_GM_run_30 : decode b_GM_run 30 = .ok (.aload_n 0, 1) := by decide +kernel
theorem d_GM_run_31 : decode b_GM_run 31 = .ok (.bipush 10, 2) := by decide +kernel
theorem d_GM_run_33 : decode b_GM_run 33 = .ok (.iload_n 3, 1) := by decide +kernel
theorem d_GM_run_34 : decode b_GM_run 34 = .ok (.iconst 1, 1) := by decide +kernel
theorem d_GM_run_35 : decode b_GM_run 35 = .ok (.isub, 1) := by decide +kernel
theorem d_GM_run_36 : decode b_GM_run 36 = .ok (.invokevirtual 68, 3) := by decide +kernel
theorem d_GM_run_39 : decode b_GM_run 39 = .ok (.lcmp, 1) := by decide +kernel
theorem d_GM_run_40 : decode b_GM_run 40 = .ok (.ifCond .lt 9, 3) := by decide +kernel
theorem d_GM_run_43 : decode b_GM_run 43 = .ok (.iload_n 2, 1) := by decide +kernel
theorem d_GM_run_44 : decode b_GM_run 44 = .ok (.iconst 1, 1) := by decide +kernel
theorem d_GM_run_45 : decode b_GM_run 45 = .ok (.iadd, 1) := by decide +kernel
theorem d_GM_run_46 : decode b_GM_run 46 = .ok (.goto 4, 3) := by decide +kernel
theorem d_GM_run_49 : decode b_GM_run 49 = .ok (.iconst 1, 1) := by decide +kernel
theorem d_GM_run_50 : decode b_GM_run 50 = .ok (.istore_n 2, 1) := by decide +kernel
theorem d_GM_run_51 : decode b_GM_run 51 = .ok (.iload_n 2, 1) := by decide +kernel
theorem d_GM_run_52 : decode b_GM_run 52 = .ok (.iload_n 1, 1) := by decide +kernel
theorem d_GM_run_53 : decode b_GM_run 53 = .ok (.if_icmp .le 7, 3) := by decide +kernel
theorem d_GM_run_56 : decode b_GM_run 56 = .ok (.iload_n 2, 1) := by decide +kernel
theorem d_GM_run_57 : decode b_GM_run 57 = .ok (.goto 4, 3) := by decide +kernel
theorem d_GM_run_60 : decode b_GM_run 60 = .ok (.iload_n 1, 1) := by decide +kernel
theorem d_GM_run_61 : decode b_GM_run 61 = .ok (.istore_n 1, 1) := by decide +kernel
theorem d_GM_run_62 : decode b_GM_run 62 = .ok (.iinc 3 1, 3) := by decide +kernel
theorem d_GM_run_65 : decode b_GM_run 65 = .ok (.goto (-54), 3) := by decide +kernel
theorem d_GM_run_68 : decode b_GM_run 68 = .ok (.iload_n 1, 1) := by decide +kernel
theorem d_GM_run_69 : decode b_GM_run 69 = .ok (.ireturn, 1) := by decide +kernel
theorem d_GM_hardest_0 : decode b_GM_hardest 0 = .ok (.aload_n 0, 1) := by decide +kernel
theorem d_GM_hardest_1 : decode b_GM_hardest 1 = .ok (.iconst 0, 1) := by decide +kernel
theorem d_GM_hardest_2 : decode b_GM_hardest 2 = .ok (.putfield 45, 3) := by decide +kernel
theorem d_GM_hardest_5 : decode b_GM_hardest 5 = .ok (.iconst (-1), 1) := by decide +kernel
theorem d_GM_hardest_6 : decode b_GM_hardest 6 = .ok (.istore_n 1, 1) := by decide +kernel
theorem d_GM_hardest_7 : decode b_GM_hardest 7 = .ok (.ldc2_w 75, 3) := by decide +kernel
theorem d_GM_hardest_10 : decode b_GM_hardest 10 = .ok (.lstore_n 2, 1) := by decide +kernel
theorem d_GM_hardest_11 : decode b_GM_hardest 11 = .ok (.iconst 0, 1) := by decide +kernel
theorem d_GM_hardest_12 : decode b_GM_hardest 12 = .ok (.istore 4, 2) := by decide +kernel
theorem d_GM_hardest_14 : decode b_GM_hardest 14 = .ok (.iload 4, 2) := by decide +kernel
theorem d_GM_hardest_16 : decode b_GM_hardest 16 = .ok (.aload_n 0, 1) := by decide +kernel
theorem d_GM_hardest_17 : decode b_GM_hardest 17 = .ok (.getfield 50, 3) := by decide +kernel
theorem d_GM_hardest_20 : decode b_GM_hardest 20 = .ok (.if_icmp .ge 91, 3) := by decide +kernel
theorem d_GM_hardest_23 : decode b_GM_hardest 23 = .ok (.ldc2_w 75, 3) := by decide +kernel
theorem d_GM_hardest_26 : decode b_GM_hardest 26 = .ok (.lstore 5, 2) := by decide +kernel
theorem d_GM_hardest_28 : decode b_GM_hardest 28 = .ok (.iconst 0, 1) := by decide +kernel
theorem d_GM_hardest_29 : decode b_GM_hardest 29 = .ok (.istore 7, 2) := by decide +kernel
theorem d_GM_hardest_31 : decode b_GM_hardest 31 = .ok (.iload 7, 2) := by decide +kernel
theorem d_GM_hardest_33 : decode b_GM_hardest 33 = .ok (.aload_n 0, 1) := by decide +kernel
theorem d_GM_hardest_34 : decode b_GM_hardest 34 = .ok (.invokevirtual 53, 3) := by decide +kernel
theorem d_GM_hardest_37 : decode b_GM_hardest 37 = .ok (.if_icmp .ge 52, 3) := by decide +kernel
theorem d_GM_hardest_40 : decode b_GM_hardest 40 = .ok (.aload_n 0, 1) := by decide +kernel
theorem d_GM_hardest_41 : decode b_GM_hardest 41 = .ok (.getfield 19, 3) := by decide +kernel
theorem d_GM_hardest_44 : decode b_GM_hardest 44 = .ok (.sipush 2000, 3) := by decide +kernel
theorem d_GM_hardest_47 : decode b_GM_hardest 47 = .ok (.iload 7, 2) := by decide +kernel
theorem d_GM_hardest_49 : decode b_GM_hardest 49 = .ok (.iadd, 1) := by decide +kernel
theorem d_GM_hardest_50 : decode b_GM_hardest 50 = .ok (.iaload, 1) := by decide +kernel
theorem d_GM_hardest_51 : decode b_GM_hardest 51 = .ok (.iload 4, 2) := by decide +kernel
theorem d_GM_hardest_53 : decode b_GM_hardest 53 = .ok (.if_icmp .eq 6, 3) := by decide +kernel
theorem d_GM_hardest_56 : decode b_GM_hardest 56 = .ok (.goto 27, 3) := by decide +kernel
theorem d_GM_hardest_59 : decode b_GM_hardest 59 = .ok (.lload 5, 2) := by decide +kernel
theorem d_GM_hardest_61 : decode b_GM_hardest 61 = .ok (.lconst 0, 1) := by decide +kernel
theorem d_GM_hardest_62 : decode b_GM_hardest 62 = .ok (.lcmp, 1) := by decide +kernel
theorem d_GM_hardest_63 : decode b_GM_hardest 63 = .ok (.ifCond .ge 7, 3) := by decide +kernel
theorem d_GM_hardest_66 : decode b_GM_hardest 66 = .ok (.lconst 0, 1) := by decide +kernel
theorem d_GM_hardest_67 : decode b_GM_hardest 67 = .ok (.goto 5, 3) := by decide +kernel
theorem d_GM_hardest_70 : decode b_GM_hardest 70 = .ok (.lload 5, 2) := by decide +kernel
theorem d_GM_hardest_72 : decode b_GM_hardest 72 = .ok (.aload_n 0, 1) := by decide +kernel
theorem d_GM_hardest_73 : decode b_GM_hardest 73 = .ok (.bipush 10, 2) := by decide +kernel
theorem d_GM_hardest_75 : decode b_GM_hardest 75 = .ok (.iload 7, 2) := by decide +kernel
theorem d_GM_hardest_77 : decode b_GM_hardest 77 = .ok (.invokevirtual 68, 3) := by decide +kernel
theorem d_GM_hardest_80 : decode b_GM_hardest 80 = .ok (.ladd, 1) := by decide +kernel
theorem d_GM_hardest_81 : decode b_GM_hardest 81 = .ok (.lstore 5, 2) := by decide +kernel
theorem d_GM_hardest_83 : decode b_GM_hardest 83 = .ok (.iinc 7 1, 3) := by decide +kernel
theorem d_GM_hardest_86 : decode b_GM_hardest 86 = .ok (.goto (-55), 3) := by decide +kernel
theorem d_GM_hardest_89 : decode b_GM_hardest 89 = .ok (.lload 5, 2) := by decide +kernel
theorem d_GM_hardest_91 : decode b_GM_hardest 91 = .ok (.lload_n 2, 1) := by decide +kernel
theorem d_GM_hardest_92 : decode b_GM_hardest 92 = .ok (.lcmp, 1) := by decide +kernel
theorem d_GM_hardest_93 : decode b_GM_hardest 93 = .ok (.ifCond .gt 6, 3) := by decide +kernel
theorem d_GM_hardest_96 : decode b_GM_hardest 96 = .ok (.goto 9, 3) := by decide +kernel
theorem d_GM_hardest_99 : decode b_GM_hardest 99 = .ok (.lload 5, 2) := by decide +kernel
theorem d_GM_hardest_101 : decode b_GM_hardest 101 = .ok (.lstore_n 2, 1) := by decide +kernel
theorem d_GM_hardest_102 : decode b_GM_hardest 102 = .ok (.iload 4, 2) := by decide +kernel
theorem d_GM_hardest_104 : decode b_GM_hardest 104 = .ok (.istore_n 1, 1) := by decide +kernel
theorem d_GM_hardest_105 : decode b_GM_hardest 105 = .ok (.iinc 4 1, 3) := by decide +kernel
theorem d_GM_hardest_108 : decode b_GM_hardest 108 = .ok (.goto (-94), 3) := by decide +kernel
theorem d_GM_hardest_111 : decode b_GM_hardest 111 = .ok (.iload_n 1, 1) := by decide +kernel
theorem d_GM_hardest_112 : decode b_GM_hardest 112 = .ok (.ireturn, 1) := by decide +kernel
theorem d_GM_go_0 : decode b_GM_go 0 = .ok (.aload_n 0, 1) := by decide +kernel
theorem d_GM_go_1 : decode b_GM_go 1 = .ok (.iconst 0, 1) := by decide +kernel
theorem d_GM_go_2 : decode b_GM_go 2 = .ok (.putfield 45, 3) := by decide +kernel
theorem d_GM_go_5 : decode b_GM_go 5 = .ok (.iload_n 1, 1) := by decide +kernel
theorem d_GM_go_6 : decode b_GM_go 6 = .ok (.ifCond .lt 11, 3) := by decide +kernel
theorem d_GM_go_9 : decode b_GM_go 9 = .ok (.iload_n 1, 1) := by decide +kernel
theorem d_GM_go_10 : decode b_GM_go 10 = .ok (.aload_n 0, 1) := by decide +kernel
theorem d_GM_go_11 : decode b_GM_go 11 = .ok (.invokevirtual 53, 3) := by decide +kernel
theorem d_GM_go_14 : decode b_GM_go 14 = .ok (.if_icmp .le 5, 3) := by decide +kernel
theorem d_GM_go_17 : decode b_GM_go 17 = .ok (.iconst 0, 1) := by decide +kernel
theorem d_GM_go_18 : decode b_GM_go 18 = .ok (.ireturn, 1) := by decide +kernel
theorem d_GM_go_19 : decode b_GM_go 19 = .ok (.aload_n 0, 1) := by decide +kernel
theorem d_GM_go_20 : decode b_GM_go 20 = .ok (.iload_n 1, 1) := by decide +kernel
theorem d_GM_go_21 : decode b_GM_go 21 = .ok (.putfield 61, 3) := by decide +kernel
theorem d_GM_go_24 : decode b_GM_go 24 = .ok (.iconst 1, 1) := by decide +kernel
theorem d_GM_go_25 : decode b_GM_go 25 = .ok (.ireturn, 1) := by decide +kernel
theorem d_GM_hint_0 : decode b_GM_hint 0 = .ok (.aload_n 0, 1) := by decide +kernel
theorem d_GM_hint_1 : decode b_GM_hint 1 = .ok (.iconst 0, 1) := by decide +kernel
theorem d_GM_hint_2 : decode b_GM_hint 2 = .ok (.putfield 45, 3) := by decide +kernel
theorem d_GM_hint_5 : decode b_GM_hint 5 = .ok (.iload_n 1, 1) := by decide +kernel
theorem d_GM_hint_6 : decode b_GM_hint 6 = .ok (.iconst 1, 1) := by decide +kernel
theorem d_GM_hint_7 : decode b_GM_hint 7 = .ok (.if_icmp .lt 19, 3) := by decide +kernel
theorem d_GM_hint_10 : decode b_GM_hint 10 = .ok (.iload_n 1, 1) := by decide +kernel
theorem d_GM_hint_11 : decode b_GM_hint 11 = .ok (.iconst 4, 1) := by decide +kernel
theorem d_GM_hint_12 : decode b_GM_hint 12 = .ok (.if_icmp .gt 14, 3) := by decide +kernel
theorem d_GM_hint_15 : decode b_GM_hint 15 = .ok (.aload_n 0, 1) := by decide +kernel
theorem d_GM_hint_16 : decode b_GM_hint 16 = .ok (.getfield 61, 3) := by decide +kernel
theorem d_GM_hint_19 : decode b_GM_hint 19 = .ok (.aload_n 0, 1) := by decide +kernel
theorem d_GM_hint_20 : decode b_GM_hint 20 = .ok (.invokevirtual 53, 3) := by decide +kernel
theorem d_GM_hint_23 : decode b_GM_hint 23 = .ok (.if_icmp .lt 5, 3) := by decide +kernel
theorem d_GM_hint_26 : decode b_GM_hint 26 = .ok (.iconst (-1), 1) := by decide +kernel
theorem d_GM_hint_27 : decode b_GM_hint 27 = .ok (.ireturn, 1) := by decide +kernel
theorem d_GM_hint_28 : decode b_GM_hint 28 = .ok (.sipush 2000, 3) := by decide +kernel
theorem d_GM_hint_31 : decode b_GM_hint 31 = .ok (.aload_n 0, 1) := by decide +kernel
theorem d_GM_hint_32 : decode b_GM_hint 32 = .ok (.getfield 61, 3) := by decide +kernel
theorem d_GM_hint_35 : decode b_GM_hint 35 = .ok (.iadd, 1) := by decide +kernel
theorem d_GM_hint_36 : decode b_GM_hint 36 = .ok (.istore_n 2, 1) := by decide +kernel
theorem d_GM_hint_37 : decode b_GM_hint 37 = .ok (.iload_n 1, 1) := by decide +kernel
theorem d_GM_hint_38 : decode b_GM_hint 38 = .ok (.iconst 4, 1) := by decide +kernel
theorem d_GM_hint_39 : decode b_GM_hint 39 = .ok (.if_icmp .ne 13, 3) := by decide +kernel
theorem d_GM_hint_42 : decode b_GM_hint 42 = .ok (.aload_n 0, 1) := by decide +kernel
theorem d_GM_hint_43 : decode b_GM_hint 43 = .ok (.dup, 1) := by decide +kernel
theorem d_GM_hint_44 : decode b_GM_hint 44 = .ok (.getfield 61, 3) := by decide +kernel
theorem d_GM_hint_47 : decode b_GM_hint 47 = .ok (.iconst 1, 1) := by decide +kernel
theorem d_GM_hint_48 : decode b_GM_hint 48 = .ok (.iadd, 1) := by decide +kernel
theorem d_GM_hint_49 : decode b_GM_hint 49 = .ok (.putfield 61, 3) := by decide +kernel
theorem d_GM_hint_52 : decode b_GM_hint 52 = .ok (.aload_n 0, 1) := by decide +kernel
theorem d_GM_hint_53 : decode b_GM_hint 53 = .ok (.getfield 19, 3) := by decide +kernel
theorem d_GM_hint_56 : decode b_GM_hint 56 = .ok (.iload_n 2, 1) := by decide +kernel
theorem d_GM_hint_57 : decode b_GM_hint 57 = .ok (.iaload, 1) := by decide +kernel
theorem d_GM_hint_58 : decode b_GM_hint 58 = .ok (.iconst (-1), 1) := by decide +kernel
theorem d_GM_hint_59 : decode b_GM_hint 59 = .ok (.if_icmp .ne 20, 3) := by decide +kernel
theorem d_GM_hint_62 : decode b_GM_hint 62 = .ok (.iload_n 1, 1) := by decide +kernel
theorem d_GM_hint_63 : decode b_GM_hint 63 = .ok (.iconst 4, 1) := by decide +kernel
theorem d_GM_hint_64 : decode b_GM_hint 64 = .ok (.if_icmp .ne 12, 3) := by decide +kernel
theorem d_GM_hint_67 : decode b_GM_hint 67 = .ok (.aload_n 0, 1) := by decide +kernel
theorem d_GM_hint_68 : decode b_GM_hint 68 = .ok (.getfield 22, 3) := by decide +kernel
theorem d_GM_hint_71 : decode b_GM_hint 71 = .ok (.iload_n 2, 1) := by decide +kernel
theorem d_GM_hint_72 : decode b_GM_hint 72 = .ok (.iaload, 1) := by decide +kernel
theorem d_GM_hint_73 : decode b_GM_hint 73 = .ok (.goto 5, 3) := by decide +kernel
theorem d_GM_hint_76 : decode b_GM_hint 76 = .ok (.bipush (-2), 2) := by decide +kernel
theorem d_GM_hint_78 : decode b_GM_hint 78 = .ok (.ireturn, 1) := by decide +kernel
theorem d_GM_hint_79 : decode b_GM_hint 79 = .ok (.iload_n 1, 1) := by decide +kernel
theorem d_GM_hint_80 : decode b_GM_hint 80 = .ok (.tableswitch 52 1 3 #[28, 38, 45], 28) := by decide +kernel
theorem d_GM_hint_108 : decode b_GM_hint 108 = .ok (.aload_n 0, 1) := by decide +kernel
theorem d_GM_hint_109 : decode b_GM_hint 109 = .ok (.getfield 22, 3) := by decide +kernel
theorem d_GM_hint_112 : decode b_GM_hint 112 = .ok (.iload_n 2, 1) := by decide +kernel
theorem d_GM_hint_113 : decode b_GM_hint 113 = .ok (.iaload, 1) := by decide +kernel
theorem d_GM_hint_114 : decode b_GM_hint 114 = .ok (.bipush 16, 2) := by decide +kernel
theorem d_GM_hint_116 : decode b_GM_hint 116 = .ok (.idiv, 1) := by decide +kernel
theorem d_GM_hint_117 : decode b_GM_hint 117 = .ok (.ireturn, 1) := by decide +kernel
theorem d_GM_hint_118 : decode b_GM_hint 118 = .ok (.aload_n 0, 1) := by decide +kernel
theorem d_GM_hint_119 : decode b_GM_hint 119 = .ok (.getfield 22, 3) := by decide +kernel
theorem d_GM_hint_122 : decode b_GM_hint 122 = .ok (.iload_n 2, 1) := by decide +kernel
theorem d_GM_hint_123 : decode b_GM_hint 123 = .ok (.iaload, 1) := by decide +kernel
theorem d_GM_hint_124 : decode b_GM_hint 124 = .ok (.ireturn, 1) := by decide +kernel
theorem d_GM_hint_125 : decode b_GM_hint 125 = .ok (.aload_n 0, 1) := by decide +kernel
theorem d_GM_hint_126 : decode b_GM_hint 126 = .ok (.getfield 19, 3) := by decide +kernel
theorem d_GM_hint_129 : decode b_GM_hint 129 = .ok (.iload_n 2, 1) := by decide +kernel
theorem d_GM_hint_130 : decode b_GM_hint 130 = .ok (.iaload, 1) := by decide +kernel
theorem d_GM_hint_131 : decode b_GM_hint 131 = .ok (.ireturn, 1) := by decide +kernel
theorem d_GM_hint_132 : decode b_GM_hint 132 = .ok (.aload_n 0, 1) := by decide +kernel
theorem d_GM_hint_133 : decode b_GM_hint 133 = .ok (.getfield 25, 3) := by decide +kernel
theorem d_GM_hint_136 : decode b_GM_hint 136 = .ok (.iload_n 2, 1) := by decide +kernel
theorem d_GM_hint_137 : decode b_GM_hint 137 = .ok (.iaload, 1) := by decide +kernel
theorem d_GM_hint_138 : decode b_GM_hint 138 = .ok (.ireturn, 1) := by decide +kernel
theorem d_GM_keep_0 : decode b_GM_keep 0 = .ok (.aload_n 0, 1) := by decide +kernel
theorem d_GM_keep_1 : decode b_GM_keep 1 = .ok (.iconst 0, 1) := by decide +kernel
theorem d_GM_keep_2 : decode b_GM_keep 2 = .ok (.putfield 45, 3) := by decide +kernel
theorem d_GM_keep_5 : decode b_GM_keep 5 = .ok (.aload_n 0, 1) := by decide +kernel
theorem d_GM_keep_6 : decode b_GM_keep 6 = .ok (.getfield 90, 3) := by decide +kernel
theorem d_GM_keep_9 : decode b_GM_keep 9 = .ok (.bipush 10, 2) := by decide +kernel
theorem d_GM_keep_11 : decode b_GM_keep 11 = .ok (.if_icmp .ne 5, 3) := by decide +kernel
theorem d_GM_keep_14 : decode b_GM_keep 14 = .ok (.iconst (-1), 1) := by decide +kernel
theorem d_GM_keep_15 : decode b_GM_keep 15 = .ok (.ireturn, 1) := by decide +kernel
theorem d_GM_keep_16 : decode b_GM_keep 16 = .ok (.iconst 0, 1) := by decide +kernel
theorem d_GM_keep_17 : decode b_GM_keep 17 = .ok (.istore_n 1, 1) := by decide +kernel
theorem d_GM_keep_18 : decode b_GM_keep 18 = .ok (.iload_n 1, 1) := by decide +kernel
theorem d_GM_keep_19 : decode b_GM_keep 19 = .ok (.sipush 200, 3) := by decide +kernel
theorem d_GM_keep_22 : decode b_GM_keep 22 = .ok (.if_icmp .ge 84, 3) := by decide +kernel
theorem d_GM_keep_25 : decode b_GM_keep 25 = .ok (.aload_n 0, 1) := by decide +kernel
theorem d_GM_keep_26 : decode b_GM_keep 26 = .ok (.getfield 19, 3) := by decide +kernel
theorem d_GM_keep_29 : decode b_GM_keep 29 = .ok (.sipush 200, 3) := by decide +kernel
theorem d_GM_keep_32 : decode b_GM_keep 32 = .ok (.aload_n 0, 1) := by decide +kernel
theorem d_GM_keep_33 : decode b_GM_keep 33 = .ok (.getfield 90, 3) := by decide +kernel
theorem d_GM_keep_36 : decode b_GM_keep 36 = .ok (.imul, 1) := by decide +kernel
theorem d_GM_keep_37 : decode b_GM_keep 37 = .ok (.iload_n 1, 1) := by decide +kernel
theorem d_GM_keep_38 : decode b_GM_keep 38 = .ok (.iadd, 1) := by decide +kernel
theorem d_GM_keep_39 : decode b_GM_keep 39 = .ok (.aload_n 0, 1) := by decide +kernel
theorem d_GM_keep_40 : decode b_GM_keep 40 = .ok (.getfield 19, 3) := by decide +kernel
theorem d_GM_keep_43 : decode b_GM_keep 43 = .ok (.sipush 2000, 3) := by decide +kernel
theorem d_GM_keep_46 : decode b_GM_keep 46 = .ok (.iload_n 1, 1) := by decide +kernel
theorem d_GM_keep_47 : decode b_GM_keep 47 = .ok (.iadd, 1) := by decide +kernel
theorem d_GM_keep_48 : decode b_GM_keep 48 = .ok (.iaload, 1) := by decide +kernel
theorem d_GM_keep_49 : decode b_GM_keep 49 = .ok (.iastore, 1) := by decide +kernel
theorem d_GM_keep_50 : decode b_GM_keep 50 = .ok (.aload_n 0, 1) := by decide +kernel
theorem d_GM_keep_51 : decode b_GM_keep 51 = .ok (.getfield 22, 3) := by decide +kernel
theorem d_GM_keep_54 : decode b_GM_keep 54 = .ok (.sipush 200, 3) := by decide +kernel
theorem d_GM_keep_57 : decode b_GM_keep 57 = .ok (.aload_n 0, 1) := by decide +kernel
theorem d_GM_keep_58 : decode b_GM_keep 58 = .ok (.getfield 90, 3) := by decide +kernel
theorem d_GM_keep_61 : decode b_GM_keep 61 = .ok (.imul, 1) := by decide +kernel
theorem d_GM_keep_62 : decode b_GM_keep 62 = .ok (.iload_n 1, 1) := by decide +kernel
theorem d_GM_keep_63 : decode b_GM_keep 63 = .ok (.iadd, 1) := by decide +kernel
theorem d_GM_keep_64 : decode b_GM_keep 64 = .ok (.aload_n 0, 1) := by decide +kernel
theorem d_GM_keep_65 : decode b_GM_keep 65 = .ok (.getfield 22, 3) := by decide +kernel
theorem d_GM_keep_68 : decode b_GM_keep 68 = .ok (.sipush 2000, 3) := by decide +kernel
theorem d_GM_keep_71 : decode b_GM_keep 71 = .ok (.iload_n 1, 1) := by decide +kernel
theorem d_GM_keep_72 : decode b_GM_keep 72 = .ok (.iadd, 1) := by decide +kernel
theorem d_GM_keep_73 : decode b_GM_keep 73 = .ok (.iaload, 1) := by decide +kernel
theorem d_GM_keep_74 : decode b_GM_keep 74 = .ok (.iastore, 1) := by decide +kernel
theorem d_GM_keep_75 : decode b_GM_keep 75 = .ok (.aload_n 0, 1) := by decide +kernel
theorem d_GM_keep_76 : decode b_GM_keep 76 = .ok (.getfield 25, 3) := by decide +kernel
theorem d_GM_keep_79 : decode b_GM_keep 79 = .ok (.sipush 200, 3) := by decide +kernel
theorem d_GM_keep_82 : decode b_GM_keep 82 = .ok (.aload_n 0, 1) := by decide +kernel
theorem d_GM_keep_83 : decode b_GM_keep 83 = .ok (.getfield 90, 3) := by decide +kernel
theorem d_GM_keep_86 : decode b_GM_keep 86 = .ok (.imul, 1) := by decide +kernel
theorem d_GM_keep_87 : decode b_GM_keep 87 = .ok (.iload_n 1, 1) := by decide +kernel
theorem d_GM_keep_88 : decode b_GM_keep 88 = .ok (.iadd, 1) := by decide +kernel
theorem d_GM_keep_89 : decode b_GM_keep 89 = .ok (.aload_n 0, 1) := by decide +kernel
theorem d_GM_keep_90 : decode b_GM_keep 90 = .ok (.getfield 25, 3) := by decide +kernel
theorem d_GM_keep_93 : decode b_GM_keep 93 = .ok (.sipush 2000, 3) := by decide +kernel
theorem d_GM_keep_96 : decode b_GM_keep 96 = .ok (.iload_n 1, 1) := by decide +kernel
theorem d_GM_keep_97 : decode b_GM_keep 97 = .ok (.iadd, 1) := by decide +kernel
theorem d_GM_keep_98 : decode b_GM_keep 98 = .ok (.iaload, 1) := by decide +kernel
theorem d_GM_keep_99 : decode b_GM_keep 99 = .ok (.iastore, 1) := by decide +kernel
theorem d_GM_keep_100 : decode b_GM_keep 100 = .ok (.iinc 1 1, 3) := by decide +kernel
theorem d_GM_keep_103 : decode b_GM_keep 103 = .ok (.goto (-85), 3) := by decide +kernel
theorem d_GM_keep_106 : decode b_GM_keep 106 = .ok (.aload_n 0, 1) := by decide +kernel
theorem d_GM_keep_107 : decode b_GM_keep 107 = .ok (.getfield 16, 3) := by decide +kernel
theorem d_GM_keep_110 : decode b_GM_keep 110 = .ok (.aload_n 0, 1) := by decide +kernel
theorem d_GM_keep_111 : decode b_GM_keep 111 = .ok (.getfield 90, 3) := by decide +kernel
theorem d_GM_keep_114 : decode b_GM_keep 114 = .ok (.aload_n 0, 1) := by decide +kernel
theorem d_GM_keep_115 : decode b_GM_keep 115 = .ok (.invokevirtual 53, 3) := by decide +kernel
theorem d_GM_keep_118 : decode b_GM_keep 118 = .ok (.iastore, 1) := by decide +kernel
theorem d_GM_keep_119 : decode b_GM_keep 119 = .ok (.aload_n 0, 1) := by decide +kernel
theorem d_GM_keep_120 : decode b_GM_keep 120 = .ok (.dup, 1) := by decide +kernel
theorem d_GM_keep_121 : decode b_GM_keep 121 = .ok (.getfield 90, 3) := by decide +kernel
theorem d_GM_keep_124 : decode b_GM_keep 124 = .ok (.iconst 1, 1) := by decide +kernel
theorem d_GM_keep_125 : decode b_GM_keep 125 = .ok (.iadd, 1) := by decide +kernel
theorem d_GM_keep_126 : decode b_GM_keep 126 = .ok (.putfield 90, 3) := by decide +kernel
theorem d_GM_keep_129 : decode b_GM_keep 129 = .ok (.aload_n 0, 1) := by decide +kernel
theorem d_GM_keep_130 : decode b_GM_keep 130 = .ok (.getfield 90, 3) := by decide +kernel
theorem d_GM_keep_133 : decode b_GM_keep 133 = .ok (.iconst 1, 1) := by decide +kernel
theorem d_GM_keep_134 : decode b_GM_keep 134 = .ok (.isub, 1) := by decide +kernel
theorem d_GM_keep_135 : decode b_GM_keep 135 = .ok (.ireturn, 1) := by decide +kernel
theorem d_GM_way_0 : decode b_GM_way 0 = .ok (.lload_n 0, 1) := by decide +kernel
theorem d_GM_way_1 : decode b_GM_way 1 = .ok (.lload_n 2, 1) := by decide +kernel
theorem d_GM_way_2 : decode b_GM_way 2 = .ok (.lcmp, 1) := by decide +kernel
theorem d_GM_way_3 : decode b_GM_way 3 = .ok (.ifCond .ge 7, 3) := by decide +kernel
theorem d_GM_way_6 : decode b_GM_way 6 = .ok (.iconst (-1), 1) := by decide +kernel
theorem d_GM_way_7 : decode b_GM_way 7 = .ok (.goto 14, 3) := by decide +kernel
theorem d_GM_way_10 : decode b_GM_way 10 = .ok (.lload_n 0, 1) := by decide +kernel
theorem d_GM_way_11 : decode b_GM_way 11 = .ok (.lload_n 2, 1) := by decide +kernel
theorem d_GM_way_12 : decode b_GM_way 12 = .ok (.lcmp, 1) := by decide +kernel
theorem d_GM_way_13 : decode b_GM_way 13 = .ok (.ifCond .le 7, 3) := by decide +kernel
theorem d_GM_way_16 : decode b_GM_way 16 = .ok (.iconst 1, 1) := by decide +kernel
theorem d_GM_way_17 : decode b_GM_way 17 = .ok (.goto 4, 3) := by decide +kernel
theorem d_GM_way_20 : decode b_GM_way 20 = .ok (.iconst 0, 1) := by decide +kernel
theorem d_GM_way_21 : decode b_GM_way 21 = .ok (.ireturn, 1) := by decide +kernel
theorem d_GM_compare_0 : decode b_GM_compare 0 = .ok (.aload_n 0, 1) := by decide +kernel
theorem d_GM_compare_1 : decode b_GM_compare 1 = .ok (.iconst 0, 1) := by decide +kernel
theorem d_GM_compare_2 : decode b_GM_compare 2 = .ok (.putfield 45, 3) := by decide +kernel
theorem d_GM_compare_5 : decode b_GM_compare 5 = .ok (.iload_n 1, 1) := by decide +kernel
theorem d_GM_compare_6 : decode b_GM_compare 6 = .ok (.ifCond .lt 11, 3) := by decide +kernel
theorem d_GM_compare_9 : decode b_GM_compare 9 = .ok (.iload_n 1, 1) := by decide +kernel
theorem d_GM_compare_10 : decode b_GM_compare 10 = .ok (.aload_n 0, 1) := by decide +kernel
theorem d_GM_compare_11 : decode b_GM_compare 11 = .ok (.getfield 90, 3) := by decide +kernel
theorem d_GM_compare_14 : decode b_GM_compare 14 = .ok (.if_icmp .lt 6, 3) := by decide +kernel
theorem d_GM_compare_17 : decode b_GM_compare 17 = .ok (.bipush (-2), 2) := by decide +kernel
theorem d_GM_compare_19 : decode b_GM_compare 19 = .ok (.ireturn, 1) := by decide +kernel
theorem d_GM_compare_20 : decode b_GM_compare 20 = .ok (.aload_n 0, 1) := by decide +kernel
theorem d_GM_compare_21 : decode b_GM_compare 21 = .ok (.invokevirtual 82, 3) := by decide +kernel
theorem d_GM_compare_24 : decode b_GM_compare 24 = .ok (.lstore_n 2, 1) := by decide +kernel
theorem d_GM_compare_25 : decode b_GM_compare 25 = .ok (.aload_n 0, 1) := by decide +kernel
theorem d_GM_compare_26 : decode b_GM_compare 26 = .ok (.iload_n 1, 1) := by decide +kernel
theorem d_GM_compare_27 : decode b_GM_compare 27 = .ok (.sipush 200, 3) := by decide +kernel
theorem d_GM_compare_30 : decode b_GM_compare 30 = .ok (.invokevirtual 72, 3) := by decide +kernel
theorem d_GM_compare_33 : decode b_GM_compare 33 = .ok (.lstore 4, 2) := by decide +kernel
theorem d_GM_compare_35 : decode b_GM_compare 35 = .ok (.lload_n 2, 1) := by decide +kernel
theorem d_GM_compare_36 : decode b_GM_compare 36 = .ok (.lload 4, 2) := by decide +kernel
theorem d_GM_compare_38 : decode b_GM_compare 38 = .ok (.lcmp, 1) := by decide +kernel
theorem d_GM_compare_39 : decode b_GM_compare 39 = .ok (.ifCond .eq 10, 3) := by decide +kernel
theorem d_GM_compare_42 : decode b_GM_compare 42 = .ok (.lload_n 2, 1) := by decide +kernel
theorem d_GM_compare_43 : decode b_GM_compare 43 = .ok (.lload 4, 2) := by decide +kernel
theorem d_GM_compare_45 : decode b_GM_compare 45 = .ok (.invokestatic 93, 3) := by decide +kernel
theorem d_GM_compare_48 : decode b_GM_compare 48 = .ok (.ireturn, 1) := by decide +kernel
theorem d_GM_compare_49 : decode b_GM_compare 49 = .ok (.aload_n 0, 1) := by decide +kernel
theorem d_GM_compare_50 : decode b_GM_compare 50 = .ok (.invokevirtual 53, 3) := by decide +kernel
theorem d_GM_compare_53 : decode b_GM_compare 53 = .ok (.aload_n 0, 1) := by decide +kernel
theorem d_GM_compare_54 : decode b_GM_compare 54 = .ok (.getfield 16, 3) := by decide +kernel
theorem d_GM_compare_57 : decode b_GM_compare 57 = .ok (.iload_n 1, 1) := by decide +kernel
theorem d_GM_compare_58 : decode b_GM_compare 58 = .ok (.iaload, 1) := by decide +kernel
theorem d_GM_compare_59 : decode b_GM_compare 59 = .ok (.if_icmp .eq 19, 3) := by decide +kernel
theorem d_GM_compare_62 : decode b_GM_compare 62 = .ok (.aload_n 0, 1) := by decide +kernel
theorem d_GM_compare_63 : decode b_GM_compare 63 = .ok (.invokevirtual 53, 3) := by decide +kernel
theorem d_GM_compare_66 : decode b_GM_compare 66 = .ok (.i2l, 1) := by decide +kernel
theorem d_GM_compare_67 : decode b_GM_compare 67 = .ok (.aload_n 0, 1) := by decide +kernel
theorem d_GM_compare_68 : decode b_GM_compare 68 = .ok (.getfield 16, 3) := by decide +kernel
theorem d_GM_compare_71 : decode b_GM_compare 71 = .ok (.iload_n 1, 1) := by decide +kernel
theorem d_GM_compare_72 : decode b_GM_compare 72 = .ok (.iaload, 1) := by decide +kernel
theorem d_GM_compare_73 : decode b_GM_compare 73 = .ok (.i2l, 1) := by decide +kernel
theorem d_GM_compare_74 : decode b_GM_compare 74 = .ok (.invokestatic 93, 3) := by decide +kernel
theorem d_GM_compare_77 : decode b_GM_compare 77 = .ok (.ireturn, 1) := by decide +kernel
theorem d_GM_compare_78 : decode b_GM_compare 78 = .ok (.iconst 0, 1) := by decide +kernel
theorem d_GM_compare_79 : decode b_GM_compare 79 = .ok (.istore 6, 2) := by decide +kernel
theorem d_GM_compare_81 : decode b_GM_compare 81 = .ok (.iload 6, 2) := by decide +kernel
theorem d_GM_compare_83 : decode b_GM_compare 83 = .ok (.aload_n 0, 1) := by decide +kernel
theorem d_GM_compare_84 : decode b_GM_compare 84 = .ok (.invokevirtual 53, 3) := by decide +kernel
theorem d_GM_compare_87 : decode b_GM_compare 87 = .ok (.if_icmp .ge 38, 3) := by decide +kernel
theorem d_GM_compare_90 : decode b_GM_compare 90 = .ok (.aload_n 0, 1) := by decide +kernel
theorem d_GM_compare_91 : decode b_GM_compare 91 = .ok (.getfield 39, 3) := by decide +kernel
theorem d_GM_compare_94 : decode b_GM_compare 94 = .ok (.iload 6, 2) := by decide +kernel
theorem d_GM_compare_96 : decode b_GM_compare 96 = .ok (.aload_n 0, 1) := by decide +kernel
theorem d_GM_compare_97 : decode b_GM_compare 97 = .ok (.bipush 10, 2) := by decide +kernel
theorem d_GM_compare_99 : decode b_GM_compare 99 = .ok (.iload 6, 2) := by decide +kernel
theorem d_GM_compare_101 : decode b_GM_compare 101 = .ok (.invokevirtual 68, 3) := by decide +kernel
theorem d_GM_compare_104 : decode b_GM_compare 104 = .ok (.lastore, 1) := by decide +kernel
theorem d_GM_compare_105 : decode b_GM_compare 105 = .ok (.aload_n 0, 1) := by decide +kernel
theorem d_GM_compare_106 : decode b_GM_compare 106 = .ok (.getfield 42, 3) := by decide +kernel
theorem d_GM_compare_109 : decode b_GM_compare 109 = .ok (.iload 6, 2) := by decide +kernel
theorem d_GM_compare_111 : decode b_GM_compare 111 = .ok (.aload_n 0, 1) := by decide +kernel
theorem d_GM_compare_112 : decode b_GM_compare 112 = .ok (.iload_n 1, 1) := by decide +kernel
theorem d_GM_compare_113 : decode b_GM_compare 113 = .ok (.iload 6, 2) := by decide +kernel
theorem d_GM_compare_115 : decode b_GM_compare 115 = .ok (.invokevirtual 68, 3) := by decide +kernel
theorem d_GM_compare_118 : decode b_GM_compare 118 = .ok (.lastore, 1) := by decide +kernel
theorem d_GM_compare_119 : decode b_GM_compare 119 = .ok (.iinc 6 1, 3) := by decide +kernel
theorem d_GM_compare_122 : decode b_GM_compare 122 = .ok (.goto (-41), 3) := by decide +kernel
theorem d_GM_compare_125 : decode b_GM_compare 125 = .ok (.iconst 0, 1) := by decide +kernel
theorem d_GM_compare_126 : decode b_GM_compare 126 = .ok (.istore 6, 2) := by decide +kernel
theorem d_GM_compare_128 : decode b_GM_compare 128 = .ok (.iload 6, 2) := by decide +kernel
theorem d_GM_compare_130 : decode b_GM_compare 130 = .ok (.aload_n 0, 1) := by decide +kernel
theorem d_GM_compare_131 : decode b_GM_compare 131 = .ok (.invokevirtual 53, 3) := by decide +kernel
theorem d_GM_compare_134 : decode b_GM_compare 134 = .ok (.if_icmp .ge 143, 3) := by decide +kernel
theorem d_GM_compare_137 : decode b_GM_compare 137 = .ok (.iconst 0, 1) := by decide +kernel
theorem d_GM_compare_138 : decode b_GM_compare 138 = .ok (.istore 7, 2) := by decide +kernel
theorem d_GM_compare_140 : decode b_GM_compare 140 = .ok (.iconst 0, 1) := by decide +kernel
theorem d_GM_compare_141 : decode b_GM_compare 141 = .ok (.istore 8, 2) := by decide +kernel
theorem d_GM_compare_143 : decode b_GM_compare 143 = .ok (.iconst 1, 1) := by decide +kernel
theorem d_GM_compare_144 : decode b_GM_compare 144 = .ok (.istore 9, 2) := by decide +kernel
theorem d_GM_compare_146 : decode b_GM_compare 146 = .ok (.iload 9, 2) := by decide +kernel
theorem d_GM_compare_148 : decode b_GM_compare 148 = .ok (.aload_n 0, 1) := by decide +kernel
theorem d_GM_compare_149 : decode b_GM_compare 149 = .ok (.invokevirtual 53, 3) := by decide +kernel
theorem d_GM_compare_152 : decode b_GM_compare 152 = .ok (.if_icmp .ge 63, 3) := by decide +kernel
theorem d_GM_compare_155 : decode b_GM_compare 155 = .ok (.aload_n 0, 1) := by decide +kernel
theorem d_GM_compare_156 : decode b_GM_compare 156 = .ok (.getfield 39, 3) := by decide +kernel
theorem d_GM_compare_159 : decode b_GM_compare 159 = .ok (.iload 9, 2) := by decide +kernel
theorem d_GM_compare_161 : decode b_GM_compare 161 = .ok (.laload, 1) := by decide +kernel
theorem d_GM_compare_162 : decode b_GM_compare 162 = .ok (.aload_n 0, 1) := by decide +kernel
theorem d_GM_compare_163 : decode b_GM_compare 163 = .ok (.getfield 39, 3) := by decide +kernel
theorem d_GM_compare_166 : decode b_GM_compare 166 = .ok (.iload 7, 2) := by decide +kernel
theorem d_GM_compare_168 : decode b_GM_compare 168 = .ok (.laload, 1) := by decide +kernel
theorem d_GM_compare_169 : decode b_GM_compare 169 = .ok (.lcmp, 1) := by decide +kernel
theorem d_GM_compare_170 : decode b_GM_compare 170 = .ok (.ifCond .le 8, 3) := by decide +kernel
theorem d_GM_compare_173 : decode b_GM_compare 173 = .ok (.iload 9, 2) := by decide +kernel
theorem d_GM_compare_175 : decode b_GM_compare 175 = .ok (.goto 5, 3) := by decide +kernel
theorem d_GM_compare_178 : decode b_GM_compare 178 = .ok (.iload 7, 2) := by decide +kernel
theorem d_GM_compare_180 : decode b_GM_compare 180 = .ok (.istore 7, 2) := by decide +kernel
theorem d_GM_compare_182 : decode b_GM_compare 182 = .ok (.aload_n 0, 1) := by decide +kernel
theorem d_GM_compare_183 : decode b_GM_compare 183 = .ok (.getfield 42, 3) := by decide +kernel
theorem d_GM_compare_186 : decode b_GM_compare 186 = .ok (.iload 9, 2) := by decide +kernel
theorem d_GM_compare_188 : decode b_GM_compare 188 = .ok (.laload, 1) := by decide +kernel
theorem d_GM_compare_189 : decode b_GM_compare 189 = .ok (.aload_n 0, 1) := by decide +kernel
theorem d_GM_compare_190 : decode b_GM_compare 190 = .ok (.getfield 42, 3) := by decide +kernel
theorem d_GM_compare_193 : decode b_GM_compare 193 = .ok (.iload 8, 2) := by decide +kernel
theorem d_GM_compare_195 : decode b_GM_compare 195 = .ok (.laload, 1) := by decide +kernel
theorem d_GM_compare_196 : decode b_GM_compare 196 = .ok (.lcmp, 1) := by decide +kernel
theorem d_GM_compare_197 : decode b_GM_compare 197 = .ok (.ifCond .le 8, 3) := by decide +kernel
theorem d_GM_compare_200 : decode b_GM_compare 200 = .ok (.iload 9, 2) := by decide +kernel
theorem d_GM_compare_202 : decode b_GM_compare 202 = .ok (.goto 5, 3) := by decide +kernel
theorem d_GM_compare_205 : decode b_GM_compare 205 = .ok (.iload 8, 2) := by decide +kernel
theorem d_GM_compare_207 : decode b_GM_compare 207 = .ok (.istore 8, 2) := by decide +kernel
theorem d_GM_compare_209 : decode b_GM_compare 209 = .ok (.iinc 9 1, 3) := by decide +kernel
theorem d_GM_compare_212 : decode b_GM_compare 212 = .ok (.goto (-66), 3) := by decide +kernel
theorem d_GM_compare_215 : decode b_GM_compare 215 = .ok (.aload_n 0, 1) := by decide +kernel
theorem d_GM_compare_216 : decode b_GM_compare 216 = .ok (.getfield 39, 3) := by decide +kernel
theorem d_GM_compare_219 : decode b_GM_compare 219 = .ok (.iload 7, 2) := by decide +kernel
theorem d_GM_compare_221 : decode b_GM_compare 221 = .ok (.laload, 1) := by decide +kernel
theorem d_GM_compare_222 : decode b_GM_compare 222 = .ok (.aload_n 0, 1) := by decide +kernel
theorem d_GM_compare_223 : decode b_GM_compare 223 = .ok (.getfield 42, 3) := by decide +kernel
theorem d_GM_compare_226 : decode b_GM_compare 226 = .ok (.iload 8, 2) := by decide +kernel
theorem d_GM_compare_228 : decode b_GM_compare 228 = .ok (.laload, 1) := by decide +kernel
theorem d_GM_compare_229 : decode b_GM_compare 229 = .ok (.lcmp, 1) := by decide +kernel
theorem d_GM_compare_230 : decode b_GM_compare 230 = .ok (.ifCond .eq 21, 3) := by decide +kernel
theorem d_GM_compare_233 : decode b_GM_compare 233 = .ok (.aload_n 0, 1) := by decide +kernel
theorem d_GM_compare_234 : decode b_GM_compare 234 = .ok (.getfield 39, 3) := by decide +kernel
theorem d_GM_compare_237 : decode b_GM_compare 237 = .ok (.iload 7, 2) := by decide +kernel
theorem d_GM_compare_239 : decode b_GM_compare 239 = .ok (.laload, 1) := by decide +kernel
theorem d_GM_compare_240 : decode b_GM_compare 240 = .ok (.aload_n 0, 1) := by decide +kernel
theorem d_GM_compare_241 : decode b_GM_compare 241 = .ok (.getfield 42, 3) := by decide +kernel
theorem d_GM_compare_244 : decode b_GM_compare 244 = .ok (.iload 8, 2) := by decide +kernel
theorem d_GM_compare_246 : decode b_GM_compare 246 = .ok (.laload, 1) := by decide +kernel
theorem d_GM_compare_247 : decode b_GM_compare 247 = .ok (.invokestatic 93, 3) := by decide +kernel
theorem d_GM_compare_250 : decode b_GM_compare 250 = .ok (.ireturn, 1) := by decide +kernel
theorem d_GM_compare_251 : decode b_GM_compare 251 = .ok (.aload_n 0, 1) := by decide +kernel
theorem d_GM_compare_252 : decode b_GM_compare 252 = .ok (.getfield 39, 3) := by decide +kernel
theorem d_GM_compare_255 : decode b_GM_compare 255 = .ok (.iload 7, 2) := by decide +kernel
theorem d_GM_compare_257 : decode b_GM_compare 257 = .ok (.ldc2_w 75, 3) := by decide +kernel
theorem d_GM_compare_260 : decode b_GM_compare 260 = .ok (.lastore, 1) := by decide +kernel
theorem d_GM_compare_261 : decode b_GM_compare 261 = .ok (.aload_n 0, 1) := by decide +kernel
theorem d_GM_compare_262 : decode b_GM_compare 262 = .ok (.getfield 42, 3) := by decide +kernel
theorem d_GM_compare_265 : decode b_GM_compare 265 = .ok (.iload 8, 2) := by decide +kernel
theorem d_GM_compare_267 : decode b_GM_compare 267 = .ok (.ldc2_w 75, 3) := by decide +kernel
theorem d_GM_compare_270 : decode b_GM_compare 270 = .ok (.lastore, 1) := by decide +kernel
theorem d_GM_compare_271 : decode b_GM_compare 271 = .ok (.iinc 6 1, 3) := by decide +kernel
theorem d_GM_compare_274 : decode b_GM_compare 274 = .ok (.goto (-146), 3) := by decide +kernel
theorem d_GM_compare_277 : decode b_GM_compare 277 = .ok (.iconst 0, 1) := by decide +kernel
theorem d_GM_compare_278 : decode b_GM_compare 278 = .ok (.ireturn, 1) := by decide +kernel
theorem d_GM_like_0 : decode b_GM_like 0 = .ok (.iconst 0, 1) := by decide +kernel
theorem d_GM_like_1 : decode b_GM_like 1 = .ok (.istore_n 3, 1) := by decide +kernel
theorem d_GM_like_2 : decode b_GM_like 2 = .ok (.sipush 2000, 3) := by decide +kernel
theorem d_GM_like_5 : decode b_GM_like 5 = .ok (.iload_n 2, 1) := by decide +kernel
theorem d_GM_like_6 : decode b_GM_like 6 = .ok (.iadd, 1) := by decide +kernel
theorem d_GM_like_7 : decode b_GM_like 7 = .ok (.istore 4, 2) := by decide +kernel
theorem d_GM_like_9 : decode b_GM_like 9 = .ok (.sipush 200, 3) := by decide +kernel
theorem d_GM_like_12 : decode b_GM_like 12 = .ok (.iload_n 1, 1) := by decide +kernel
theorem d_GM_like_13 : decode b_GM_like 13 = .ok (.imul, 1) := by decide +kernel
theorem d_GM_like_14 : decode b_GM_like 14 = .ok (.istore 5, 2) := by decide +kernel
theorem d_GM_like_16 : decode b_GM_like 16 = .ok (.iload 5, 2) := by decide +kernel
theorem d_GM_like_18 : decode b_GM_like 18 = .ok (.sipush 200, 3) := by decide +kernel
theorem d_GM_like_21 : decode b_GM_like 21 = .ok (.iload_n 1, 1) := by decide +kernel
theorem d_GM_like_22 : decode b_GM_like 22 = .ok (.imul, 1) := by decide +kernel
theorem d_GM_like_23 : decode b_GM_like 23 = .ok (.aload_n 0, 1) := by decide +kernel
theorem d_GM_like_24 : decode b_GM_like 24 = .ok (.getfield 16, 3) := by decide +kernel
theorem d_GM_like_27 : decode b_GM_like 27 = .ok (.iload_n 1, 1) := by decide +kernel
theorem d_GM_like_28 : decode b_GM_like 28 = .ok (.iaload, 1) := by decide +kernel
theorem d_GM_like_29 : decode b_GM_like 29 = .ok (.iadd, 1) := by decide +kernel
theorem d_GM_like_30 : decode b_GM_like 30 = .ok (.if_icmp .ge 68, 3) := by decide +kernel
theorem d_GM_like_33 : decode b_GM_like 33 = .ok (.iload_n 3, 1) := by decide +kernel
theorem d_GM_like_34 : decode b_GM_like 34 = .ok (.aload_n 0, 1) := by decide +kernel
theorem d_GM_like_35 : decode b_GM_like 35 = .ok (.getfield 19, 3) := by decide +kernel
theorem d_GM_like_38 : decode b_GM_like 38 = .ok (.iload 5, 2) := by decide +kernel
theorem d_GM_like_40 : decode b_GM_like 40 = .ok (.iaload, 1) := by decide +kernel
theorem d_GM_like_41 : decode b_GM_like 41 = .ok (.aload_n 0, 1) := by decide +kernel
theorem d_GM_like_42 : decode b_GM_like 42 = .ok (.getfield 19, 3) := by decide +kernel
theorem d_GM_like_45 : decode b_GM_like 45 = .ok (.iload 4, 2) := by decide +kernel
theorem d_GM_like_47 : decode b_GM_like 47 = .ok (.iaload, 1) := by decide +kernel
theorem d_GM_like_48 : decode b_GM_like 48 = .ok (.if_icmp .ne 41, 3) := by decide +kernel
theorem d_GM_like_51 : decode b_GM_like 51 = .ok (.aload_n 0, 1) := by decide +kernel
theorem d_GM_like_52 : decode b_GM_like 52 = .ok (.getfield 22, 3) := by decide +kernel
theorem d_GM_like_55 : decode b_GM_like 55 = .ok (.iload 5, 2) := by decide +kernel
theorem d_GM_like_57 : decode b_GM_like 57 = .ok (.iaload, 1) := by decide +kernel
theorem d_GM_like_58 : decode b_GM_like 58 = .ok (.aload_n 0, 1) := by decide +kernel
theorem d_GM_like_59 : decode b_GM_like 59 = .ok (.getfield 22, 3) := by decide +kernel
theorem d_GM_like_62 : decode b_GM_like 62 = .ok (.iload 4, 2) := by decide +kernel
theorem d_GM_like_64 : decode b_GM_like 64 = .ok (.iaload, 1) := by decide +kernel
theorem d_GM_like_65 : decode b_GM_like 65 = .ok (.if_icmp .ne 24, 3) := by decide +kernel
theorem d_GM_like_68 : decode b_GM_like 68 = .ok (.aload_n 0, 1) := by decide +kernel
theorem d_GM_like_69 : decode b_GM_like 69 = .ok (.getfield 25, 3) := by decide +kernel
theorem d_GM_like_72 : decode b_GM_like 72 = .ok (.iload 5, 2) := by decide +kernel
theorem d_GM_like_74 : decode b_GM_like 74 = .ok (.iaload, 1) := by decide +kernel
theorem d_GM_like_75 : decode b_GM_like 75 = .ok (.aload_n 0, 1) := by decide +kernel
theorem d_GM_like_76 : decode b_GM_like 76 = .ok (.getfield 25, 3) := by decide +kernel
theorem d_GM_like_79 : decode b_GM_like 79 = .ok (.iload 4, 2) := by decide +kernel
theorem d_GM_like_81 : decode b_GM_like 81 = .ok (.iaload, 1) := by decide +kernel
theorem d_GM_like_82 : decode b_GM_like 82 = .ok (.if_icmp .ne 7, 3) := by decide +kernel
theorem d_GM_like_85 : decode b_GM_like 85 = .ok (.iconst 1, 1) := by decide +kernel
theorem d_GM_like_86 : decode b_GM_like 86 = .ok (.goto 4, 3) := by decide +kernel
theorem d_GM_like_89 : decode b_GM_like 89 = .ok (.iconst 0, 1) := by decide +kernel
theorem d_GM_like_90 : decode b_GM_like 90 = .ok (.iadd, 1) := by decide +kernel
theorem d_GM_like_91 : decode b_GM_like 91 = .ok (.istore_n 3, 1) := by decide +kernel
theorem d_GM_like_92 : decode b_GM_like 92 = .ok (.iinc 5 1, 3) := by decide +kernel
theorem d_GM_like_95 : decode b_GM_like 95 = .ok (.goto (-79), 3) := by decide +kernel
theorem d_GM_like_98 : decode b_GM_like 98 = .ok (.iload_n 3, 1) := by decide +kernel
theorem d_GM_like_99 : decode b_GM_like 99 = .ok (.ireturn, 1) := by decide +kernel
theorem d_GM_same_0 : decode b_GM_same 0 = .ok (.aload_n 0, 1) := by decide +kernel
theorem d_GM_same_1 : decode b_GM_same 1 = .ok (.iconst 0, 1) := by decide +kernel
theorem d_GM_same_2 : decode b_GM_same 2 = .ok (.putfield 45, 3) := by decide +kernel
theorem d_GM_same_5 : decode b_GM_same 5 = .ok (.iload_n 1, 1) := by decide +kernel
theorem d_GM_same_6 : decode b_GM_same 6 = .ok (.ifCond .lt 24, 3) := by decide +kernel
theorem d_GM_same_9 : decode b_GM_same 9 = .ok (.iload_n 1, 1) := by decide +kernel
theorem d_GM_same_10 : decode b_GM_same 10 = .ok (.aload_n 0, 1) := by decide +kernel
theorem d_GM_same_11 : decode b_GM_same 11 = .ok (.getfield 90, 3) := by decide +kernel
theorem d_GM_same_14 : decode b_GM_same 14 = .ok (.if_icmp .ge 16, 3) := by decide +kernel
theorem d_GM_same_17 : decode b_GM_same 17 = .ok (.aload_n 0, 1) := by decide +kernel
theorem d_GM_same_18 : decode b_GM_same 18 = .ok (.getfield 16, 3) := by decide +kernel
theorem d_GM_same_21 : decode b_GM_same 21 = .ok (.iload_n 1, 1) := by decide +kernel
theorem d_GM_same_22 : decode b_GM_same 22 = .ok (.iaload, 1) := by decide +kernel
theorem d_GM_same_23 : decode b_GM_same 23 = .ok (.aload_n 0, 1) := by decide +kernel
theorem d_GM_same_24 : decode b_GM_same 24 = .ok (.invokevirtual 53, 3) := by decide +kernel
theorem d_GM_same_27 : decode b_GM_same 27 = .ok (.if_icmp .eq 5, 3) := by decide +kernel
theorem d_GM_same_30 : decode b_GM_same 30 = .ok (.iconst 0, 1) := by decide +kernel
theorem d_GM_same_31 : decode b_GM_same 31 = .ok (.ireturn, 1) := by decide +kernel
theorem d_GM_same_32 : decode b_GM_same 32 = .ok (.iconst 0, 1) := by decide +kernel
theorem d_GM_same_33 : decode b_GM_same 33 = .ok (.istore_n 2, 1) := by decide +kernel
theorem d_GM_same_34 : decode b_GM_same 34 = .ok (.iload_n 2, 1) := by decide +kernel
theorem d_GM_same_35 : decode b_GM_same 35 = .ok (.aload_n 0, 1) := by decide +kernel
theorem d_GM_same_36 : decode b_GM_same 36 = .ok (.invokevirtual 53, 3) := by decide +kernel
theorem d_GM_same_39 : decode b_GM_same 39 = .ok (.if_icmp .ge 27, 3) := by decide +kernel
theorem d_GM_same_42 : decode b_GM_same 42 = .ok (.aload_n 0, 1) := by decide +kernel
theorem d_GM_same_43 : decode b_GM_same 43 = .ok (.iload_n 1, 1) := by decide +kernel
theorem d_GM_same_44 : decode b_GM_same 44 = .ok (.iload_n 2, 1) := by decide +kernel
theorem d_GM_same_45 : decode b_GM_same 45 = .ok (.invokevirtual 97, 3) := by decide +kernel
theorem d_GM_same_48 : decode b_GM_same 48 = .ok (.aload_n 0, 1) := by decide +kernel
theorem d_GM_same_49 : decode b_GM_same 49 = .ok (.bipush 10, 2) := by decide +kernel
theorem d_GM_same_51 : decode b_GM_same 51 = .ok (.iload_n 2, 1) := by decide +kernel
theorem d_GM_same_52 : decode b_GM_same 52 = .ok (.invokevirtual 97, 3) := by decide +kernel
theorem d_GM_same_55 : decode b_GM_same 55 = .ok (.if_icmp .eq 5, 3) := by decide +kernel
theorem d_GM_same_58 : decode b_GM_same 58 = .ok (.iconst 0, 1) := by decide +kernel
theorem d_GM_same_59 : decode b_GM_same 59 = .ok (.ireturn, 1) := by decide +kernel
theorem d_GM_same_60 : decode b_GM_same 60 = .ok (.iinc 2 1, 3) := by decide +kernel
theorem d_GM_same_63 : decode b_GM_same 63 = .ok (.goto (-29), 3) := by decide +kernel
theorem d_GM_same_66 : decode b_GM_same 66 = .ok (.iconst 1, 1) := by decide +kernel
theorem d_GM_same_67 : decode b_GM_same 67 = .ok (.ireturn, 1) := by decide +kernel
end
section
theorem d_law_0 : decode code 0 = .ok (.new 7, 3) := by decide +kernel
theorem d_law_3 : decode code 3 = .ok (.dup, 1) := by decide +kernel
theorem d_law_4 : decode code 4 = .ok (.invokespecial 9, 3) := by decide +kernel
theorem d_law_7 : decode code 7 = .ok (.astore_n 1, 1) := by decide +kernel
theorem d_law_8 : decode code 8 = .ok (.new 10, 3) := by decide +kernel
theorem d_law_11 : decode code 11 = .ok (.dup, 1) := by decide +kernel
theorem d_law_12 : decode code 12 = .ok (.invokespecial 12, 3) := by decide +kernel
theorem d_law_15 : decode code 15 = .ok (.astore_n 2, 1) := by decide +kernel
theorem d_law_16 : decode code 16 = .ok (.iconst 0, 1) := by decide +kernel
theorem d_law_17 : decode code 17 = .ok (.istore_n 3, 1) := by decide +kernel
theorem d_law_18 : decode code 18 = .ok (.iload_n 3, 1) := by decide +kernel
theorem d_law_19 : decode code 19 = .ok (.aload_n 0, 1) := by decide +kernel
theorem d_law_20 : decode code 20 = .ok (.arraylength, 1) := by decide +kernel
theorem d_law_21 : decode code 21 = .ok (.iconst 5, 1) := by decide +kernel
theorem d_law_22 : decode code 22 = .ok (.isub, 1) := by decide +kernel
theorem d_law_23 : decode code 23 = .ok (.if_icmp .gt 590, 3) := by decide +kernel
theorem d_law_26 : decode code 26 = .ok (.aload_n 0, 1) := by decide +kernel
theorem d_law_27 : decode code 27 = .ok (.iload_n 3, 1) := by decide +kernel
theorem d_law_28 : decode code 28 = .ok (.iaload, 1) := by decide +kernel
theorem d_law_29 : decode code 29 = .ok (.bipush 31, 2) := by decide +kernel
theorem d_law_31 : decode code 31 = .ok (.iand, 1) := by decide +kernel
theorem d_law_32 : decode code 32 = .ok (.tableswitch 575 0 17 #[88, 121, 164, 187, 200, 224, 248, 341, 354, 367, 421, 444, 457, 470, 493, 516, 529, 552], 88) := by decide +kernel
theorem d_law_120 : decode code 120 = .ok (.aload_n 1, 1) := by decide +kernel
theorem d_law_121 : decode code 121 = .ok (.aload_n 0, 1) := by decide +kernel
theorem d_law_122 : decode code 122 = .ok (.iload_n 3, 1) := by decide +kernel
theorem d_law_123 : decode code 123 = .ok (.iconst 1, 1) := by decide +kernel
theorem d_law_124 : decode code 124 = .ok (.iadd, 1) := by decide +kernel
theorem d_law_125 : decode code 125 = .ok (.iaload, 1) := by decide +kernel
theorem d_law_126 : decode code 126 = .ok (.aload_n 0, 1) := by decide +kernel
theorem d_law_127 : decode code 127 = .ok (.iload_n 3, 1) := by decide +kernel
theorem d_law_128 : decode code 128 = .ok (.iconst 2, 1) := by decide +kernel
theorem d_law_129 : decode code 129 = .ok (.iadd, 1) := by decide +kernel
theorem d_law_130 : decode code 130 = .ok (.iaload, 1) := by decide +kernel
theorem d_law_131 : decode code 131 = .ok (.invokevirtual 13, 3) := by decide +kernel
theorem d_law_134 : decode code 134 = .ok (.aload_n 2, 1) := by decide +kernel
theorem d_law_135 : decode code 135 = .ok (.aload_n 0, 1) := by decide +kernel
theorem d_law_136 : decode code 136 = .ok (.iload_n 3, 1) := by decide +kernel
theorem d_law_137 : decode code 137 = .ok (.iconst 1, 1) := by decide +kernel
theorem d_law_138 : decode code 138 = .ok (.iadd, 1) := by decide +kernel
theorem d_law_139 : decode code 139 = .ok (.iaload, 1) := by decide +kernel
theorem d_law_140 : decode code 140 = .ok (.aload_n 0, 1) := by decide +kernel
theorem d_law_141 : decode code 141 = .ok (.iload_n 3, 1) := by decide +kernel
theorem d_law_142 : decode code 142 = .ok (.iconst 2, 1) := by decide +kernel
theorem d_law_143 : decode code 143 = .ok (.iadd, 1) := by decide +kernel
theorem d_law_144 : decode code 144 = .ok (.iaload, 1) := by decide +kernel
theorem d_law_145 : decode code 145 = .ok (.invokevirtual 17, 3) := by decide +kernel
theorem d_law_148 : decode code 148 = .ok (.if_icmp .eq 459, 3) := by decide +kernel
theorem d_law_151 : decode code 151 = .ok (.iconst 0, 1) := by decide +kernel
theorem d_law_152 : decode code 152 = .ok (.ireturn, 1) := by decide +kernel
theorem d_law_153 : decode code 153 = .ok (.aload_n 1, 1) := by decide +kernel
theorem d_law_154 : decode code 154 = .ok (.aload_n 0, 1) := by decide +kernel
theorem d_law_155 : decode code 155 = .ok (.iload_n 3, 1) := by decide +kernel
theorem d_law_156 : decode code 156 = .ok (.iconst 1, 1) := by decide +kernel
theorem d_law_157 : decode code 157 = .ok (.iadd, 1) := by decide +kernel
theorem d_law_158 : decode code 158 = .ok (.iaload, 1) := by decide +kernel
theorem d_law_159 : decode code 159 = .ok (.aload_n 0, 1) := by decide +kernel
theorem d_law_160 : decode code 160 = .ok (.iload_n 3, 1) := by decide +kernel
theorem d_law_161 : decode code 161 = .ok (.iconst 2, 1) := by decide +kernel
theorem d_law_162 : decode code 162 = .ok (.iadd, 1) := by decide +kernel
theorem d_law_163 : decode code 163 = .ok (.iaload, 1) := by decide +kernel
theorem d_law_164 : decode code 164 = .ok (.aload_n 0, 1) := by decide +kernel
theorem d_law_165 : decode code 165 = .ok (.iload_n 3, 1) := by decide +kernel
theorem d_law_166 : decode code 166 = .ok (.iconst 3, 1) := by decide +kernel
theorem d_law_167 : decode code 167 = .ok (.iadd, 1) := by decide +kernel
theorem d_law_168 : decode code 168 = .ok (.iaload, 1) := by decide +kernel
theorem d_law_169 : decode code 169 = .ok (.invokevirtual 18, 3) := by decide +kernel
theorem d_law_172 : decode code 172 = .ok (.aload_n 2, 1) := by decide +kernel
theorem d_law_173 : decode code 173 = .ok (.aload_n 0, 1) := by decide +kernel
theorem d_law_174 : decode code 174 = .ok (.iload_n 3, 1) := by decide +kernel
theorem d_law_175 : decode code 175 = .ok (.iconst 1, 1) := by decide +kernel
theorem d_law_176 : decode code 176 = .ok (.iadd, 1) := by decide +kernel
theorem d_law_177 : decode code 177 = .ok (.iaload, 1) := by decide +kernel
theorem d_law_178 : decode code 178 = .ok (.aload_n 0, 1) := by decide +kernel
theorem d_law_179 : decode code 179 = .ok (.iload_n 3, 1) := by decide +kernel
theorem d_law_180 : decode code 180 = .ok (.iconst 2, 1) := by decide +kernel
theorem d_law_181 : decode code 181 = .ok (.iadd, 1) := by decide +kernel
theorem d_law_182 : decode code 182 = .ok (.iaload, 1) := by decide +kernel
theorem d_law_183 : decode code 183 = .ok (.aload_n 0, 1) := by decide +kernel
theorem d_law_184 : decode code 184 = .ok (.iload_n 3, 1) := by decide +kernel
theorem d_law_185 : decode code 185 = .ok (.iconst 3, 1) := by decide +kernel
theorem d_law_186 : decode code 186 = .ok (.iadd, 1) := by decide +kernel
theorem d_law_187 : decode code 187 = .ok (.iaload, 1) := by decide +kernel
theorem d_law_188 : decode code 188 = .ok (.invokevirtual 22, 3) := by decide +kernel
theorem d_law_191 : decode code 191 = .ok (.if_icmp .eq 416, 3) := by decide +kernel
theorem d_law_194 : decode code 194 = .ok (.iconst 0, 1) := by decide +kernel
theorem d_law_195 : decode code 195 = .ok (.ireturn, 1) := by decide +kernel
theorem d_law_196 : decode code 196 = .ok (.aload_n 1, 1) := by decide +kernel
theorem d_law_197 : decode code 197 = .ok (.aload_n 0, 1) := by decide +kernel
theorem d_law_198 : decode code 198 = .ok (.iload_n 3, 1) := by decide +kernel
theorem d_law_199 : decode code 199 = .ok (.iconst 1, 1) := by decide +kernel
theorem d_law_200 : decode code 200 = .ok (.iadd, 1) := by decide +kernel
theorem d_law_201 : decode code 201 = .ok (.iaload, 1) := by decide +kernel
theorem d_law_202 : decode code 202 = .ok (.invokevirtual 23, 3) := by decide +kernel
theorem d_law_205 : decode code 205 = .ok (.aload_n 2, 1) := by decide +kernel
theorem d_law_206 : decode code 206 = .ok (.aload_n 0, 1) := by decide +kernel
theorem d_law_207 : decode code 207 = .ok (.iload_n 3, 1) := by decide +kernel
theorem d_law_208 : decode code 208 = .ok (.iconst 1, 1) := by decide +kernel
theorem d_law_209 : decode code 209 = .ok (.iadd, 1) := by decide +kernel
theorem d_law_210 : decode code 210 = .ok (.iaload, 1) := by decide +kernel
theorem d_law_211 : decode code 211 = .ok (.invokevirtual 27, 3) := by decide +kernel
theorem d_law_214 : decode code 214 = .ok (.if_icmp .eq 393, 3) := by decide +kernel
theorem d_law_217 : decode code 217 = .ok (.iconst 0, 1) := by decide +kernel
theorem d_law_218 : decode code 218 = .ok (.ireturn, 1) := by decide +kernel
theorem d_law_219 : decode code 219 = .ok (.aload_n 1, 1) := by decide +kernel
theorem d_law_220 : decode code 220 = .ok (.invokevirtual 28, 3) := by decide +kernel
theorem d_law_223 : decode code 223 = .ok (.aload_n 2, 1) := by decide +kernel
theorem d_law_224 : decode code 224 = .ok (.invokevirtual 32, 3) := by decide +kernel
theorem d_law_227 : decode code 227 = .ok (.if_icmp .eq 380, 3) := by decide +kernel
theorem d_law_230 : decode code 230 = .ok (.iconst 0, 1) := by decide +kernel
theorem d_law_231 : decode code 231 = .ok (.ireturn, 1) := by decide +kernel
theorem d_law_232 : decode code 232 = .ok (.aload_n 1, 1) := by decide +kernel
theorem d_law_233 : decode code 233 = .ok (.aload_n 0, 1) := by decide +kernel
theorem d_law_234 : decode code 234 = .ok (.iload_n 3, 1) := by decide +kernel
theorem d_law_235 : decode code 235 = .ok (.iconst 1, 1) := by decide +kernel
theorem d_law_236 : decode code 236 = .ok (.iadd, 1) := by decide +kernel
theorem d_law_237 : decode code 237 = .ok (.iaload, 1) := by decide +kernel
theorem d_law_238 : decode code 238 = .ok (.invokevirtual 33, 3) := by decide +kernel
theorem d_law_241 : decode code 241 = .ok (.aload_n 2, 1) := by decide +kernel
theorem d_law_242 : decode code 242 = .ok (.aload_n 0, 1) := by decide +kernel
theorem d_law_243 : decode code 243 = .ok (.iload_n 3, 1) := by decide +kernel
theorem d_law_244 : decode code 244 = .ok (.iconst 1, 1) := by decide +kernel
theorem d_law_245 : decode code 245 = .ok (.iadd, 1) := by decide +kernel
theorem d_law_246 : decode code 246 = .ok (.iaload, 1) := by decide +kernel
theorem d_law_247 : decode code 247 = .ok (.invokevirtual 37, 3) := by decide +kernel
theorem d_law_250 : decode code 250 = .ok (.lcmp, 1) := by decide +kernel
theorem d_law_251 : decode code 251 = .ok (.ifCond .eq 356, 3) := by decide +kernel
theorem d_law_254 : decode code 254 = .ok (.iconst 0, 1) := by decide +kernel
theorem d_law_255 : decode code 255 = .ok (.ireturn, 1) := by decide +kernel
theorem d_law_256 : decode code 256 = .ok (.aload_n 1, 1) := by decide +kernel
theorem d_law_257 : decode code 257 = .ok (.aload_n 0, 1) := by decide +kernel
theorem d_law_258 : decode code 258 = .ok (.iload_n 3, 1) := by decide +kernel
theorem d_law_259 : decode code 259 = .ok (.iconst 1, 1) := by decide +kernel
theorem d_law_260 : decode code 260 = .ok (.iadd, 1) := by decide +kernel
theorem d_law_261 : decode code 261 = .ok (.iaload, 1) := by decide +kernel
theorem d_law_262 : decode code 262 = .ok (.invokevirtual 38, 3) := by decide +kernel
theorem d_law_265 : decode code 265 = .ok (.aload_n 2, 1) := by decide +kernel
theorem d_law_266 : decode code 266 = .ok (.aload_n 0, 1) := by decide +kernel
theorem d_law_267 : decode code 267 = .ok (.iload_n 3, 1) := by decide +kernel
theorem d_law_268 : decode code 268 = .ok (.iconst 1, 1) := by decide +kernel
theorem d_law_269 : decode code 269 = .ok (.iadd, 1) := by decide +kernel
theorem d_law_270 : decode code 270 = .ok (.iaload, 1) := by decide +kernel
theorem d_law_271 : decode code 271 = .ok (.invokevirtual 41, 3) := by decide +kernel
theorem d_law_274 : decode code 274 = .ok (.lcmp, 1) := by decide +kernel
theorem d_law_275 : decode code 275 = .ok (.ifCond .eq 332, 3) := by decide +kernel
theorem d_law_278 : decode code 278 = .ok (.iconst 0, 1) := by decide +kernel
theorem d_law_279 : decode code 279 = .ok (.ireturn, 1) := by decide +kernel
theorem d_law_280 : decode code 280 = .ok (.aload_n 1, 1) := by decide +kernel
theorem d_law_281 : decode code 281 = .ok (.aload_n 0, 1) := by decide +kernel
theorem d_law_282 : decode code 282 = .ok (.iload_n 3, 1) := by decide +kernel
theorem d_law_283 : decode code 283 = .ok (.iconst 1, 1) := by decide +kernel
theorem d_law_284 : decode code 284 = .ok (.iadd, 1) := by decide +kernel
theorem d_law_285 : decode code 285 = .ok (.iaload, 1) := by decide +kernel
theorem d_law_286 : decode code 286 = .ok (.i2l, 1) := by decide +kernel
theorem d_law_287 : decode code 287 = .ok (.bipush 32, 2) := by decide +kernel
theorem d_law_289 : decode code 289 = .ok (.lshl, 1) := by decide +kernel
theorem d_law_290 : decode code 290 = .ok (.aload_n 0, 1) := by decide +kernel
theorem d_law_291 : decode code 291 = .ok (.iload_n 3, 1) := by decide +kernel
theorem d_law_292 : decode code 292 = .ok (.iconst 2, 1) := by decide +kernel
theorem d_law_293 : decode code 293 = .ok (.iadd, 1) := by decide +kernel
theorem d_law_294 : decode code 294 = .ok (.iaload, 1) := by decide +kernel
theorem d_law_295 : decode code 295 = .ok (.i2l, 1) := by decide +kernel
theorem d_law_296 : decode code 296 = .ok (.ldc2_w 42, 3) := by decide +kernel
theorem d_law_299 : decode code 299 = .ok (.land, 1) := by decide +kernel
theorem d_law_300 : decode code 300 = .ok (.lor, 1) := by decide +kernel
theorem d_law_301 : decode code 301 = .ok (.aload_n 0, 1) := by decide +kernel
theorem d_law_302 : decode code 302 = .ok (.iload_n 3, 1) := by decide +kernel
theorem d_law_303 : decode code 303 = .ok (.iconst 3, 1) := by decide +kernel
theorem d_law_304 : decode code 304 = .ok (.iadd, 1) := by decide +kernel
theorem d_law_305 : decode code 305 = .ok (.iaload, 1) := by decide +kernel
theorem d_law_306 : decode code 306 = .ok (.i2l, 1) := by decide +kernel
theorem d_law_307 : decode code 307 = .ok (.bipush 32, 2) := by decide +kernel
theorem d_law_309 : decode code 309 = .ok (.lshl, 1) := by decide +kernel
theorem d_law_310 : decode code 310 = .ok (.aload_n 0, 1) := by decide +kernel
theorem d_law_311 : decode code 311 = .ok (.iload_n 3, 1) := by decide +kernel
theorem d_law_312 : decode code 312 = .ok (.iconst 4, 1) := by decide +kernel
theorem d_law_313 : decode code 313 = .ok (.iadd, 1) := by decide +kernel
theorem d_law_314 : decode code 314 = .ok (.iaload, 1) := by decide +kernel
theorem d_law_315 : decode code 315 = .ok (.i2l, 1) := by decide +kernel
theorem d_law_316 : decode code 316 = .ok (.ldc2_w 42, 3) := by decide +kernel
theorem d_law_319 : decode code 319 = .ok (.land, 1) := by decide +kernel
theorem d_law_320 : decode code 320 = .ok (.lor, 1) := by decide +kernel
theorem d_law_321 : decode code 321 = .ok (.invokevirtual 44, 3) := by decide +kernel
theorem d_law_324 : decode code 324 = .ok (.aload_n 2, 1) := by decide +kernel
theorem d_law_325 : decode code 325 = .ok (.aload_n 0, 1) := by decide +kernel
theorem d_law_326 : decode code 326 = .ok (.iload_n 3, 1) := by decide +kernel
theorem d_law_327 : decode code 327 = .ok (.iconst 1, 1) := by decide +kernel
theorem d_law_328 : decode code 328 = .ok (.iadd, 1) := by decide +kernel
theorem d_law_329 : decode code 329 = .ok (.iaload, 1) := by decide +kernel
theorem d_law_330 : decode code 330 = .ok (.i2l, 1) := by decide +kernel
theorem d_law_331 : decode code 331 = .ok (.bipush 32, 2) := by decide +kernel
theorem d_law_333 : decode code 333 = .ok (.lshl, 1) := by decide +kernel
theorem d_law_334 : decode code 334 = .ok (.aload_n 0, 1) := by decide +kernel
theorem d_law_335 : decode code 335 = .ok (.iload_n 3, 1) := by decide +kernel
theorem d_law_336 : decode code 336 = .ok (.iconst 2, 1) := by decide +kernel
theorem d_law_337 : decode code 337 = .ok (.iadd, 1) := by decide +kernel
theorem d_law_338 : decode code 338 = .ok (.iaload, 1) := by decide +kernel
theorem d_law_339 : decode code 339 = .ok (.i2l, 1) := by decide +kernel
theorem d_law_340 : decode code 340 = .ok (.ldc2_w 42, 3) := by decide +kernel
theorem d_law_343 : decode code 343 = .ok (.land, 1) := by decide +kernel
theorem d_law_344 : decode code 344 = .ok (.lor, 1) := by decide +kernel
theorem d_law_345 : decode code 345 = .ok (.aload_n 0, 1) := by decide +kernel
theorem d_law_346 : decode code 346 = .ok (.iload_n 3, 1) := by decide +kernel
theorem d_law_347 : decode code 347 = .ok (.iconst 3, 1) := by decide +kernel
theorem d_law_348 : decode code 348 = .ok (.iadd, 1) := by decide +kernel
theorem d_law_349 : decode code 349 = .ok (.iaload, 1) := by decide +kernel
theorem d_law_350 : decode code 350 = .ok (.i2l, 1) := by decide +kernel
theorem d_law_351 : decode code 351 = .ok (.bipush 32, 2) := by decide +kernel
theorem d_law_353 : decode code 353 = .ok (.lshl, 1) := by decide +kernel
theorem d_law_354 : decode code 354 = .ok (.aload_n 0, 1) := by decide +kernel
theorem d_law_355 : decode code 355 = .ok (.iload_n 3, 1) := by decide +kernel
theorem d_law_356 : decode code 356 = .ok (.iconst 4, 1) := by decide +kernel
theorem d_law_357 : decode code 357 = .ok (.iadd, 1) := by decide +kernel
theorem d_law_358 : decode code 358 = .ok (.iaload, 1) := by decide +kernel
theorem d_law_359 : decode code 359 = .ok (.i2l, 1) := by decide +kernel
theorem d_law_360 : decode code 360 = .ok (.ldc2_w 42, 3) := by decide +kernel
theorem d_law_363 : decode code 363 = .ok (.land, 1) := by decide +kernel
theorem d_law_364 : decode code 364 = .ok (.lor, 1) := by decide +kernel
theorem d_law_365 : decode code 365 = .ok (.invokevirtual 48, 3) := by decide +kernel
theorem d_law_368 : decode code 368 = .ok (.if_icmp .eq 239, 3) := by decide +kernel
theorem d_law_371 : decode code 371 = .ok (.iconst 0, 1) := by decide +kernel
theorem d_law_372 : decode code 372 = .ok (.ireturn, 1) := by decide +kernel
theorem d_law_373 : decode code 373 = .ok (.aload_n 1, 1) := by decide +kernel
theorem d_law_374 : decode code 374 = .ok (.invokevirtual 49, 3) := by decide +kernel
theorem d_law_377 : decode code 377 = .ok (.aload_n 2, 1) := by decide +kernel
theorem d_law_378 : decode code 378 = .ok (.invokevirtual 53, 3) := by decide +kernel
theorem d_law_381 : decode code 381 = .ok (.if_icmp .eq 226, 3) := by decide +kernel
theorem d_law_384 : decode code 384 = .ok (.iconst 0, 1) := by decide +kernel
theorem d_law_385 : decode code 385 = .ok (.ireturn, 1) := by decide +kernel
theorem d_law_386 : decode code 386 = .ok (.aload_n 1, 1) := by decide +kernel
theorem d_law_387 : decode code 387 = .ok (.invokevirtual 54, 3) := by decide +kernel
theorem d_law_390 : decode code 390 = .ok (.aload_n 2, 1) := by decide +kernel
theorem d_law_391 : decode code 391 = .ok (.invokevirtual 57, 3) := by decide +kernel
theorem d_law_394 : decode code 394 = .ok (.if_icmp .eq 213, 3) := by decide +kernel
theorem d_law_397 : decode code 397 = .ok (.iconst 0, 1) := by decide +kernel
theorem d_law_398 : decode code 398 = .ok (.ireturn, 1) := by decide +kernel
theorem d_law_399 : decode code 399 = .ok (.aload_n 1, 1) := by decide +kernel
theorem d_law_400 : decode code 400 = .ok (.aload_n 0, 1) := by decide +kernel
theorem d_law_401 : decode code 401 = .ok (.iload_n 3, 1) := by decide +kernel
theorem d_law_402 : decode code 402 = .ok (.iconst 1, 1) := by decide +kernel
theorem d_law_403 : decode code 403 = .ok (.iadd, 1) := by decide +kernel
theorem d_law_404 : decode code 404 = .ok (.iaload, 1) := by decide +kernel
theorem d_law_405 : decode code 405 = .ok (.i2l, 1) := by decide +kernel
theorem d_law_406 : decode code 406 = .ok (.bipush 32, 2) := by decide +kernel
theorem d_law_408 : decode code 408 = .ok (.lshl, 1) := by decide +kernel
theorem d_law_409 : decode code 409 = .ok (.aload_n 0, 1) := by decide +kernel
theorem d_law_410 : decode code 410 = .ok (.iload_n 3, 1) := by decide +kernel
theorem d_law_411 : decode code 411 = .ok (.iconst 2, 1) := by decide +kernel
theorem d_law_412 : decode code 412 = .ok (.iadd, 1) := by decide +kernel
theorem d_law_413 : decode code 413 = .ok (.iaload, 1) := by decide +kernel
theorem d_law_414 : decode code 414 = .ok (.i2l, 1) := by decide +kernel
theorem d_law_415 : decode code 415 = .ok (.ldc2_w 42, 3) := by decide +kernel
theorem d_law_418 : decode code 418 = .ok (.land, 1) := by decide +kernel
theorem d_law_419 : decode code 419 = .ok (.lor, 1) := by decide +kernel
theorem d_law_420 : decode code 420 = .ok (.invokevirtual 58, 3) := by decide +kernel
theorem d_law_423 : decode code 423 = .ok (.aload_n 2, 1) := by decide +kernel
theorem d_law_424 : decode code 424 = .ok (.aload_n 0, 1) := by decide +kernel
theorem d_law_425 : decode code 425 = .ok (.iload_n 3, 1) := by decide +kernel
theorem d_law_426 : decode code 426 = .ok (.iconst 1, 1) := by decide +kernel
theorem d_law_427 : decode code 427 = .ok (.iadd, 1) := by decide +kernel
theorem d_law_428 : decode code 428 = .ok (.iaload, 1) := by decide +kernel
theorem d_law_429 : decode code 429 = .ok (.i2l, 1) := by decide +kernel
theorem d_law_430 : decode code 430 = .ok (.bipush 32, 2) := by decide +kernel
theorem d_law_432 : decode code 432 = .ok (.lshl, 1) := by decide +kernel
theorem d_law_433 : decode code 433 = .ok (.aload_n 0, 1) := by decide +kernel
theorem d_law_434 : decode code 434 = .ok (.iload_n 3, 1) := by decide +kernel
theorem d_law_435 : decode code 435 = .ok (.iconst 2, 1) := by decide +kernel
theorem d_law_436 : decode code 436 = .ok (.iadd, 1) := by decide +kernel
theorem d_law_437 : decode code 437 = .ok (.iaload, 1) := by decide +kernel
theorem d_law_438 : decode code 438 = .ok (.i2l, 1) := by decide +kernel
theorem d_law_439 : decode code 439 = .ok (.ldc2_w 42, 3) := by decide +kernel
theorem d_law_442 : decode code 442 = .ok (.land, 1) := by decide +kernel
theorem d_law_443 : decode code 443 = .ok (.lor, 1) := by decide +kernel
theorem d_law_444 : decode code 444 = .ok (.invokevirtual 62, 3) := by decide +kernel
theorem d_law_447 : decode code 447 = .ok (.lcmp, 1) := by decide +kernel
theorem d_law_448 : decode code 448 = .ok (.ifCond .eq 159, 3) := by decide +kernel
theorem d_law_451 : decode code 451 = .ok (.iconst 0, 1) := by decide +kernel
theorem d_law_452 : decode code 452 = .ok (.ireturn, 1) := by decide +kernel
theorem d_law_453 : decode code 453 = .ok (.aload_n 1, 1) := by decide +kernel
theorem d_law_454 : decode code 454 = .ok (.aload_n 0, 1) := by decide +kernel
theorem d_law_455 : decode code 455 = .ok (.iload_n 3, 1) := by decide +kernel
theorem d_law_456 : decode code 456 = .ok (.iconst 1, 1) := by decide +kernel
theorem d_law_457 : decode code 457 = .ok (.iadd, 1) := by decide +kernel
theorem d_law_458 : decode code 458 = .ok (.iaload, 1) := by decide +kernel
theorem d_law_459 : decode code 459 = .ok (.invokevirtual 63, 3) := by decide +kernel
theorem d_law_462 : decode code 462 = .ok (.aload_n 2, 1) := by decide +kernel
theorem d_law_463 : decode code 463 = .ok (.aload_n 0, 1) := by decide +kernel
theorem d_law_464 : decode code 464 = .ok (.iload_n 3, 1) := by decide +kernel
theorem d_law_465 : decode code 465 = .ok (.iconst 1, 1) := by decide +kernel
theorem d_law_466 : decode code 466 = .ok (.iadd, 1) := by decide +kernel
theorem d_law_467 : decode code 467 = .ok (.iaload, 1) := by decide +kernel
theorem d_law_468 : decode code 468 = .ok (.invokevirtual 66, 3) := by decide +kernel
theorem d_law_471 : decode code 471 = .ok (.if_icmp .eq 136, 3) := by decide +kernel
theorem d_law_474 : decode code 474 = .ok (.iconst 0, 1) := by decide +kernel
theorem d_law_475 : decode code 475 = .ok (.ireturn, 1) := by decide +kernel
theorem d_law_476 : decode code 476 = .ok (.aload_n 1, 1) := by decide +kernel
theorem d_law_477 : decode code 477 = .ok (.invokevirtual 67, 3) := by decide +kernel
theorem d_law_480 : decode code 480 = .ok (.aload_n 2, 1) := by decide +kernel
theorem d_law_481 : decode code 481 = .ok (.invokevirtual 70, 3) := by decide +kernel
theorem d_law_484 : decode code 484 = .ok (.if_icmp .eq 123, 3) := by decide +kernel
theorem d_law_487 : decode code 487 = .ok (.iconst 0, 1) := by decide +kernel
theorem d_law_488 : decode code 488 = .ok (.ireturn, 1) := by decide +kernel
theorem d_law_489 : decode code 489 = .ok (.aload_n 1, 1) := by decide +kernel
theorem d_law_490 : decode code 490 = .ok (.invokevirtual 71, 3) := by decide +kernel
theorem d_law_493 : decode code 493 = .ok (.aload_n 2, 1) := by decide +kernel
theorem d_law_494 : decode code 494 = .ok (.invokevirtual 74, 3) := by decide +kernel
theorem d_law_497 : decode code 497 = .ok (.if_icmp .eq 110, 3) := by decide +kernel
theorem d_law_500 : decode code 500 = .ok (.iconst 0, 1) := by decide +kernel
theorem d_law_501 : decode code 501 = .ok (.ireturn, 1) := by decide +kernel
theorem d_law_502 : decode code 502 = .ok (.aload_n 1, 1) := by decide +kernel
theorem d_law_503 : decode code 503 = .ok (.aload_n 0, 1) := by decide +kernel
theorem d_law_504 : decode code 504 = .ok (.iload_n 3, 1) := by decide +kernel
theorem d_law_505 : decode code 505 = .ok (.iconst 1, 1) := by decide +kernel
theorem d_law_506 : decode code 506 = .ok (.iadd, 1) := by decide +kernel
theorem d_law_507 : decode code 507 = .ok (.iaload, 1) := by decide +kernel
theorem d_law_508 : decode code 508 = .ok (.invokevirtual 75, 3) := by decide +kernel
theorem d_law_511 : decode code 511 = .ok (.aload_n 2, 1) := by decide +kernel
theorem d_law_512 : decode code 512 = .ok (.aload_n 0, 1) := by decide +kernel
theorem d_law_513 : decode code 513 = .ok (.iload_n 3, 1) := by decide +kernel
theorem d_law_514 : decode code 514 = .ok (.iconst 1, 1) := by decide +kernel
theorem d_law_515 : decode code 515 = .ok (.iadd, 1) := by decide +kernel
theorem d_law_516 : decode code 516 = .ok (.iaload, 1) := by decide +kernel
theorem d_law_517 : decode code 517 = .ok (.invokevirtual 79, 3) := by decide +kernel
theorem d_law_520 : decode code 520 = .ok (.if_icmp .eq 87, 3) := by decide +kernel
theorem d_law_523 : decode code 523 = .ok (.iconst 0, 1) := by decide +kernel
theorem d_law_524 : decode code 524 = .ok (.ireturn, 1) := by decide +kernel
theorem d_law_525 : decode code 525 = .ok (.aload_n 1, 1) := by decide +kernel
theorem d_law_526 : decode code 526 = .ok (.aload_n 0, 1) := by decide +kernel
theorem d_law_527 : decode code 527 = .ok (.iload_n 3, 1) := by decide +kernel
theorem d_law_528 : decode code 528 = .ok (.iconst 1, 1) := by decide +kernel
theorem d_law_529 : decode code 529 = .ok (.iadd, 1) := by decide +kernel
theorem d_law_530 : decode code 530 = .ok (.iaload, 1) := by decide +kernel
theorem d_law_531 : decode code 531 = .ok (.invokevirtual 80, 3) := by decide +kernel
theorem d_law_534 : decode code 534 = .ok (.aload_n 2, 1) := by decide +kernel
theorem d_law_535 : decode code 535 = .ok (.aload_n 0, 1) := by decide +kernel
theorem d_law_536 : decode code 536 = .ok (.iload_n 3, 1) := by decide +kernel
theorem d_law_537 : decode code 537 = .ok (.iconst 1, 1) := by decide +kernel
theorem d_law_538 : decode code 538 = .ok (.iadd, 1) := by decide +kernel
theorem d_law_539 : decode code 539 = .ok (.iaload, 1) := by decide +kernel
theorem d_law_540 : decode code 540 = .ok (.invokevirtual 83, 3) := by decide +kernel
theorem d_law_543 : decode code 543 = .ok (.if_icmp .eq 64, 3) := by decide +kernel
theorem d_law_546 : decode code 546 = .ok (.iconst 0, 1) := by decide +kernel
theorem d_law_547 : decode code 547 = .ok (.ireturn, 1) := by decide +kernel
theorem d_law_548 : decode code 548 = .ok (.aload_n 1, 1) := by decide +kernel
theorem d_law_549 : decode code 549 = .ok (.invokevirtual 84, 3) := by decide +kernel
theorem d_law_552 : decode code 552 = .ok (.aload_n 2, 1) := by decide +kernel
theorem d_law_553 : decode code 553 = .ok (.invokevirtual 87, 3) := by decide +kernel
theorem d_law_556 : decode code 556 = .ok (.if_icmp .eq 51, 3) := by decide +kernel
theorem d_law_559 : decode code 559 = .ok (.iconst 0, 1) := by decide +kernel
theorem d_law_560 : decode code 560 = .ok (.ireturn, 1) := by decide +kernel
theorem d_law_561 : decode code 561 = .ok (.aload_n 1, 1) := by decide +kernel
theorem d_law_562 : decode code 562 = .ok (.aload_n 0, 1) := by decide +kernel
theorem d_law_563 : decode code 563 = .ok (.iload_n 3, 1) := by decide +kernel
theorem d_law_564 : decode code 564 = .ok (.iconst 1, 1) := by decide +kernel
theorem d_law_565 : decode code 565 = .ok (.iadd, 1) := by decide +kernel
theorem d_law_566 : decode code 566 = .ok (.iaload, 1) := by decide +kernel
theorem d_law_567 : decode code 567 = .ok (.invokevirtual 88, 3) := by decide +kernel
theorem d_law_570 : decode code 570 = .ok (.aload_n 2, 1) := by decide +kernel
theorem d_law_571 : decode code 571 = .ok (.aload_n 0, 1) := by decide +kernel
theorem d_law_572 : decode code 572 = .ok (.iload_n 3, 1) := by decide +kernel
theorem d_law_573 : decode code 573 = .ok (.iconst 1, 1) := by decide +kernel
theorem d_law_574 : decode code 574 = .ok (.iadd, 1) := by decide +kernel
theorem d_law_575 : decode code 575 = .ok (.iaload, 1) := by decide +kernel
theorem d_law_576 : decode code 576 = .ok (.invokevirtual 91, 3) := by decide +kernel
theorem d_law_579 : decode code 579 = .ok (.if_icmp .eq 28, 3) := by decide +kernel
theorem d_law_582 : decode code 582 = .ok (.iconst 0, 1) := by decide +kernel
theorem d_law_583 : decode code 583 = .ok (.ireturn, 1) := by decide +kernel
theorem d_law_584 : decode code 584 = .ok (.aload_n 1, 1) := by decide +kernel
theorem d_law_585 : decode code 585 = .ok (.aload_n 0, 1) := by decide +kernel
theorem d_law_586 : decode code 586 = .ok (.iload_n 3, 1) := by decide +kernel
theorem d_law_587 : decode code 587 = .ok (.iconst 1, 1) := by decide +kernel
theorem d_law_588 : decode code 588 = .ok (.iadd, 1) := by decide +kernel
theorem d_law_589 : decode code 589 = .ok (.iaload, 1) := by decide +kernel
theorem d_law_590 : decode code 590 = .ok (.invokevirtual 92, 3) := by decide +kernel
theorem d_law_593 : decode code 593 = .ok (.aload_n 2, 1) := by decide +kernel
theorem d_law_594 : decode code 594 = .ok (.aload_n 0, 1) := by decide +kernel
theorem d_law_595 : decode code 595 = .ok (.iload_n 3, 1) := by decide +kernel
theorem d_law_596 : decode code 596 = .ok (.iconst 1, 1) := by decide +kernel
theorem d_law_597 : decode code 597 = .ok (.iadd, 1) := by decide +kernel
theorem d_law_598 : decode code 598 = .ok (.iaload, 1) := by decide +kernel
theorem d_law_599 : decode code 599 = .ok (.invokevirtual 95, 3) := by decide +kernel
theorem d_law_602 : decode code 602 = .ok (.if_icmp .eq 5, 3) := by decide +kernel
theorem d_law_605 : decode code 605 = .ok (.iconst 0, 1) := by decide +kernel
theorem d_law_606 : decode code 606 = .ok (.ireturn, 1) := by decide +kernel
theorem d_law_607 : decode code 607 = .ok (.iinc 3 5, 3) := by decide +kernel
theorem d_law_610 : decode code 610 = .ok (.goto (-592), 3) := by decide +kernel
theorem d_law_613 : decode code 613 = .ok (.iconst 1, 1) := by decide +kernel
theorem d_law_614 : decode code 614 = .ok (.ireturn, 1) := by decide +kernel
end
section
section FLD
variable {p : Program} {l : Launch} {e : Env} {R : Room} {s : State} {m : MethodId} {args : Array Value} {below : List Frame} {meth : Method} {c : Code} {H H0 : Heap} {locs : List Loc} {cells slots : Nat} {Q : State → Prop}
variable {cc : ByteArray} {pc nL : Nat} {ls : Array Slot} {rest : List Value} {D : va_G} {dA : Nat → ClassId} {A : Nat → Prop} {a : Nat} {ws : va_W} {fs : List Value}
theorem fg_GG_9 {v : Value} (hC : CX p m c cc nL s args R_GG D dA) (hP : va_P D classes ws H) (q0 : Nat) (he : ws[q0]? = some (a, .inr (2, fs))) (hv : fs[0]? = some v) (hdg : decode cc pc = .ok (.getfield 9, 3)) (kk : W p l e R s m args below meth c H locs cells slots Q (F0 m (pc + 3) ls (v :: rest))) : W p l e R s m args below meth c H locs cells slots Q (F0 m pc ls (.ref a :: rest)) :=
  getf hC i_GG rfl (by decide) tw_104 hP q0 he hv hdg kk
theorem fg_GG_15 {v : Value} (hC : CX p m c cc nL s args R_GG D dA) (hP : va_P D classes ws H) (q0 : Nat) (he : ws[q0]? = some (a, .inr (0, fs))) (hv : fs[3]? = some v) (hdg : decode cc pc = .ok (.getfield 15, 3)) (kk : W p l e R s m args below meth c H locs cells slots Q (F0 m (pc + 3) ls (v :: rest))) : W p l e R s m args below meth c H locs cells slots Q (F0 m pc ls (.ref a :: rest)) :=
  getN hC i_GR rfl (by decide) nw_28 hP q0 he hv hdg kk
theorem fg_GK_7 {v : Value} (hC : CX p m c cc nL s args R_GK D dA) (hP : va_P D classes ws H) (q0 : Nat) (he : ws[q0]? = some (a, .inr (0, fs))) (hv : fs[4]? = some v) (hdg : decode cc pc = .ok (.getfield 7, 3)) (kk : W p l e R s m args below meth c H locs cells slots Q (F0 m (pc + 3) ls (v :: rest))) : W p l e R s m args below meth c H locs cells slots Q (F0 m pc ls (.ref a :: rest)) :=
  getN hC i_GR rfl (by decide) nw_29 hP q0 he hv hdg kk
theorem fg_GM_7 {v : Value} (hC : CX p m c cc nL s args R_GM D dA) (hP : va_P D classes ws H) (q0 : Nat) (he : ws[q0]? = some (a, .inr (4, fs))) (hv : fs[2]? = some v) (hdg : decode cc pc = .ok (.getfield 7, 3)) (kk : W p l e R s m args below meth c H locs cells slots Q (F0 m (pc + 3) ls (v :: rest))) : W p l e R s m args below meth c H locs cells slots Q (F0 m pc ls (.ref a :: rest)) :=
  getf hC i_GM rfl (by decide) tw_295 hP q0 he hv hdg kk
theorem fg_GM_13 {v : Value} (hC : CX p m c cc nL s args R_GM D dA) (hP : va_P D classes ws H) (q0 : Nat) (he : ws[q0]? = some (a, .inr (4, fs))) (hv : fs[3]? = some v) (hdg : decode cc pc = .ok (.getfield 13, 3)) (kk : W p l e R s m args below meth c H locs cells slots Q (F0 m (pc + 3) ls (v :: rest))) : W p l e R s m args below meth c H locs cells slots Q (F0 m pc ls (.ref a :: rest)) :=
  getf hC i_GM rfl (by decide) tw_296 hP q0 he hv hdg kk
theorem fg_GM_16 {v : Value} (hC : CX p m c cc nL s args R_GM D dA) (hP : va_P D classes ws H) (q0 : Nat) (he : ws[q0]? = some (a, .inr (4, fs))) (hv : fs[4]? = some v) (hdg : decode cc pc = .ok (.getfield 16, 3)) (kk : W p l e R s m args below meth c H locs cells slots Q (F0 m (pc + 3) ls (v :: rest))) : W p l e R s m args below meth c H locs cells slots Q (F0 m pc ls (.ref a :: rest)) :=
  getf hC i_GM rfl (by decide) tw_297 hP q0 he hv hdg kk
theorem fg_GM_19 {v : Value} (hC : CX p m c cc nL s args R_GM D dA) (hP : va_P D classes ws H) (q0 : Nat) (he : ws[q0]? = some (a, .inr (4, fs))) (hv : fs[5]? = some v) (hdg : decode cc pc = .ok (.getfield 19, 3)) (kk : W p l e R s m args below meth c H locs cells slots Q (F0 m (pc + 3) ls (v :: rest))) : W p l e R s m args below meth c H locs cells slots Q (F0 m pc ls (.ref a :: rest)) :=
  getf hC i_GM rfl (by decide) tw_298 hP q0 he hv hdg kk
theorem fg_GM_22 {v : Value} (hC : CX p m c cc nL s args R_GM D dA) (hP : va_P D classes ws H) (q0 : Nat) (he : ws[q0]? = some (a, .inr (4, fs))) (hv : fs[6]? = some v) (hdg : decode cc pc = .ok (.getfield 22, 3)) (kk : W p l e R s m args below meth c H locs cells slots Q (F0 m (pc + 3) ls (v :: rest))) : W p l e R s m args below meth c H locs cells slots Q (F0 m pc ls (.ref a :: rest)) :=
  getf hC i_GM rfl (by decide) tw_299 hP q0 he hv hdg kk
theorem fg_GM_25 {v : Value} (hC : CX p m c cc nL s args R_GM D dA) (hP : va_P D classes ws H) (q0 : Nat) (he : ws[q0]? = some (a, .inr (4, fs))) (hv : fs[7]? = some v) (hdg : decode cc pc = .ok (.getfield 25, 3)) (kk : W p l e R s m args below meth c H locs cells slots Q (F0 m (pc + 3) ls (v :: rest))) : W p l e R s m args below meth c H locs cells slots Q (F0 m pc ls (.ref a :: rest)) :=
  getf hC i_GM rfl (by decide) tw_300 hP q0 he hv hdg kk
theorem fg_GM_28 {v : Value} (hC : CX p m c cc nL s args R_GM D dA) (hP : va_P D classes ws H) (q0 : Nat) (he : ws[q0]? = some (a, .inr (4, fs))) (hv : fs[10]? = some v) (hdg : decode cc pc = .ok (.getfield 28, 3)) (kk : W p l e R s m args below meth c H locs cells slots Q (F0 m (pc + 3) ls (v :: rest))) : W p l e R s m args below meth c H locs cells slots Q (F0 m pc ls (.ref a :: rest)) :=
  getf hC i_GM rfl (by decide) tw_303 hP q0 he hv hdg kk
theorem fg_GM_32 {v : Value} (hC : CX p m c cc nL s args R_GM D dA) (hP : va_P D classes ws H) (q0 : Nat) (he : ws[q0]? = some (a, .inr (4, fs))) (hv : fs[11]? = some v) (hdg : decode cc pc = .ok (.getfield 32, 3)) (kk : W p l e R s m args below meth c H locs cells slots Q (F0 m (pc + 3) ls (v :: rest))) : W p l e R s m args below meth c H locs cells slots Q (F0 m pc ls (.ref a :: rest)) :=
  getf hC i_GM rfl (by decide) tw_304 hP q0 he hv hdg kk
theorem fg_GM_35 {v : Value} (hC : CX p m c cc nL s args R_GM D dA) (hP : va_P D classes ws H) (q0 : Nat) (he : ws[q0]? = some (a, .inr (4, fs))) (hv : fs[13]? = some v) (hdg : decode cc pc = .ok (.getfield 35, 3)) (kk : W p l e R s m args below meth c H locs cells slots Q (F0 m (pc + 3) ls (v :: rest))) : W p l e R s m args below meth c H locs cells slots Q (F0 m pc ls (.ref a :: rest)) :=
  getf hC i_GM rfl (by decide) tw_306 hP q0 he hv hdg kk
theorem fg_GM_39 {v : Value} (hC : CX p m c cc nL s args R_GM D dA) (hP : va_P D classes ws H) (q0 : Nat) (he : ws[q0]? = some (a, .inr (4, fs))) (hv : fs[14]? = some v) (hdg : decode cc pc = .ok (.getfield 39, 3)) (kk : W p l e R s m args below meth c H locs cells slots Q (F0 m (pc + 3) ls (v :: rest))) : W p l e R s m args below meth c H locs cells slots Q (F0 m pc ls (.ref a :: rest)) :=
  getf hC i_GM rfl (by decide) tw_307 hP q0 he hv hdg kk
theorem fg_GM_42 {v : Value} (hC : CX p m c cc nL s args R_GM D dA) (hP : va_P D classes ws H) (q0 : Nat) (he : ws[q0]? = some (a, .inr (4, fs))) (hv : fs[15]? = some v) (hdg : decode cc pc = .ok (.getfield 42, 3)) (kk : W p l e R s m args below meth c H locs cells slots Q (F0 m (pc + 3) ls (v :: rest))) : W p l e R s m args below meth c H locs cells slots Q (F0 m pc ls (.ref a :: rest)) :=
  getf hC i_GM rfl (by decide) tw_308 hP q0 he hv hdg kk
theorem fg_GM_50 {v : Value} (hC : CX p m c cc nL s args R_GM D dA) (hP : va_P D classes ws H) (q0 : Nat) (he : ws[q0]? = some (a, .inr (4, fs))) (hv : fs[1]? = some v) (hdg : decode cc pc = .ok (.getfield 50, 3)) (kk : W p l e R s m args below meth c H locs cells slots Q (F0 m (pc + 3) ls (v :: rest))) : W p l e R s m args below meth c H locs cells slots Q (F0 m pc ls (.ref a :: rest)) :=
  getf hC i_GM rfl (by decide) tw_294 hP q0 he hv hdg kk
theorem fg_GM_61 {v : Value} (hC : CX p m c cc nL s args R_GM D dA) (hP : va_P D classes ws H) (q0 : Nat) (he : ws[q0]? = some (a, .inr (4, fs))) (hv : fs[12]? = some v) (hdg : decode cc pc = .ok (.getfield 61, 3)) (kk : W p l e R s m args below meth c H locs cells slots Q (F0 m (pc + 3) ls (v :: rest))) : W p l e R s m args below meth c H locs cells slots Q (F0 m pc ls (.ref a :: rest)) :=
  getf hC i_GM rfl (by decide) tw_305 hP q0 he hv hdg kk
theorem fg_GM_79 {v : Value} (hC : CX p m c cc nL s args R_GM D dA) (hP : va_P D classes ws H) (q0 : Nat) (he : ws[q0]? = some (a, .inr (4, fs))) (hv : fs[9]? = some v) (hdg : decode cc pc = .ok (.getfield 79, 3)) (kk : W p l e R s m args below meth c H locs cells slots Q (F0 m (pc + 3) ls (v :: rest))) : W p l e R s m args below meth c H locs cells slots Q (F0 m pc ls (.ref a :: rest)) :=
  getf hC i_GM rfl (by decide) tw_302 hP q0 he hv hdg kk
theorem fg_GM_90 {v : Value} (hC : CX p m c cc nL s args R_GM D dA) (hP : va_P D classes ws H) (q0 : Nat) (he : ws[q0]? = some (a, .inr (4, fs))) (hv : fs[8]? = some v) (hdg : decode cc pc = .ok (.getfield 90, 3)) (kk : W p l e R s m args below meth c H locs cells slots Q (F0 m (pc + 3) ls (v :: rest))) : W p l e R s m args below meth c H locs cells slots Q (F0 m pc ls (.ref a :: rest)) :=
  getf hC i_GM rfl (by decide) tw_301 hP q0 he hv hdg kk
theorem fg_GR_9 {v : Value} (hC : CX p m c cc nL s args R_GR D dA) (hP : va_P D classes ws H) (q0 : Nat) (he : ws[q0]? = some (a, .inr (0, fs))) (hv : fs[0]? = some v) (hdg : decode cc pc = .ok (.getfield 9, 3)) (kk : W p l e R s m args below meth c H locs cells slots Q (F0 m (pc + 3) ls (v :: rest))) : W p l e R s m args below meth c H locs cells slots Q (F0 m pc ls (.ref a :: rest)) :=
  getf hC i_GR rfl (by decide) tw_22 hP q0 he hv hdg kk
theorem fg_GR_13 {v : Value} (hC : CX p m c cc nL s args R_GR D dA) (hP : va_P D classes ws H) (q0 : Nat) (he : ws[q0]? = some (a, .inr (0, fs))) (hv : fs[1]? = some v) (hdg : decode cc pc = .ok (.getfield 13, 3)) (kk : W p l e R s m args below meth c H locs cells slots Q (F0 m (pc + 3) ls (v :: rest))) : W p l e R s m args below meth c H locs cells slots Q (F0 m pc ls (.ref a :: rest)) :=
  getf hC i_GR rfl (by decide) tw_24 hP q0 he hv hdg kk
theorem fg_GR_18 {v : Value} (hC : CX p m c cc nL s args R_GR D dA) (hP : va_P D classes ws H) (q0 : Nat) (he : ws[q0]? = some (a, .inr (0, fs))) (hv : fs[3]? = some v) (hdg : decode cc pc = .ok (.getfield 18, 3)) (kk : W p l e R s m args below meth c H locs cells slots Q (F0 m (pc + 3) ls (v :: rest))) : W p l e R s m args below meth c H locs cells slots Q (F0 m pc ls (.ref a :: rest)) :=
  getf hC i_GR rfl (by decide) tw_27 hP q0 he hv hdg kk
theorem fg_GR_22 {v : Value} (hC : CX p m c cc nL s args R_GR D dA) (hP : va_P D classes ws H) (q0 : Nat) (he : ws[q0]? = some (a, .inr (0, fs))) (hv : fs[6]? = some v) (hdg : decode cc pc = .ok (.getfield 22, 3)) (kk : W p l e R s m args below meth c H locs cells slots Q (F0 m (pc + 3) ls (v :: rest))) : W p l e R s m args below meth c H locs cells slots Q (F0 m pc ls (.ref a :: rest)) :=
  getf hC i_GR rfl (by decide) tw_32 hP q0 he hv hdg kk
theorem fg_GR_26 {v : Value} (hC : CX p m c cc nL s args R_GR D dA) (hP : va_P D classes ws H) (q0 : Nat) (he : ws[q0]? = some (a, .inr (0, fs))) (hv : fs[7]? = some v) (hdg : decode cc pc = .ok (.getfield 26, 3)) (kk : W p l e R s m args below meth c H locs cells slots Q (F0 m (pc + 3) ls (v :: rest))) : W p l e R s m args below meth c H locs cells slots Q (F0 m pc ls (.ref a :: rest)) :=
  getf hC i_GR rfl (by decide) tw_33 hP q0 he hv hdg kk
theorem fg_GR_31 {v : Value} (hC : CX p m c cc nL s args R_GR D dA) (hP : va_P D classes ws H) (q0 : Nat) (he : ws[q0]? = some (a, .inr (0, fs))) (hv : fs[9]? = some v) (hdg : decode cc pc = .ok (.getfield 31, 3)) (kk : W p l e R s m args below meth c H locs cells slots Q (F0 m (pc + 3) ls (v :: rest))) : W p l e R s m args below meth c H locs cells slots Q (F0 m pc ls (.ref a :: rest)) :=
  getf hC i_GR rfl (by decide) tw_35 hP q0 he hv hdg kk
theorem fg_GR_36 {v : Value} (hC : CX p m c cc nL s args R_GR D dA) (hP : va_P D classes ws H) (q0 : Nat) (he : ws[q0]? = some (a, .inr (0, fs))) (hv : fs[2]? = some v) (hdg : decode cc pc = .ok (.getfield 36, 3)) (kk : W p l e R s m args below meth c H locs cells slots Q (F0 m (pc + 3) ls (v :: rest))) : W p l e R s m args below meth c H locs cells slots Q (F0 m pc ls (.ref a :: rest)) :=
  getf hC i_GR rfl (by decide) tw_26 hP q0 he hv hdg kk
theorem fg_GR_40 {v : Value} (hC : CX p m c cc nL s args R_GR D dA) (hP : va_P D classes ws H) (q0 : Nat) (he : ws[q0]? = some (a, .inr (0, fs))) (hv : fs[4]? = some v) (hdg : decode cc pc = .ok (.getfield 40, 3)) (kk : W p l e R s m args below meth c H locs cells slots Q (F0 m (pc + 3) ls (v :: rest))) : W p l e R s m args below meth c H locs cells slots Q (F0 m pc ls (.ref a :: rest)) :=
  getf hC i_GR rfl (by decide) tw_30 hP q0 he hv hdg kk
theorem fg_GR_57 {v : Value} (hC : CX p m c cc nL s args R_GR D dA) (hP : va_P D classes ws H) (q0 : Nat) (he : ws[q0]? = some (a, .inr (0, fs))) (hv : fs[5]? = some v) (hdg : decode cc pc = .ok (.getfield 57, 3)) (kk : W p l e R s m args below meth c H locs cells slots Q (F0 m (pc + 3) ls (v :: rest))) : W p l e R s m args below meth c H locs cells slots Q (F0 m pc ls (.ref a :: rest)) :=
  getf hC i_GR rfl (by decide) tw_31 hP q0 he hv hdg kk
theorem fg_GR_78 {v : Value} (hC : CX p m c cc nL s args R_GR D dA) (hP : va_P D classes ws H) (q0 : Nat) (he : ws[q0]? = some (a, .inr (0, fs))) (hv : fs[8]? = some v) (hdg : decode cc pc = .ok (.getfield 78, 3)) (kk : W p l e R s m args below meth c H locs cells slots Q (F0 m (pc + 3) ls (v :: rest))) : W p l e R s m args below meth c H locs cells slots Q (F0 m pc ls (.ref a :: rest)) :=
  getf hC i_GR rfl (by decide) tw_34 hP q0 he hv hdg kk
theorem fg_GR_118 {v : Value} (hC : CX p m c cc nL s args R_GR D dA) (hP : va_P D classes ws H) (q0 : Nat) (he : ws[q0]? = some (a, .inr (0, fs))) (hv : fs[10]? = some v) (hdg : decode cc pc = .ok (.getfield 118, 3)) (kk : W p l e R s m args below meth c H locs cells slots Q (F0 m (pc + 3) ls (v :: rest))) : W p l e R s m args below meth c H locs cells slots Q (F0 m pc ls (.ref a :: rest)) :=
  getf hC i_GR rfl (by decide) tw_36 hP q0 he hv hdg kk
theorem fg_GR_128 {v : Value} (hC : CX p m c cc nL s args R_GR D dA) (hP : va_P D classes ws H) (q0 : Nat) (he : ws[q0]? = some (a, .inr (3, fs))) (hv : fs[0]? = some v) (hdg : decode cc pc = .ok (.getfield 128, 3)) (kk : W p l e R s m args below meth c H locs cells slots Q (F0 m (pc + 3) ls (v :: rest))) : W p l e R s m args below meth c H locs cells slots Q (F0 m pc ls (.ref a :: rest)) :=
  getN hC i_GK rfl (by decide) nw_255 hP q0 he hv hdg kk
theorem fg_GR_137 {v : Value} (hC : CX p m c cc nL s args R_GR D dA) (hP : va_P D classes ws H) (q0 : Nat) (he : ws[q0]? = some (a, .inr (3, fs))) (hv : fs[1]? = some v) (hdg : decode cc pc = .ok (.getfield 137, 3)) (kk : W p l e R s m args below meth c H locs cells slots Q (F0 m (pc + 3) ls (v :: rest))) : W p l e R s m args below meth c H locs cells slots Q (F0 m pc ls (.ref a :: rest)) :=
  getN hC i_GK rfl (by decide) nw_257 hP q0 he hv hdg kk
theorem fg_GR_148 {v : Value} (hC : CX p m c cc nL s args R_GR D dA) (hP : va_P D classes ws H) (q0 : Nat) (he : ws[q0]? = some (a, .inr (3, fs))) (hv : fs[2]? = some v) (hdg : decode cc pc = .ok (.getfield 148, 3)) (kk : W p l e R s m args below meth c H locs cells slots Q (F0 m (pc + 3) ls (v :: rest))) : W p l e R s m args below meth c H locs cells slots Q (F0 m pc ls (.ref a :: rest)) :=
  getN hC i_GK rfl (by decide) nw_259 hP q0 he hv hdg kk
theorem fg_GU_9 {v : Value} (hC : CX p m c cc nL s args R_GU D dA) (hP : va_P D classes ws H) (q0 : Nat) (he : ws[q0]? = some (a, .inr (1, fs))) (hv : fs[0]? = some v) (hdg : decode cc pc = .ok (.getfield 9, 3)) (kk : W p l e R s m args below meth c H locs cells slots Q (F0 m (pc + 3) ls (v :: rest))) : W p l e R s m args below meth c H locs cells slots Q (F0 m pc ls (.ref a :: rest)) :=
  getf hC i_GU rfl (by decide) tw_80 hP q0 he hv hdg kk
theorem fg_GU_15 {v : Value} (hC : CX p m c cc nL s args R_GU D dA) (hP : va_P D classes ws H) (q0 : Nat) (he : ws[q0]? = some (a, .inr (1, fs))) (hv : fs[1]? = some v) (hdg : decode cc pc = .ok (.getfield 15, 3)) (kk : W p l e R s m args below meth c H locs cells slots Q (F0 m (pc + 3) ls (v :: rest))) : W p l e R s m args below meth c H locs cells slots Q (F0 m pc ls (.ref a :: rest)) :=
  getf hC i_GU rfl (by decide) tw_81 hP q0 he hv hdg kk
theorem fg_GU_18 {v : Value} (hC : CX p m c cc nL s args R_GU D dA) (hP : va_P D classes ws H) (q0 : Nat) (he : ws[q0]? = some (a, .inr (1, fs))) (hv : fs[2]? = some v) (hdg : decode cc pc = .ok (.getfield 18, 3)) (kk : W p l e R s m args below meth c H locs cells slots Q (F0 m (pc + 3) ls (v :: rest))) : W p l e R s m args below meth c H locs cells slots Q (F0 m pc ls (.ref a :: rest)) :=
  getf hC i_GU rfl (by decide) tw_82 hP q0 he hv hdg kk
theorem fg_GU_25 {v : Value} (hC : CX p m c cc nL s args R_GU D dA) (hP : va_P D classes ws H) (q0 : Nat) (he : ws[q0]? = some (a, .inr (0, fs))) (hv : fs[1]? = some v) (hdg : decode cc pc = .ok (.getfield 25, 3)) (kk : W p l e R s m args below meth c H locs cells slots Q (F0 m (pc + 3) ls (v :: rest))) : W p l e R s m args below meth c H locs cells slots Q (F0 m pc ls (.ref a :: rest)) :=
  getN hC i_GR rfl (by decide) nw_25 hP q0 he hv hdg kk
theorem fg_GU_29 {v : Value} (hC : CX p m c cc nL s args R_GU D dA) (hP : va_P D classes ws H) (q0 : Nat) (he : ws[q0]? = some (a, .inr (0, fs))) (hv : fs[0]? = some v) (hdg : decode cc pc = .ok (.getfield 29, 3)) (kk : W p l e R s m args below meth c H locs cells slots Q (F0 m (pc + 3) ls (v :: rest))) : W p l e R s m args below meth c H locs cells slots Q (F0 m pc ls (.ref a :: rest)) :=
  getN hC i_GR rfl (by decide) nw_23 hP q0 he hv hdg kk
theorem fp_GG_9 {x : Int32} (hC : CX p m c cc nL s args R_GG D dA) (hmn : meth.name = "<init>") (hP : va_P D classes ws H) (hD : va_D A ws) (hS : va_S A H0 H locs) (q0 : Nat) (he : ws[q0]? = some (a, .inr (2, fs))) (hlen : 0 < fs.length) (hdg : decode cc pc = .ok (.putfield 9, 3)) (kk : ∀ (H1 : Heap) (locs1 : List Loc), va_P D classes (ws.set q0 (a, .inr (2, fs.set 0 (.int x)))) H1 → va_D A (ws.set q0 (a, .inr (2, fs.set 0 (.int x)))) → va_S A H0 H1 locs1 → W p l e R s m args below meth c H1 locs1 cells slots Q (F0 m (pc + 3) ls rest)) : W p l e R s m args below meth c H locs cells slots Q (F0 m pc ls (.int x :: .ref a :: rest)) :=
  putF (ty0 := t_GG) hC i_GG t_GG_ok n_GG rfl (by decide) tw_104 rfl rfl hmn hP hD hS q0 he rfl rfl hlen hdg kk
theorem fp_GK_17 {x : Int64} (hC : CX p m c cc nL s args R_GK D dA) (hmn : meth.name = "<init>") (hP : va_P D classes ws H) (hD : va_D A ws) (hS : va_S A H0 H locs) (q0 : Nat) (he : ws[q0]? = some (a, .inr (3, fs))) (hlen : 0 < fs.length) (hdg : decode cc pc = .ok (.putfield 17, 3)) (kk : ∀ (H1 : Heap) (locs1 : List Loc), va_P D classes (ws.set q0 (a, .inr (3, fs.set 0 (.long x)))) H1 → va_D A (ws.set q0 (a, .inr (3, fs.set 0 (.long x)))) → va_S A H0 H1 locs1 → W p l e R s m args below meth c H1 locs1 cells slots Q (F0 m (pc + 3) ls rest)) : W p l e R s m args below meth c H locs cells slots Q (F0 m pc ls (.long x :: .ref a :: rest)) :=
  putF (ty0 := t_GK) hC i_GK t_GK_ok n_GK rfl (by decide) tw_254 rfl rfl hmn hP hD hS q0 he rfl rfl hlen hdg kk
theorem fp_GK_26 {x : Nat} (hC : CX p m c cc nL s args R_GK D dA) (hmn : meth.name = "<init>") (hP : va_P D classes ws H) (hD : va_D A ws) (hS : va_S A H0 H locs) (q0 : Nat) (he : ws[q0]? = some (a, .inr (3, fs))) (hlen : 1 < fs.length) (hdg : decode cc pc = .ok (.putfield 26, 3)) (kk : ∀ (H1 : Heap) (locs1 : List Loc), va_P D classes (ws.set q0 (a, .inr (3, fs.set 1 (.ref x)))) H1 → va_D A (ws.set q0 (a, .inr (3, fs.set 1 (.ref x)))) → va_S A H0 H1 locs1 → W p l e R s m args below meth c H1 locs1 cells slots Q (F0 m (pc + 3) ls rest)) : W p l e R s m args below meth c H locs cells slots Q (F0 m pc ls (.ref x :: .ref a :: rest)) :=
  putF (ty0 := t_GK) hC i_GK t_GK_ok n_GK rfl (by decide) tw_256 rfl rfl hmn hP hD hS q0 he rfl rfl hlen hdg kk
theorem fp_GK_34 {x : Nat} (hC : CX p m c cc nL s args R_GK D dA) (hmn : meth.name = "<init>") (hP : va_P D classes ws H) (hD : va_D A ws) (hS : va_S A H0 H locs) (q0 : Nat) (he : ws[q0]? = some (a, .inr (3, fs))) (hlen : 2 < fs.length) (hdg : decode cc pc = .ok (.putfield 34, 3)) (kk : ∀ (H1 : Heap) (locs1 : List Loc), va_P D classes (ws.set q0 (a, .inr (3, fs.set 2 (.ref x)))) H1 → va_D A (ws.set q0 (a, .inr (3, fs.set 2 (.ref x)))) → va_S A H0 H1 locs1 → W p l e R s m args below meth c H1 locs1 cells slots Q (F0 m (pc + 3) ls rest)) : W p l e R s m args below meth c H locs cells slots Q (F0 m pc ls (.ref x :: .ref a :: rest)) :=
  putF (ty0 := t_GK) hC i_GK t_GK_ok n_GK rfl (by decide) tw_258 rfl rfl hmn hP hD hS q0 he rfl rfl hlen hdg kk
theorem fp_GM_7 {x : Nat} (hC : CX p m c cc nL s args R_GM D dA) (hmn : meth.name = "<init>") (hP : va_P D classes ws H) (hD : va_D A ws) (hS : va_S A H0 H locs) (q0 : Nat) (he : ws[q0]? = some (a, .inr (4, fs))) (hlen : 2 < fs.length) (hdg : decode cc pc = .ok (.putfield 7, 3)) (kk : ∀ (H1 : Heap) (locs1 : List Loc), va_P D classes (ws.set q0 (a, .inr (4, fs.set 2 (.ref x)))) H1 → va_D A (ws.set q0 (a, .inr (4, fs.set 2 (.ref x)))) → va_S A H0 H1 locs1 → W p l e R s m args below meth c H1 locs1 cells slots Q (F0 m (pc + 3) ls rest)) : W p l e R s m args below meth c H locs cells slots Q (F0 m pc ls (.ref x :: .ref a :: rest)) :=
  putF (ty0 := t_GM) hC i_GM t_GM_ok n_GM rfl (by decide) tw_295 rfl rfl hmn hP hD hS q0 he rfl rfl hlen hdg kk
theorem fp_GM_13 {x : Nat} (hC : CX p m c cc nL s args R_GM D dA) (hmn : meth.name = "<init>") (hP : va_P D classes ws H) (hD : va_D A ws) (hS : va_S A H0 H locs) (q0 : Nat) (he : ws[q0]? = some (a, .inr (4, fs))) (hlen : 3 < fs.length) (hdg : decode cc pc = .ok (.putfield 13, 3)) (kk : ∀ (H1 : Heap) (locs1 : List Loc), va_P D classes (ws.set q0 (a, .inr (4, fs.set 3 (.ref x)))) H1 → va_D A (ws.set q0 (a, .inr (4, fs.set 3 (.ref x)))) → va_S A H0 H1 locs1 → W p l e R s m args below meth c H1 locs1 cells slots Q (F0 m (pc + 3) ls rest)) : W p l e R s m args below meth c H locs cells slots Q (F0 m pc ls (.ref x :: .ref a :: rest)) :=
  putF (ty0 := t_GM) hC i_GM t_GM_ok n_GM rfl (by decide) tw_296 rfl rfl hmn hP hD hS q0 he rfl rfl hlen hdg kk
theorem fp_GM_16 {x : Nat} (hC : CX p m c cc nL s args R_GM D dA) (hmn : meth.name = "<init>") (hP : va_P D classes ws H) (hD : va_D A ws) (hS : va_S A H0 H locs) (q0 : Nat) (he : ws[q0]? = some (a, .inr (4, fs))) (hlen : 4 < fs.length) (hdg : decode cc pc = .ok (.putfield 16, 3)) (kk : ∀ (H1 : Heap) (locs1 : List Loc), va_P D classes (ws.set q0 (a, .inr (4, fs.set 4 (.ref x)))) H1 → va_D A (ws.set q0 (a, .inr (4, fs.set 4 (.ref x)))) → va_S A H0 H1 locs1 → W p l e R s m args below meth c H1 locs1 cells slots Q (F0 m (pc + 3) ls rest)) : W p l e R s m args below meth c H locs cells slots Q (F0 m pc ls (.ref x :: .ref a :: rest)) :=
  putF (ty0 := t_GM) hC i_GM t_GM_ok n_GM rfl (by decide) tw_297 rfl rfl hmn hP hD hS q0 he rfl rfl hlen hdg kk
theorem fp_GM_19 {x : Nat} (hC : CX p m c cc nL s args R_GM D dA) (hmn : meth.name = "<init>") (hP : va_P D classes ws H) (hD : va_D A ws) (hS : va_S A H0 H locs) (q0 : Nat) (he : ws[q0]? = some (a, .inr (4, fs))) (hlen : 5 < fs.length) (hdg : decode cc pc = .ok (.putfield 19, 3)) (kk : ∀ (H1 : Heap) (locs1 : List Loc), va_P D classes (ws.set q0 (a, .inr (4, fs.set 5 (.ref x)))) H1 → va_D A (ws.set q0 (a, .inr (4, fs.set 5 (.ref x)))) → va_S A H0 H1 locs1 → W p l e R s m args below meth c H1 locs1 cells slots Q (F0 m (pc + 3) ls rest)) : W p l e R s m args below meth c H locs cells slots Q (F0 m pc ls (.ref x :: .ref a :: rest)) :=
  putF (ty0 := t_GM) hC i_GM t_GM_ok n_GM rfl (by decide) tw_298 rfl rfl hmn hP hD hS q0 he rfl rfl hlen hdg kk
theorem fp_GM_22 {x : Nat} (hC : CX p m c cc nL s args R_GM D dA) (hmn : meth.name = "<init>") (hP : va_P D classes ws H) (hD : va_D A ws) (hS : va_S A H0 H locs) (q0 : Nat) (he : ws[q0]? = some (a, .inr (4, fs))) (hlen : 6 < fs.length) (hdg : decode cc pc = .ok (.putfield 22, 3)) (kk : ∀ (H1 : Heap) (locs1 : List Loc), va_P D classes (ws.set q0 (a, .inr (4, fs.set 6 (.ref x)))) H1 → va_D A (ws.set q0 (a, .inr (4, fs.set 6 (.ref x)))) → va_S A H0 H1 locs1 → W p l e R s m args below meth c H1 locs1 cells slots Q (F0 m (pc + 3) ls rest)) : W p l e R s m args below meth c H locs cells slots Q (F0 m pc ls (.ref x :: .ref a :: rest)) :=
  putF (ty0 := t_GM) hC i_GM t_GM_ok n_GM rfl (by decide) tw_299 rfl rfl hmn hP hD hS q0 he rfl rfl hlen hdg kk
theorem fp_GM_25 {x : Nat} (hC : CX p m c cc nL s args R_GM D dA) (hmn : meth.name = "<init>") (hP : va_P D classes ws H) (hD : va_D A ws) (hS : va_S A H0 H locs) (q0 : Nat) (he : ws[q0]? = some (a, .inr (4, fs))) (hlen : 7 < fs.length) (hdg : decode cc pc = .ok (.putfield 25, 3)) (kk : ∀ (H1 : Heap) (locs1 : List Loc), va_P D classes (ws.set q0 (a, .inr (4, fs.set 7 (.ref x)))) H1 → va_D A (ws.set q0 (a, .inr (4, fs.set 7 (.ref x)))) → va_S A H0 H1 locs1 → W p l e R s m args below meth c H1 locs1 cells slots Q (F0 m (pc + 3) ls rest)) : W p l e R s m args below meth c H locs cells slots Q (F0 m pc ls (.ref x :: .ref a :: rest)) :=
  putF (ty0 := t_GM) hC i_GM t_GM_ok n_GM rfl (by decide) tw_300 rfl rfl hmn hP hD hS q0 he rfl rfl hlen hdg kk
theorem fp_GM_28 {x : Nat} (hC : CX p m c cc nL s args R_GM D dA) (hmn : meth.name = "<init>") (hP : va_P D classes ws H) (hD : va_D A ws) (hS : va_S A H0 H locs) (q0 : Nat) (he : ws[q0]? = some (a, .inr (4, fs))) (hlen : 10 < fs.length) (hdg : decode cc pc = .ok (.putfield 28, 3)) (kk : ∀ (H1 : Heap) (locs1 : List Loc), va_P D classes (ws.set q0 (a, .inr (4, fs.set 10 (.ref x)))) H1 → va_D A (ws.set q0 (a, .inr (4, fs.set 10 (.ref x)))) → va_S A H0 H1 locs1 → W p l e R s m args below meth c H1 locs1 cells slots Q (F0 m (pc + 3) ls rest)) : W p l e R s m args below meth c H locs cells slots Q (F0 m pc ls (.ref x :: .ref a :: rest)) :=
  putF (ty0 := t_GM) hC i_GM t_GM_ok n_GM rfl (by decide) tw_303 rfl rfl hmn hP hD hS q0 he rfl rfl hlen hdg kk
theorem fp_GM_32 {x : Nat} (hC : CX p m c cc nL s args R_GM D dA) (hmn : meth.name = "<init>") (hP : va_P D classes ws H) (hD : va_D A ws) (hS : va_S A H0 H locs) (q0 : Nat) (he : ws[q0]? = some (a, .inr (4, fs))) (hlen : 11 < fs.length) (hdg : decode cc pc = .ok (.putfield 32, 3)) (kk : ∀ (H1 : Heap) (locs1 : List Loc), va_P D classes (ws.set q0 (a, .inr (4, fs.set 11 (.ref x)))) H1 → va_D A (ws.set q0 (a, .inr (4, fs.set 11 (.ref x)))) → va_S A H0 H1 locs1 → W p l e R s m args below meth c H1 locs1 cells slots Q (F0 m (pc + 3) ls rest)) : W p l e R s m args below meth c H locs cells slots Q (F0 m pc ls (.ref x :: .ref a :: rest)) :=
  putF (ty0 := t_GM) hC i_GM t_GM_ok n_GM rfl (by decide) tw_304 rfl rfl hmn hP hD hS q0 he rfl rfl hlen hdg kk
theorem fp_GM_35 {x : Nat} (hC : CX p m c cc nL s args R_GM D dA) (hmn : meth.name = "<init>") (hP : va_P D classes ws H) (hD : va_D A ws) (hS : va_S A H0 H locs) (q0 : Nat) (he : ws[q0]? = some (a, .inr (4, fs))) (hlen : 13 < fs.length) (hdg : decode cc pc = .ok (.putfield 35, 3)) (kk : ∀ (H1 : Heap) (locs1 : List Loc), va_P D classes (ws.set q0 (a, .inr (4, fs.set 13 (.ref x)))) H1 → va_D A (ws.set q0 (a, .inr (4, fs.set 13 (.ref x)))) → va_S A H0 H1 locs1 → W p l e R s m args below meth c H1 locs1 cells slots Q (F0 m (pc + 3) ls rest)) : W p l e R s m args below meth c H locs cells slots Q (F0 m pc ls (.ref x :: .ref a :: rest)) :=
  putF (ty0 := t_GM) hC i_GM t_GM_ok n_GM rfl (by decide) tw_306 rfl rfl hmn hP hD hS q0 he rfl rfl hlen hdg kk
theorem fp_GM_39 {x : Nat} (hC : CX p m c cc nL s args R_GM D dA) (hmn : meth.name = "<init>") (hP : va_P D classes ws H) (hD : va_D A ws) (hS : va_S A H0 H locs) (q0 : Nat) (he : ws[q0]? = some (a, .inr (4, fs))) (hlen : 14 < fs.length) (hdg : decode cc pc = .ok (.putfield 39, 3)) (kk : ∀ (H1 : Heap) (locs1 : List Loc), va_P D classes (ws.set q0 (a, .inr (4, fs.set 14 (.ref x)))) H1 → va_D A (ws.set q0 (a, .inr (4, fs.set 14 (.ref x)))) → va_S A H0 H1 locs1 → W p l e R s m args below meth c H1 locs1 cells slots Q (F0 m (pc + 3) ls rest)) : W p l e R s m args below meth c H locs cells slots Q (F0 m pc ls (.ref x :: .ref a :: rest)) :=
  putF (ty0 := t_GM) hC i_GM t_GM_ok n_GM rfl (by decide) tw_307 rfl rfl hmn hP hD hS q0 he rfl rfl hlen hdg kk
theorem fp_GM_42 {x : Nat} (hC : CX p m c cc nL s args R_GM D dA) (hmn : meth.name = "<init>") (hP : va_P D classes ws H) (hD : va_D A ws) (hS : va_S A H0 H locs) (q0 : Nat) (he : ws[q0]? = some (a, .inr (4, fs))) (hlen : 15 < fs.length) (hdg : decode cc pc = .ok (.putfield 42, 3)) (kk : ∀ (H1 : Heap) (locs1 : List Loc), va_P D classes (ws.set q0 (a, .inr (4, fs.set 15 (.ref x)))) H1 → va_D A (ws.set q0 (a, .inr (4, fs.set 15 (.ref x)))) → va_S A H0 H1 locs1 → W p l e R s m args below meth c H1 locs1 cells slots Q (F0 m (pc + 3) ls rest)) : W p l e R s m args below meth c H locs cells slots Q (F0 m pc ls (.ref x :: .ref a :: rest)) :=
  putF (ty0 := t_GM) hC i_GM t_GM_ok n_GM rfl (by decide) tw_308 rfl rfl hmn hP hD hS q0 he rfl rfl hlen hdg kk
theorem fp_GM_45 {x : Int32} (hC : CX p m c cc nL s args R_GM D dA) (hP : va_P D classes ws H) (hD : va_D A ws) (hS : va_S A H0 H locs) (q0 : Nat) (he : ws[q0]? = some (a, .inr (4, fs))) (hlen : 0 < fs.length) (hdg : decode cc pc = .ok (.putfield 45, 3)) (kk : ∀ (H1 : Heap) (locs1 : List Loc), va_P D classes (ws.set q0 (a, .inr (4, fs.set 0 (.int x)))) H1 → va_D A (ws.set q0 (a, .inr (4, fs.set 0 (.int x)))) → va_S A H0 H1 locs1 → W p l e R s m args below meth c H1 locs1 cells slots Q (F0 m (pc + 3) ls rest)) : W p l e R s m args below meth c H locs cells slots Q (F0 m pc ls (.int x :: .ref a :: rest)) :=
  putf (ty0 := t_GM) hC i_GM t_GM_ok n_GM rfl (by decide) tw_293 rfl hP hD hS q0 he rfl rfl hlen hdg kk
theorem fp_GM_50 {x : Int32} (hC : CX p m c cc nL s args R_GM D dA) (hP : va_P D classes ws H) (hD : va_D A ws) (hS : va_S A H0 H locs) (q0 : Nat) (he : ws[q0]? = some (a, .inr (4, fs))) (hlen : 1 < fs.length) (hdg : decode cc pc = .ok (.putfield 50, 3)) (kk : ∀ (H1 : Heap) (locs1 : List Loc), va_P D classes (ws.set q0 (a, .inr (4, fs.set 1 (.int x)))) H1 → va_D A (ws.set q0 (a, .inr (4, fs.set 1 (.int x)))) → va_S A H0 H1 locs1 → W p l e R s m args below meth c H1 locs1 cells slots Q (F0 m (pc + 3) ls rest)) : W p l e R s m args below meth c H locs cells slots Q (F0 m pc ls (.int x :: .ref a :: rest)) :=
  putf (ty0 := t_GM) hC i_GM t_GM_ok n_GM rfl (by decide) tw_294 rfl hP hD hS q0 he rfl rfl hlen hdg kk
theorem fp_GM_61 {x : Int32} (hC : CX p m c cc nL s args R_GM D dA) (hP : va_P D classes ws H) (hD : va_D A ws) (hS : va_S A H0 H locs) (q0 : Nat) (he : ws[q0]? = some (a, .inr (4, fs))) (hlen : 12 < fs.length) (hdg : decode cc pc = .ok (.putfield 61, 3)) (kk : ∀ (H1 : Heap) (locs1 : List Loc), va_P D classes (ws.set q0 (a, .inr (4, fs.set 12 (.int x)))) H1 → va_D A (ws.set q0 (a, .inr (4, fs.set 12 (.int x)))) → va_S A H0 H1 locs1 → W p l e R s m args below meth c H1 locs1 cells slots Q (F0 m (pc + 3) ls rest)) : W p l e R s m args below meth c H locs cells slots Q (F0 m pc ls (.int x :: .ref a :: rest)) :=
  putf (ty0 := t_GM) hC i_GM t_GM_ok n_GM rfl (by decide) tw_305 rfl hP hD hS q0 he rfl rfl hlen hdg kk
theorem fp_GM_79 {x : Int32} (hC : CX p m c cc nL s args R_GM D dA) (hP : va_P D classes ws H) (hD : va_D A ws) (hS : va_S A H0 H locs) (q0 : Nat) (he : ws[q0]? = some (a, .inr (4, fs))) (hlen : 9 < fs.length) (hdg : decode cc pc = .ok (.putfield 79, 3)) (kk : ∀ (H1 : Heap) (locs1 : List Loc), va_P D classes (ws.set q0 (a, .inr (4, fs.set 9 (.int x)))) H1 → va_D A (ws.set q0 (a, .inr (4, fs.set 9 (.int x)))) → va_S A H0 H1 locs1 → W p l e R s m args below meth c H1 locs1 cells slots Q (F0 m (pc + 3) ls rest)) : W p l e R s m args below meth c H locs cells slots Q (F0 m pc ls (.int x :: .ref a :: rest)) :=
  putf (ty0 := t_GM) hC i_GM t_GM_ok n_GM rfl (by decide) tw_302 rfl hP hD hS q0 he rfl rfl hlen hdg kk
theorem fp_GM_90 {x : Int32} (hC : CX p m c cc nL s args R_GM D dA) (hP : va_P D classes ws H) (hD : va_D A ws) (hS : va_S A H0 H locs) (q0 : Nat) (he : ws[q0]? = some (a, .inr (4, fs))) (hlen : 8 < fs.length) (hdg : decode cc pc = .ok (.putfield 90, 3)) (kk : ∀ (H1 : Heap) (locs1 : List Loc), va_P D classes (ws.set q0 (a, .inr (4, fs.set 8 (.int x)))) H1 → va_D A (ws.set q0 (a, .inr (4, fs.set 8 (.int x)))) → va_S A H0 H1 locs1 → W p l e R s m args below meth c H1 locs1 cells slots Q (F0 m (pc + 3) ls rest)) : W p l e R s m args below meth c H locs cells slots Q (F0 m pc ls (.int x :: .ref a :: rest)) :=
  putf (ty0 := t_GM) hC i_GM t_GM_ok n_GM rfl (by decide) tw_301 rfl hP hD hS q0 he rfl rfl hlen hdg kk
theorem fp_GR_9 {x : Nat} (hC : CX p m c cc nL s args R_GR D dA) (hmn : meth.name = "<init>") (hP : va_P D classes ws H) (hD : va_D A ws) (hS : va_S A H0 H locs) (q0 : Nat) (he : ws[q0]? = some (a, .inr (0, fs))) (hlen : 0 < fs.length) (hdg : decode cc pc = .ok (.putfield 9, 3)) (kk : ∀ (H1 : Heap) (locs1 : List Loc), va_P D classes (ws.set q0 (a, .inr (0, fs.set 0 (.ref x)))) H1 → va_D A (ws.set q0 (a, .inr (0, fs.set 0 (.ref x)))) → va_S A H0 H1 locs1 → W p l e R s m args below meth c H1 locs1 cells slots Q (F0 m (pc + 3) ls rest)) : W p l e R s m args below meth c H locs cells slots Q (F0 m pc ls (.ref x :: .ref a :: rest)) :=
  putF (ty0 := t_GR) hC i_GR t_GR_ok n_GR rfl (by decide) tw_22 rfl rfl hmn hP hD hS q0 he rfl rfl hlen hdg kk
theorem fp_GR_13 {x : Nat} (hC : CX p m c cc nL s args R_GR D dA) (hmn : meth.name = "<init>") (hP : va_P D classes ws H) (hD : va_D A ws) (hS : va_S A H0 H locs) (q0 : Nat) (he : ws[q0]? = some (a, .inr (0, fs))) (hlen : 1 < fs.length) (hdg : decode cc pc = .ok (.putfield 13, 3)) (kk : ∀ (H1 : Heap) (locs1 : List Loc), va_P D classes (ws.set q0 (a, .inr (0, fs.set 1 (.ref x)))) H1 → va_D A (ws.set q0 (a, .inr (0, fs.set 1 (.ref x)))) → va_S A H0 H1 locs1 → W p l e R s m args below meth c H1 locs1 cells slots Q (F0 m (pc + 3) ls rest)) : W p l e R s m args below meth c H locs cells slots Q (F0 m pc ls (.ref x :: .ref a :: rest)) :=
  putF (ty0 := t_GR) hC i_GR t_GR_ok n_GR rfl (by decide) tw_24 rfl rfl hmn hP hD hS q0 he rfl rfl hlen hdg kk
theorem fp_GR_18 {x : Nat} (hC : CX p m c cc nL s args R_GR D dA) (hmn : meth.name = "<init>") (hP : va_P D classes ws H) (hD : va_D A ws) (hS : va_S A H0 H locs) (q0 : Nat) (he : ws[q0]? = some (a, .inr (0, fs))) (hlen : 3 < fs.length) (hdg : decode cc pc = .ok (.putfield 18, 3)) (kk : ∀ (H1 : Heap) (locs1 : List Loc), va_P D classes (ws.set q0 (a, .inr (0, fs.set 3 (.ref x)))) H1 → va_D A (ws.set q0 (a, .inr (0, fs.set 3 (.ref x)))) → va_S A H0 H1 locs1 → W p l e R s m args below meth c H1 locs1 cells slots Q (F0 m (pc + 3) ls rest)) : W p l e R s m args below meth c H locs cells slots Q (F0 m pc ls (.ref x :: .ref a :: rest)) :=
  putF (ty0 := t_GR) hC i_GR t_GR_ok n_GR rfl (by decide) tw_27 rfl rfl hmn hP hD hS q0 he rfl rfl hlen hdg kk
theorem fp_GR_22 {x : Nat} (hC : CX p m c cc nL s args R_GR D dA) (hmn : meth.name = "<init>") (hP : va_P D classes ws H) (hD : va_D A ws) (hS : va_S A H0 H locs) (q0 : Nat) (he : ws[q0]? = some (a, .inr (0, fs))) (hlen : 6 < fs.length) (hdg : decode cc pc = .ok (.putfield 22, 3)) (kk : ∀ (H1 : Heap) (locs1 : List Loc), va_P D classes (ws.set q0 (a, .inr (0, fs.set 6 (.ref x)))) H1 → va_D A (ws.set q0 (a, .inr (0, fs.set 6 (.ref x)))) → va_S A H0 H1 locs1 → W p l e R s m args below meth c H1 locs1 cells slots Q (F0 m (pc + 3) ls rest)) : W p l e R s m args below meth c H locs cells slots Q (F0 m pc ls (.ref x :: .ref a :: rest)) :=
  putF (ty0 := t_GR) hC i_GR t_GR_ok n_GR rfl (by decide) tw_32 rfl rfl hmn hP hD hS q0 he rfl rfl hlen hdg kk
theorem fp_GR_26 {x : Nat} (hC : CX p m c cc nL s args R_GR D dA) (hmn : meth.name = "<init>") (hP : va_P D classes ws H) (hD : va_D A ws) (hS : va_S A H0 H locs) (q0 : Nat) (he : ws[q0]? = some (a, .inr (0, fs))) (hlen : 7 < fs.length) (hdg : decode cc pc = .ok (.putfield 26, 3)) (kk : ∀ (H1 : Heap) (locs1 : List Loc), va_P D classes (ws.set q0 (a, .inr (0, fs.set 7 (.ref x)))) H1 → va_D A (ws.set q0 (a, .inr (0, fs.set 7 (.ref x)))) → va_S A H0 H1 locs1 → W p l e R s m args below meth c H1 locs1 cells slots Q (F0 m (pc + 3) ls rest)) : W p l e R s m args below meth c H locs cells slots Q (F0 m pc ls (.ref x :: .ref a :: rest)) :=
  putF (ty0 := t_GR) hC i_GR t_GR_ok n_GR rfl (by decide) tw_33 rfl rfl hmn hP hD hS q0 he rfl rfl hlen hdg kk
theorem fp_GR_31 {x : Nat} (hC : CX p m c cc nL s args R_GR D dA) (hmn : meth.name = "<init>") (hP : va_P D classes ws H) (hD : va_D A ws) (hS : va_S A H0 H locs) (q0 : Nat) (he : ws[q0]? = some (a, .inr (0, fs))) (hlen : 9 < fs.length) (hdg : decode cc pc = .ok (.putfield 31, 3)) (kk : ∀ (H1 : Heap) (locs1 : List Loc), va_P D classes (ws.set q0 (a, .inr (0, fs.set 9 (.ref x)))) H1 → va_D A (ws.set q0 (a, .inr (0, fs.set 9 (.ref x)))) → va_S A H0 H1 locs1 → W p l e R s m args below meth c H1 locs1 cells slots Q (F0 m (pc + 3) ls rest)) : W p l e R s m args below meth c H locs cells slots Q (F0 m pc ls (.ref x :: .ref a :: rest)) :=
  putF (ty0 := t_GR) hC i_GR t_GR_ok n_GR rfl (by decide) tw_35 rfl rfl hmn hP hD hS q0 he rfl rfl hlen hdg kk
theorem fp_GR_36 {x : Int32} (hC : CX p m c cc nL s args R_GR D dA) (hP : va_P D classes ws H) (hD : va_D A ws) (hS : va_S A H0 H locs) (q0 : Nat) (he : ws[q0]? = some (a, .inr (0, fs))) (hlen : 2 < fs.length) (hdg : decode cc pc = .ok (.putfield 36, 3)) (kk : ∀ (H1 : Heap) (locs1 : List Loc), va_P D classes (ws.set q0 (a, .inr (0, fs.set 2 (.int x)))) H1 → va_D A (ws.set q0 (a, .inr (0, fs.set 2 (.int x)))) → va_S A H0 H1 locs1 → W p l e R s m args below meth c H1 locs1 cells slots Q (F0 m (pc + 3) ls rest)) : W p l e R s m args below meth c H locs cells slots Q (F0 m pc ls (.int x :: .ref a :: rest)) :=
  putf (ty0 := t_GR) hC i_GR t_GR_ok n_GR rfl (by decide) tw_26 rfl hP hD hS q0 he rfl rfl hlen hdg kk
theorem fp_GR_40 {x : Int32} (hC : CX p m c cc nL s args R_GR D dA) (hP : va_P D classes ws H) (hD : va_D A ws) (hS : va_S A H0 H locs) (q0 : Nat) (he : ws[q0]? = some (a, .inr (0, fs))) (hlen : 4 < fs.length) (hdg : decode cc pc = .ok (.putfield 40, 3)) (kk : ∀ (H1 : Heap) (locs1 : List Loc), va_P D classes (ws.set q0 (a, .inr (0, fs.set 4 (.int x)))) H1 → va_D A (ws.set q0 (a, .inr (0, fs.set 4 (.int x)))) → va_S A H0 H1 locs1 → W p l e R s m args below meth c H1 locs1 cells slots Q (F0 m (pc + 3) ls rest)) : W p l e R s m args below meth c H locs cells slots Q (F0 m pc ls (.int x :: .ref a :: rest)) :=
  putf (ty0 := t_GR) hC i_GR t_GR_ok n_GR rfl (by decide) tw_30 rfl hP hD hS q0 he rfl rfl hlen hdg kk
theorem fp_GR_57 {x : Int32} (hC : CX p m c cc nL s args R_GR D dA) (hP : va_P D classes ws H) (hD : va_D A ws) (hS : va_S A H0 H locs) (q0 : Nat) (he : ws[q0]? = some (a, .inr (0, fs))) (hlen : 5 < fs.length) (hdg : decode cc pc = .ok (.putfield 57, 3)) (kk : ∀ (H1 : Heap) (locs1 : List Loc), va_P D classes (ws.set q0 (a, .inr (0, fs.set 5 (.int x)))) H1 → va_D A (ws.set q0 (a, .inr (0, fs.set 5 (.int x)))) → va_S A H0 H1 locs1 → W p l e R s m args below meth c H1 locs1 cells slots Q (F0 m (pc + 3) ls rest)) : W p l e R s m args below meth c H locs cells slots Q (F0 m pc ls (.int x :: .ref a :: rest)) :=
  putf (ty0 := t_GR) hC i_GR t_GR_ok n_GR rfl (by decide) tw_31 rfl hP hD hS q0 he rfl rfl hlen hdg kk
theorem fp_GR_78 {x : Int32} (hC : CX p m c cc nL s args R_GR D dA) (hP : va_P D classes ws H) (hD : va_D A ws) (hS : va_S A H0 H locs) (q0 : Nat) (he : ws[q0]? = some (a, .inr (0, fs))) (hlen : 8 < fs.length) (hdg : decode cc pc = .ok (.putfield 78, 3)) (kk : ∀ (H1 : Heap) (locs1 : List Loc), va_P D classes (ws.set q0 (a, .inr (0, fs.set 8 (.int x)))) H1 → va_D A (ws.set q0 (a, .inr (0, fs.set 8 (.int x)))) → va_S A H0 H1 locs1 → W p l e R s m args below meth c H1 locs1 cells slots Q (F0 m (pc + 3) ls rest)) : W p l e R s m args below meth c H locs cells slots Q (F0 m pc ls (.int x :: .ref a :: rest)) :=
  putf (ty0 := t_GR) hC i_GR t_GR_ok n_GR rfl (by decide) tw_34 rfl hP hD hS q0 he rfl rfl hlen hdg kk
theorem fp_GR_118 {x : Int32} (hC : CX p m c cc nL s args R_GR D dA) (hP : va_P D classes ws H) (hD : va_D A ws) (hS : va_S A H0 H locs) (q0 : Nat) (he : ws[q0]? = some (a, .inr (0, fs))) (hlen : 10 < fs.length) (hdg : decode cc pc = .ok (.putfield 118, 3)) (kk : ∀ (H1 : Heap) (locs1 : List Loc), va_P D classes (ws.set q0 (a, .inr (0, fs.set 10 (.int x)))) H1 → va_D A (ws.set q0 (a, .inr (0, fs.set 10 (.int x)))) → va_S A H0 H1 locs1 → W p l e R s m args below meth c H1 locs1 cells slots Q (F0 m (pc + 3) ls rest)) : W p l e R s m args below meth c H locs cells slots Q (F0 m pc ls (.int x :: .ref a :: rest)) :=
  putf (ty0 := t_GR) hC i_GR t_GR_ok n_GR rfl (by decide) tw_36 rfl hP hD hS q0 he rfl rfl hlen hdg kk
theorem fp_GU_9 {x : Int32} (hC : CX p m c cc nL s args R_GU D dA) (hmn : meth.name = "<init>") (hP : va_P D classes ws H) (hD : va_D A ws) (hS : va_S A H0 H locs) (q0 : Nat) (he : ws[q0]? = some (a, .inr (1, fs))) (hlen : 0 < fs.length) (hdg : decode cc pc = .ok (.putfield 9, 3)) (kk : ∀ (H1 : Heap) (locs1 : List Loc), va_P D classes (ws.set q0 (a, .inr (1, fs.set 0 (.int x)))) H1 → va_D A (ws.set q0 (a, .inr (1, fs.set 0 (.int x)))) → va_S A H0 H1 locs1 → W p l e R s m args below meth c H1 locs1 cells slots Q (F0 m (pc + 3) ls rest)) : W p l e R s m args below meth c H locs cells slots Q (F0 m pc ls (.int x :: .ref a :: rest)) :=
  putF (ty0 := t_GU) hC i_GU t_GU_ok n_GU rfl (by decide) tw_80 rfl rfl hmn hP hD hS q0 he rfl rfl hlen hdg kk
theorem fp_GU_15 {x : Int32} (hC : CX p m c cc nL s args R_GU D dA) (hmn : meth.name = "<init>") (hP : va_P D classes ws H) (hD : va_D A ws) (hS : va_S A H0 H locs) (q0 : Nat) (he : ws[q0]? = some (a, .inr (1, fs))) (hlen : 1 < fs.length) (hdg : decode cc pc = .ok (.putfield 15, 3)) (kk : ∀ (H1 : Heap) (locs1 : List Loc), va_P D classes (ws.set q0 (a, .inr (1, fs.set 1 (.int x)))) H1 → va_D A (ws.set q0 (a, .inr (1, fs.set 1 (.int x)))) → va_S A H0 H1 locs1 → W p l e R s m args below meth c H1 locs1 cells slots Q (F0 m (pc + 3) ls rest)) : W p l e R s m args below meth c H locs cells slots Q (F0 m pc ls (.int x :: .ref a :: rest)) :=
  putF (ty0 := t_GU) hC i_GU t_GU_ok n_GU rfl (by decide) tw_81 rfl rfl hmn hP hD hS q0 he rfl rfl hlen hdg kk
theorem fp_GU_18 {x : Int32} (hC : CX p m c cc nL s args R_GU D dA) (hmn : meth.name = "<init>") (hP : va_P D classes ws H) (hD : va_D A ws) (hS : va_S A H0 H locs) (q0 : Nat) (he : ws[q0]? = some (a, .inr (1, fs))) (hlen : 2 < fs.length) (hdg : decode cc pc = .ok (.putfield 18, 3)) (kk : ∀ (H1 : Heap) (locs1 : List Loc), va_P D classes (ws.set q0 (a, .inr (1, fs.set 2 (.int x)))) H1 → va_D A (ws.set q0 (a, .inr (1, fs.set 2 (.int x)))) → va_S A H0 H1 locs1 → W p l e R s m args below meth c H1 locs1 cells slots Q (F0 m (pc + 3) ls rest)) : W p l e R s m args below meth c H locs cells slots Q (F0 m pc ls (.int x :: .ref a :: rest)) :=
  putF (ty0 := t_GU) hC i_GU t_GU_ok n_GU rfl (by decide) tw_82 rfl rfl hmn hP hD hS q0 he rfl rfl hlen hdg kk
end FLD
end
section
/-! the mathematical state of both systems, what each question answers of it, and the worlds that hold it -/
abbrev T3 : Type := Int32 × Int32 × Int32
/-- rules (how many, weights, extras); the row that is now; the cursor; classes (how many, lows, highs); kept rows -/
abbrev St : Type := (Nat × (Nat → Int32) × (Nat → Int32)) × (Nat × (Nat → T3)) × Nat × (Nat × (Nat → Int64) × (Nat → Int64)) × (Nat × (Nat → Nat) × (Nat → Nat → T3))
abbrev St.nr (S : St) : Nat := S.1.1
abbrev St.W (S : St) : Nat → Int32 := S.1.2.1
abbrev St.E (S : St) : Nat → Int32 := S.1.2.2
abbrev St.n (S : St) : Nat := S.2.1.1
abbrev St.row (S : St) : Nat → T3 := S.2.1.2
abbrev St.cur (S : St) : Nat := S.2.2.1
abbrev St.nc (S : St) : Nat := S.2.2.2.1.1
abbrev St.lo (S : St) : Nat → Int64 := S.2.2.2.1.2.1
abbrev St.hi (S : St) : Nat → Int64 := S.2.2.2.1.2.2
abbrev St.nk (S : St) : Nat := S.2.2.2.2.1
abbrev St.ks (S : St) : Nat → Nat := S.2.2.2.2.2.1
abbrev St.kr (S : St) : Nat → Nat → T3 := S.2.2.2.2.2.2
/-- a step is a guess (-1, depth, 0), or a use (rule, place, width) -/
def okT (nr : Nat) (t : T3) : Prop := (t.1 = -1 ∧ (∃ d : Nat, 1 ≤ d ∧ d ≤ 20 ∧ t.2.1 = nI d) ∧ t.2.2 = 0) ∨ (∃ r q w : Nat, r < nr ∧ q < 256 ∧ 1 ≤ w ∧ w ≤ 9 ∧ t = (nI r, nI q, nI w))
def Inv (S : St) : Prop := S.nr ≤ 40 ∧ S.n ≤ 200 ∧ S.cur ≤ S.n ∧ S.nc ≤ 20 ∧ S.nk ≤ 10 ∧
  (∀ r, r < S.nr → (∃ w : Nat, w ≤ 10000 ∧ S.W r = nI w) ∧ ∃ x : Nat, x ≤ 100000 ∧ S.E r = nI x) ∧
  (∀ k, k < S.n → okT S.nr (S.row k)) ∧ (∀ j, j < S.nk → S.ks j ≤ 200 ∧ ∀ k, k < S.ks j → okT S.nr (S.kr j k)) ∧
  (∀ k, k < S.nc → 0 ≤ S.lo k ∧ S.lo k ≤ S.hi k ∧ S.hi k ≤ 100000000) ∧ (∀ i j, i < S.nc → j < S.nc → i ≠ j → S.hi i < S.lo j ∨ S.hi j < S.lo i)
abbrev Frs (r : Nat → T3) (x : Int32) (k : Nat) : Prop := ∀ j, j < k → (r j).1 ≠ x
/-- a step's cost, behind those ahead of it -/
def cst (W E : Nat → Int32) (r : Nat → T3) (k : Nat) : Int64 :=
  if (r k).1 = -1 then 1000 * (r k).2.1.toInt64 * (if 0 < k ∧ (r (k - 1)).1 = -1 then 2 else 1)
  else (W (r k).1.toNatClampNeg).toInt64 * (12 - (r k).2.2).toInt64 / 4 + (if Frs r (r k).1 k then (E (r k).1.toNatClampNeg).toInt64 else 0)
def sm (W E : Nat → Int32) (r : Nat → T3) : Nat → Int64
  | 0 => 0
  | k + 1 => sm W E r k + cst W E r k
/-- a step's number -/
def cde (t : T3) : Int32 := if t.1 = -1 then -1 - t.2.1 else (t.1 * 256 + t.2.1) * 10 + t.2.2
/-- the class that a sum falls into, -1: none -/
abbrev inC (lo hi : Nat → Int64) (v : Int64) (k : Nat) : Prop := lo k ≤ v ∧ v ≤ hi k
def cof (lo hi : Nat → Int64) (v : Int64) : Nat → Nat → Int32
  | 0, _ => -1
  | d + 1, k => if inC lo hi v k then nI k else cof lo hi v d (k + 1)
theorem cof_some {lo hi : Nat → Int64} {v : Int64} {c : Nat} (hc : inC lo hi v c) : ∀ d k, k ≤ c → c < k + d → (∀ j, k ≤ j → j < c → ¬ inC lo hi v j) → cof lo hi v d k = nI c := by
  intro d
  induction d with
  | zero => intro k h1 h2; omega
  | succ d ih =>
    intro k h1 h2 h3
    unfold cof
    by_cases h : k = c
    · subst h; rw [if_pos hc]
    · rw [if_neg (h3 k (Nat.le_refl _) (by omega))]
      exact ih (k + 1) (by omega) (by omega) (fun j a b => h3 j (by omega) b)
theorem cof_none {lo hi : Nat → Int64} {v : Int64} : ∀ d k, (∀ j, k ≤ j → j < k + d → ¬ inC lo hi v j) → cof lo hi v d k = -1 := by
  intro d
  induction d with
  | zero => intro k _; rfl
  | succ d ih =>
    intro k h
    unfold cof
    rw [if_neg (h k (Nat.le_refl _) (by omega))]
    exact ih (k + 1) (fun j a b => h j (by omega) (by omega))
theorem cof_cases (lo hi : Nat → Int64) (v : Int64) : ∀ d k, (∃ c, k ≤ c ∧ c < k + d ∧ inC lo hi v c ∧ (∀ j, k ≤ j → j < c → ¬ inC lo hi v j) ∧ cof lo hi v d k = nI c) ∨ (cof lo hi v d k = -1 ∧ ∀ j, k ≤ j → j < k + d → ¬ inC lo hi v j) := by
  intro d
  induction d with
  | zero => intro k; exact Or.inr ⟨rfl, fun j a b => by omega⟩
  | succ d ih =>
    intro k
    by_cases h : inC lo hi v k
    · exact Or.inl ⟨k, Nat.le_refl _, by omega, h, fun j a b => by omega, by unfold cof; rw [if_pos h]⟩
    · rcases ih (k + 1) with ⟨c, h1, h2, h3, h4, h5⟩ | ⟨h1, h2⟩
      · refine Or.inl ⟨c, by omega, by omega, h3, fun j a b => ?_, by unfold cof; rw [if_neg h]; exact h5⟩
        by_cases hj : j = k
        · subst hj; exact h
        · exact h4 j (by omega) b
      · refine Or.inr ⟨by unfold cof; rw [if_neg h]; exact h1, fun j a b => ?_⟩
        by_cases hj : j = k
        · subst hj; exact h
        · exact h2 j (by omega) (by omega)
def St.cls (S : St) (v : Int64) : Int32 := cof S.lo S.hi v S.nc 0
/-- how many places below n have it -/
def cnt (P : Nat → Prop) [DecidablePred P] : Nat → Nat
  | 0 => 0
  | k + 1 => cnt P k + (if P k then 1 else 0)
theorem cnt_le (P : Nat → Prop) [DecidablePred P] : ∀ n, cnt P n ≤ n := by
  intro n
  induction n with
  | zero => exact Nat.le_refl _
  | succ n ih => unfold cnt; split <;> omega
theorem cnt_congr {P P' : Nat → Prop} [DecidablePred P] [DecidablePred P'] : ∀ n, (∀ k, k < n → (P k ↔ P' k)) → cnt P n = cnt P' n := by
  intro n
  induction n with
  | zero => intro _; rfl
  | succ n ih =>
    intro h
    unfold cnt
    rw [ih (fun k hk => h k (by omega))]
    by_cases hp : P n
    · rw [if_pos hp, if_pos ((h n (by omega)).mp hp)]
    · rw [if_neg hp, if_neg (fun z => hp ((h n (by omega)).mpr z))]
/-- the first number from v on that no class holds (F: any number large enough) -/
def gp (S : St) : Nat → Int64 → Int64
  | 0, v => v
  | F + 1, v => if S.cls v < 0 then v else gp S F (S.hi (S.cls v).toNatClampNeg + 1)
/-- a step that stands alone; one at a new place -/
abbrev aln (t : T3) : Prop := t.1 ≠ -1 ∧ t.2.2 = 1
abbrev nw1 (r : Nat → T3) (i : Nat) : Prop := aln (r i) ∧ ∀ j, j < i → ¬ (aln (r j) ∧ (r j).2.1 = (r i).2.1)
def stk (r : Nat → T3) (x : Int32) : Nat → Nat → Int32 → Int32
  | 0, _, _ => -1
  | d + 1, i, c => if nw1 r i then (if c = x then (r i).2.1 else stk r x d (i + 1) (c + 1)) else stk r x d (i + 1) c
/-- the longest run of costs that don't fall -/
def rn (C : Nat → Int64) : Nat → Int32 × Int32
  | 0 => (0, 0)
  | k + 1 => ((if (rn C k).1 < (if 0 < k ∧ C (k - 1) ≤ C k then (rn C k).2 + 1 else 1) then (if 0 < k ∧ C (k - 1) ≤ C k then (rn C k).2 + 1 else 1) else (rn C k).1), (if 0 < k ∧ C (k - 1) ≤ C k then (rn C k).2 + 1 else 1))
/-- the costs of a rule's uses -/
def hdI (C : Nat → Int64) (r : Nat → T3) (q : Int32) : Nat → Int64
  | 0 => -1
  | k + 1 => if (r k).1 = q then (if 0 < hdI C r q k then hdI C r q k else 0) + C k else hdI C r q k
def hdO (C : Nat → Int64) (r : Nat → T3) (n : Nat) : Nat → Int32 × Int64
  | 0 => (-1, -1)
  | q + 1 => if hdI C r (nI q) n ≤ (hdO C r n q).2 then hdO C r n q else (nI q, hdI C r (nI q) n)
def hnt (t : T3) (d : Int32) : Int32 := if t.1 = -1 then (if d = 4 then t.2.1 else -2) else (if d = 1 then t.2.1 / 16 else if d = 2 then t.2.1 else if d = 3 then t.1 else t.2.2)
abbrev St.cost (S : St) (k : Nat) : Int64 := cst S.W S.E S.row k
abbrev St.sum (S : St) (k : Nat) : Int64 := sm S.W S.E S.row k
/-- f is g in order on n places: falling (longs), rising (ints) -/
def SD (f g : Nat → Int64) (n : Nat) : Prop := (∀ i j, i < j → j < n → f j ≤ f i) ∧ ∀ v : Int64, cnt (fun k => f k = v) n = cnt (fun k => g k = v) n
def SU (f g : Nat → Int32) (n : Nat) : Prop := (∀ i j, i < j → j < n → f i ≤ f j) ∧ ∀ v : Int32, cnt (fun k => f k = v) n = cnt (fun k => g k = v) n
/-! the world of a GradeRows: ad 0 the object, ad 1 .. ad 6 its arrays; L: steps and kept rows -/
abbrev gf (ad : Nat → Nat) (S : St) : List Value := [.ref (ad 1), .ref (ad 2), .int (nI S.nr), .ref (ad 3), .int (nI S.n), .int (nI S.cur), .ref (ad 4), .ref (ad 5), .int (nI S.nc), .ref (ad 6), .int (nI S.nk)]
abbrev gx (dA : Nat → ClassId) (ad : Nat → Nat) (S : St) (sf kf : Nat → Option Nat) : va_W := [(ad 0, .inr (0, gf ad S)), (ad 1, .inl (dA 0, 40, .inl S.W)), (ad 2, .inl (dA 0, 40, .inl S.E)), (ad 3, .inl (dA 3, 200, .inr (.inr (.inr (.inr sf))))), (ad 4, .inl (dA 1, 20, .inr (.inl S.lo))), (ad 5, .inl (dA 1, 20, .inr (.inl S.hi))), (ad 6, .inl (dA 4, 10, .inr (.inr (.inr (.inr kf)))))]
def stp (t : T3) (a : Nat) (L : va_W) : Prop := (t.1 = -1 ∧ (a, .inr (2, [.int t.2.1])) ∈ L) ∨ (t.1 ≠ -1 ∧ (a, .inr (1, [.int t.1, .int t.2.1, .int t.2.2])) ∈ L)
def kpt (dA : Nat → ClassId) (W E : Nat → Int32) (n : Nat) (r : Nat → T3) (a : Nat) (L : va_W) : Prop := ∃ (c d : Nat) (f : Nat → Int64) (g : Nat → Int32), (a, .inr (3, [.long (sm W E r n), .ref c, .ref d])) ∈ L ∧ (c, .inl (dA 1, n, .inr (.inl f))) ∈ L ∧ (d, .inl (dA 0, n, .inl g)) ∈ L ∧ SD f (cst W E r) n ∧ SU g (fun k => cde (r k)) n
def GX (D : va_G) (dA : Nat → ClassId) (A : Nat → Prop) (ad : Nat → Nat) (S : St) (sf kf : Nat → Option Nat) (L : va_W) (H : Heap) : Prop :=
  va_P D classes (gx dA ad S sf kf ++ L) H ∧ va_D A (gx dA ad S sf kf ++ L) ∧ (∀ k, k < S.n → ∃ a, sf k = some a ∧ stp (S.row k) a L) ∧ (∀ j, j < S.nk → ∃ a, kf j = some a ∧ kpt dA S.W S.E (S.ks j) (S.kr j) a L)
def GW (D : va_G) (dA : Nat → ClassId) (A : Nat → Prop) (ad : Nat → Nat) (S : St) (H : Heap) : Prop := ∃ (sf kf : Nat → Option Nat) (L : va_W), GX D dA A ad S sf kf L H
/-! the world of a GradeRowsModel: md 0 the object, md 1 .. md 11 its arrays -/
abbrev mf (md : Nat → Nat) (S : St) : List Value := [.int 0, .int (nI S.nr), .ref (md 1), .ref (md 2), .ref (md 3), .ref (md 4), .ref (md 5), .ref (md 6), .int (nI S.nk), .int (nI S.nc), .ref (md 7), .ref (md 8), .int (nI S.cur), .ref (md 9), .ref (md 10), .ref (md 11)]
abbrev mx (dA : Nat → ClassId) (md : Nat → Nat) (S : St) (sz br wh wi sn : Nat → Int32) (mi th : Nat → Int64) : va_W := [(md 0, .inr (4, mf md S)), (md 1, .inl (dA 0, 40, .inl S.W)), (md 2, .inl (dA 0, 40, .inl S.E)), (md 3, .inl (dA 0, 11, .inl sz)), (md 4, .inl (dA 0, 2200, .inl br)), (md 5, .inl (dA 0, 2200, .inl wh)), (md 6, .inl (dA 0, 2200, .inl wi)), (md 7, .inl (dA 1, 20, .inr (.inl S.lo))), (md 8, .inl (dA 1, 20, .inr (.inl S.hi))), (md 9, .inl (dA 2, 256, .inl sn)), (md 10, .inl (dA 1, 200, .inr (.inl mi))), (md 11, .inl (dA 1, 200, .inr (.inl th)))]
def RowAt (br wh wi : Nat → Int32) (j n : Nat) (r : Nat → T3) : Prop := ∀ k, k < n → br (200 * j + k) = (r k).1 ∧ wh (200 * j + k) = (r k).2.1 ∧ wi (200 * j + k) = (r k).2.2
def Rows (S : St) (sz br wh wi : Nat → Int32) : Prop := sz 10 = nI S.n ∧ RowAt br wh wi 10 S.n S.row ∧ ∀ j, j < S.nk → sz j = nI (S.ks j) ∧ RowAt br wh wi j (S.ks j) (S.kr j)
def MX (D : va_G) (dA : Nat → ClassId) (A : Nat → Prop) (md : Nat → Nat) (S : St) (sz br wh wi sn : Nat → Int32) (mi th : Nat → Int64) (H : Heap) : Prop := va_P D classes (mx dA md S sz br wh wi sn mi th) H ∧ va_D A (mx dA md S sz br wh wi sn mi th) ∧ Rows S sz br wh wi
def MW (D : va_G) (dA : Nat → ClassId) (A : Nat → Prop) (md : Nat → Nat) (S : St) (H : Heap) : Prop := ∃ (sz br wh wi sn : Nat → Int32) (mi th : Nat → Int64), MX D dA A md S sz br wh wi sn mi th H
/-! frame -/
theorem P_kept {D : va_G} {ws : va_W} {A : Nat → Prop} {H H1 : Heap} (hP : va_P D classes ws H) (hD : va_D A ws) (h : ∀ q : Nat, q < H.size → A q → H1[q]? = H[q]?) : va_P D classes ws H1 := hP.kept (fun k q hk => h q.1 (hP k q hk).lt (hD.2 k q hk))
theorem GW.kept {D : va_G} {dA : Nat → ClassId} {A : Nat → Prop} {ad : Nat → Nat} {S : St} {H H1 : Heap} (hG : GW D dA A ad S H) (h : ∀ q : Nat, q < H.size → A q → H1[q]? = H[q]?) : GW D dA A ad S H1 := by
  obtain ⟨sf, kf, L, hP, hD, h1⟩ := hG
  exact ⟨sf, kf, L, P_kept hP hD h, hD, h1⟩
theorem GW.weaken {D : va_G} {dA : Nat → ClassId} {A B : Nat → Prop} {ad : Nat → Nat} {S : St} {H : Heap} (hG : GW D dA A ad S H) (h : ∀ q : Nat, q < H.size → A q → B q) : GW D dA B ad S H := by
  obtain ⟨sf, kf, L, hP, hD, h1⟩ := hG
  exact ⟨sf, kf, L, hP, hD.weaken (fun k q hk => h q.1 (hP k q hk).lt), h1⟩
theorem MW.kept {D : va_G} {dA : Nat → ClassId} {A : Nat → Prop} {md : Nat → Nat} {S : St} {H H1 : Heap} (hG : MW D dA A md S H) (h : ∀ q : Nat, q < H.size → A q → H1[q]? = H[q]?) : MW D dA A md S H1 := by
  obtain ⟨sz, br, wh, wi, sn, mi, th, hP, hD, h1⟩ := hG
  exact ⟨sz, br, wh, wi, sn, mi, th, P_kept hP hD h, hD, h1⟩
theorem MW.weaken {D : va_G} {dA : Nat → ClassId} {A B : Nat → Prop} {md : Nat → Nat} {S : St} {H : Heap} (hG : MW D dA A md S H) (h : ∀ q : Nat, q < H.size → A q → B q) : MW D dA B md S H := by
  obtain ⟨sz, br, wh, wi, sn, mi, th, hP, hD, h1⟩ := hG
  exact ⟨sz, br, wh, wi, sn, mi, th, hP, hD.weaken (fun k q hk => h q.1 (hP k q hk).lt), h1⟩
theorem at_of {D : va_G} {X L : va_W} {H : Heap} {q : Nat × va_E} (hP : va_P D classes (X ++ L) H) (hq : q ∈ L) : va_at D classes q H := by
  obtain ⟨k, hk⟩ := List.getElem?_of_mem (List.mem_append_right X hq)
  exact hP k q hk
theorem one_of {D : va_G} {X L : va_W} {H : Heap} {q : Nat × va_E} (hP : va_P D classes (X ++ L) H) (hq : q ∈ L) : va_P D classes [q] H := by
  intro k x hk
  cases k with
  | zero => cases hk; exact at_of hP hq
  | succ k => simp at hk
end
section
section STEPS
variable {p : Program} {e : Env} {R : Room} {s : State} {m : MethodId} {args : Array Value} {below : List Frame} {meth : Method} {c : Code} {locs : List Loc} {cells slots : Nat} {Q : State → Prop}
variable {cc : ByteArray} {pc nL : Nat} {ls : Array Slot} {rest : List Value} {own : String} {l : Launch} {D : va_G} {dA : Nat → ClassId} {A : Nat → Prop} {H H0 : Heap} {S : St} {ad md : Nat → Nat}
set_option maxHeartbeats 4000000 in
set_option maxRecDepth 100000 in
theorem c_GS_rule (l : Launch) {a : Nat} : Met l y_GS_rule (wd y_GS_rule b_GS_rule 1 (some .int)) ({ frames := 0, cells := 0, slots := 0, locals := 0 } : Room) (va_Pc [.ref a] (PX D dA H)) (vp_Si (fun v => v = (-1))) 0 0 (fun _ => False) := by
  refine mkMet (by decide) (Nat.le_of_ble_eq_true rfl) ?_
  intro p e s m below meth c ls hC hr hlk hnm hl hH
  have hl : lv_has ls 1 [(0, .ref a)] := hl
  refine lv_iconst (pc := 0) (v := (-1)) hC.x hC.b d_GS_rule_0 (by decide) ?_
  exact ro_i (pc := 1) hC hr hlk hH d_GS_rule_1 rfl
set_option maxHeartbeats 4000000 in
set_option maxRecDepth 100000 in
theorem c_GS_place (l : Launch) {a : Nat} : Met l y_GS_place (wd y_GS_place b_GS_place 1 (some .int)) ({ frames := 0, cells := 0, slots := 0, locals := 0 } : Room) (va_Pc [.ref a] (PX D dA H)) (vp_Si (fun v => v = (-1))) 0 0 (fun _ => False) := by
  refine mkMet (by decide) (Nat.le_of_ble_eq_true rfl) ?_
  intro p e s m below meth c ls hC hr hlk hnm hl hH
  have hl : lv_has ls 1 [(0, .ref a)] := hl
  refine lv_iconst (pc := 0) (v := (-1)) hC.x hC.b d_GS_place_0 (by decide) ?_
  exact ro_i (pc := 1) hC hr hlk hH d_GS_place_1 rfl
set_option maxHeartbeats 4000000 in
set_option maxRecDepth 100000 in
theorem c_GS_isAlone (l : Launch) {a : Nat} : Met l y_GS_isAlone (wd y_GS_isAlone b_GS_isAlone 1 (some .boolean)) ({ frames := 0, cells := 0, slots := 0, locals := 0 } : Room) (va_Pc [.ref a] (PX D dA H)) (vp_Si (fun v => v = 0)) 0 0 (fun _ => False) := by
  refine mkMet (by decide) (Nat.le_of_ble_eq_true rfl) ?_
  intro p e s m below meth c ls hC hr hlk hnm hl hH
  have hl : lv_has ls 1 [(0, .ref a)] := hl
  refine lv_iconst (pc := 0) (v := 0) hC.x hC.b d_GS_isAlone_0 (by decide) ?_
  exact ro_z (pc := 1) hC hr hlk hH d_GS_isAlone_1 (by decide) rfl
set_option maxHeartbeats 4000000 in
set_option maxRecDepth 100000 in
theorem c_GU_rule (l : Launch) {a : Nat} {t : T3} (hu : va_P D classes [(a, .inr (1, [.int t.1, .int t.2.1, .int t.2.2]))] H) : Met l y_GU_rule (wd y_GU_rule b_GU_rule 1 (some .int)) ({ frames := 0, cells := 0, slots := 0, locals := 0 } : Room) (va_Pc [.ref a] (PX D dA H)) (vp_Si (fun v => v = t.1)) 0 0 (fun _ => False) := by
  refine mkMet (by decide) (Nat.le_of_ble_eq_true rfl) ?_
  intro p e s m below meth c ls hC hr hlk hnm hl hH
  have hl : lv_has ls 1 [(0, .ref a)] := hl
  refine lv_aload_n (pc := 0) hC.x hC.b d_GU_rule_0 rfl (lv_at hl 0 rfl) ?_
  refine fg_GU_9 (pc := 1) hC hu 0 rfl rfl d_GU_rule_1 ?_
  exact ro_i (pc := 4) hC hr hlk hH d_GU_rule_4 rfl
set_option maxHeartbeats 4000000 in
set_option maxRecDepth 100000 in
theorem c_GU_place (l : Launch) {a : Nat} {t : T3} (hu : va_P D classes [(a, .inr (1, [.int t.1, .int t.2.1, .int t.2.2]))] H) : Met l y_GU_place (wd y_GU_place b_GU_place 1 (some .int)) ({ frames := 0, cells := 0, slots := 0, locals := 0 } : Room) (va_Pc [.ref a] (PX D dA H)) (vp_Si (fun v => v = t.2.1)) 0 0 (fun _ => False) := by
  refine mkMet (by decide) (Nat.le_of_ble_eq_true rfl) ?_
  intro p e s m below meth c ls hC hr hlk hnm hl hH
  have hl : lv_has ls 1 [(0, .ref a)] := hl
  refine lv_aload_n (pc := 0) hC.x hC.b d_GU_place_0 rfl (lv_at hl 0 rfl) ?_
  refine fg_GU_15 (pc := 1) hC hu 0 rfl rfl d_GU_place_1 ?_
  exact ro_i (pc := 4) hC hr hlk hH d_GU_place_4 rfl
set_option maxHeartbeats 4000000 in
set_option maxRecDepth 100000 in
theorem c_GU_isAlone (l : Launch) {a : Nat} {t : T3} (hu : va_P D classes [(a, .inr (1, [.int t.1, .int t.2.1, .int t.2.2]))] H) : Met l y_GU_isAlone (wd y_GU_isAlone b_GU_isAlone 1 (some .boolean)) ({ frames := 0, cells := 0, slots := 0, locals := 0 } : Room) (va_Pc [.ref a] (PX D dA H)) (vp_Si (fun v => v = if t.2.2 = 1 then 1 else 0)) 0 0 (fun _ => False) := by
  refine mkMet (by decide) (Nat.le_of_ble_eq_true rfl) ?_
  intro p e s m below meth c ls hC hr hlk hnm hl hH
  have hl : lv_has ls 1 [(0, .ref a)] := hl
  refine lv_aload_n (pc := 0) hC.x hC.b d_GU_isAlone_0 rfl (lv_at hl 0 rfl) ?_
  refine fg_GU_18 (pc := 1) hC hu 0 rfl rfl d_GU_isAlone_1 ?_
  refine lv_iconst (pc := 4) (v := 1) hC.x hC.b d_GU_isAlone_4 (by decide) ?_
  refine lv_icmp_ne (pc := 5) (tgt := 12) hC.x hC.b d_GU_isAlone_5 (by decide) (fun c_5 => ?_) (fun c_5 => ?_)
  · refine lv_iconst (pc := 12) (v := 0) hC.x hC.b d_GU_isAlone_12 (by decide) ?_
    exact ro_z (pc := 13) hC hr hlk hH d_GU_isAlone_13 (by decide) (if_neg c_5).symm
  refine lv_iconst (pc := 8) (v := 1) hC.x hC.b d_GU_isAlone_8 (by decide) ?_
  refine lv_goto (pc := 9) (tgt := 13) hC.x hC.b d_GU_isAlone_9 (by decide) ?_
  exact ro_z (pc := 13) hC hr hlk hH d_GU_isAlone_13 (by decide) (if_pos c_5).symm
set_option maxHeartbeats 4000000 in
set_option maxRecDepth 100000 in
theorem c_GU_code (l : Launch) {a : Nat} {t : T3} (hu : va_P D classes [(a, .inr (1, [.int t.1, .int t.2.1, .int t.2.2]))] H) : Met l y_GU_code (wd y_GU_code b_GU_code 1 (some .int)) ({ frames := 0, cells := 0, slots := 0, locals := 0 } : Room) (va_Pc [.ref a] (PX D dA H)) (vp_Si (fun v => v = (t.1 * 256 + t.2.1) * 10 + t.2.2)) 0 0 (fun _ => False) := by
  refine mkMet (by decide) (Nat.le_of_ble_eq_true rfl) ?_
  intro p e s m below meth c ls hC hr hlk hnm hl hH
  have hl : lv_has ls 1 [(0, .ref a)] := hl
  refine lv_aload_n (pc := 0) hC.x hC.b d_GU_code_0 rfl (lv_at hl 0 rfl) ?_
  refine fg_GU_9 (pc := 1) hC hu 0 rfl rfl d_GU_code_1 ?_
  refine lv_sipush (pc := 4) (v := 256) hC.x hC.b d_GU_code_4 (by decide) ?_
  refine lv_imul (pc := 7) hC.x hC.b d_GU_code_7 ?_
  refine lv_aload_n (pc := 8) hC.x hC.b d_GU_code_8 rfl (lv_at hl 0 rfl) ?_
  refine fg_GU_15 (pc := 9) hC hu 0 rfl rfl d_GU_code_9 ?_
  refine lv_iadd (pc := 12) hC.x hC.b d_GU_code_12 ?_
  refine lv_bipush (pc := 13) (v := 10) hC.x hC.b d_GU_code_13 (by decide) ?_
  refine lv_imul (pc := 15) hC.x hC.b d_GU_code_15 ?_
  refine lv_aload_n (pc := 16) hC.x hC.b d_GU_code_16 rfl (lv_at hl 0 rfl) ?_
  refine fg_GU_18 (pc := 17) hC hu 0 rfl rfl d_GU_code_17 ?_
  refine lv_iadd (pc := 20) hC.x hC.b d_GU_code_20 ?_
  exact ro_i (pc := 21) hC hr hlk hH d_GU_code_21 rfl
set_option maxHeartbeats 4000000 in
set_option maxRecDepth 100000 in
theorem c_GU_hint (l : Launch) {a : Nat} {t : T3} (hu : va_P D classes [(a, .inr (1, [.int t.1, .int t.2.1, .int t.2.2]))] H) {d : Int32} (hd : d = 1 ∨ d = 2 ∨ d = 3 ∨ d = 4) : Met l y_GU_hint (wd y_GU_hint b_GU_hint 2 (some .int)) ({ frames := 0, cells := 0, slots := 0, locals := 0 } : Room) (va_Pc [.ref a, .int d] (PX D dA H)) (vp_Si (fun v => v = if d = 1 then t.2.1 / 16 else if d = 2 then t.2.1 else if d = 3 then t.1 else t.2.2)) 0 0 (fun _ => False) := by
  refine mkMet (by decide) (Nat.le_of_ble_eq_true rfl) ?_
  intro p e s m below meth c ls hC hr hlk hnm hl hH
  have hl : lv_has ls 2 [(0, .ref a), (1, .int d)] := hl
  refine lv_iload_n (pc := 0) hC.x hC.b d_GU_hint_0 rfl (lv_at hl 1 rfl) ?_
  rcases hd with rfl | rfl | rfl | rfl
  · refine lv_tableIn (pc := 1) (tgt := 28) hC.x hC.b d_GU_hint_1 (by decide) (by decide) rfl (by decide) ?_
    refine lv_aload_n (pc := 28) hC.x hC.b d_GU_hint_28 rfl (lv_at hl 0 rfl) ?_
    refine fg_GU_15 (pc := 29) hC hu 0 rfl rfl d_GU_hint_29 ?_
    refine lv_bipush (pc := 32) (v := 16) hC.x hC.b d_GU_hint_32 (by decide) ?_
    refine lv_idiv (pc := 34) hC.x hC.b d_GU_hint_34 (by decide) ?_
    exact ro_i (pc := 35) hC hr hlk hH d_GU_hint_35 rfl
  · refine lv_tableIn (pc := 1) (tgt := 36) hC.x hC.b d_GU_hint_1 (by decide) (by decide) rfl (by decide) ?_
    refine lv_aload_n (pc := 36) hC.x hC.b d_GU_hint_36 rfl (lv_at hl 0 rfl) ?_
    refine fg_GU_15 (pc := 37) hC hu 0 rfl rfl d_GU_hint_37 ?_
    exact ro_i (pc := 40) hC hr hlk hH d_GU_hint_40 rfl
  · refine lv_tableIn (pc := 1) (tgt := 41) hC.x hC.b d_GU_hint_1 (by decide) (by decide) rfl (by decide) ?_
    refine lv_aload_n (pc := 41) hC.x hC.b d_GU_hint_41 rfl (lv_at hl 0 rfl) ?_
    refine fg_GU_9 (pc := 42) hC hu 0 rfl rfl d_GU_hint_42 ?_
    exact ro_i (pc := 45) hC hr hlk hH d_GU_hint_45 rfl
  · refine lv_tableOut (pc := 1) (tgt := 46) hC.x hC.b d_GU_hint_1 (by decide) (by decide) ?_
    refine lv_aload_n (pc := 46) hC.x hC.b d_GU_hint_46 rfl (lv_at hl 0 rfl) ?_
    refine fg_GU_18 (pc := 47) hC hu 0 rfl rfl d_GU_hint_47 ?_
    exact ro_i (pc := 50) hC hr hlk hH d_GU_hint_50 rfl
set_option maxHeartbeats 4000000 in
set_option maxRecDepth 100000 in
theorem c_GG_code (l : Launch) {a : Nat} {t : T3} (hu : va_P D classes [(a, .inr (2, [.int t.2.1]))] H) : Met l y_GG_code (wd y_GG_code b_GG_code 1 (some .int)) ({ frames := 0, cells := 0, slots := 0, locals := 0 } : Room) (va_Pc [.ref a] (PX D dA H)) (vp_Si (fun v => v = -1 - t.2.1)) 0 0 (fun _ => False) := by
  refine mkMet (by decide) (Nat.le_of_ble_eq_true rfl) ?_
  intro p e s m below meth c ls hC hr hlk hnm hl hH
  have hl : lv_has ls 1 [(0, .ref a)] := hl
  refine lv_iconst (pc := 0) (v := (-1)) hC.x hC.b d_GG_code_0 (by decide) ?_
  refine lv_aload_n (pc := 1) hC.x hC.b d_GG_code_1 rfl (lv_at hl 0 rfl) ?_
  refine fg_GG_9 (pc := 2) hC hu 0 rfl rfl d_GG_code_2 ?_
  refine lv_isub (pc := 5) hC.x hC.b d_GG_code_5 ?_
  exact ro_i (pc := 6) hC hr hlk hH d_GG_code_6 rfl
set_option maxHeartbeats 4000000 in
set_option maxRecDepth 100000 in
theorem c_GG_hint (l : Launch) {a : Nat} {t : T3} (hu : va_P D classes [(a, .inr (2, [.int t.2.1]))] H) {d : Int32} : Met l y_GG_hint (wd y_GG_hint b_GG_hint 2 (some .int)) ({ frames := 0, cells := 0, slots := 0, locals := 0 } : Room) (va_Pc [.ref a, .int d] (PX D dA H)) (vp_Si (fun v => v = if d = 4 then t.2.1 else -2)) 0 0 (fun _ => False) := by
  refine mkMet (by decide) (Nat.le_of_ble_eq_true rfl) ?_
  intro p e s m below meth c ls hC hr hlk hnm hl hH
  have hl : lv_has ls 2 [(0, .ref a), (1, .int d)] := hl
  refine lv_iload_n (pc := 0) hC.x hC.b d_GG_hint_0 rfl (lv_at hl 1 rfl) ?_
  refine lv_iconst (pc := 1) (v := 4) hC.x hC.b d_GG_hint_1 (by decide) ?_
  refine lv_icmp_ne (pc := 2) (tgt := 12) hC.x hC.b d_GG_hint_2 (by decide) (fun c_2 => ?_) (fun c_2 => ?_)
  · refine lv_bipush (pc := 12) (v := (-2)) hC.x hC.b d_GG_hint_12 (by decide) ?_
    exact ro_i (pc := 14) hC hr hlk hH d_GG_hint_14 (if_neg c_2).symm
  refine lv_aload_n (pc := 5) hC.x hC.b d_GG_hint_5 rfl (lv_at hl 0 rfl) ?_
  refine fg_GG_9 (pc := 6) hC hu 0 rfl rfl d_GG_hint_6 ?_
  refine lv_goto (pc := 9) (tgt := 14) hC.x hC.b d_GG_hint_9 (by decide) ?_
  exact ro_i (pc := 14) hC hr hlk hH d_GG_hint_14 (if_pos c_2).symm
abbrev plc (t : T3) : Int32 := if t.1 = -1 then -1 else t.2.1
set_option maxHeartbeats 4000000 in
set_option maxRecDepth 100000 in
theorem k_GR_66_GS_rule {a : Nat} {t : T3} {X Lw : va_W} (hC : CX p m c cc nL s args R_GR D dA) (hP : va_P D classes (X ++ Lw) H) (ht : stp t a Lw) (hsz : ls.size = nL) (hW : (rest.map fun v => v.category).sum ≤ 8) (hR : 0 + 1 ≤ R.frames ∧ 8 + (1 + 11) + 0 ≤ R.locals) (hf : cells + 0 ≤ R.cells ∧ slots + 0 ≤ R.slots) (hdg : decode cc pc = .ok (.invokevirtual 66, 3)) (kk : W p l e R s m args below meth c H locs cells slots Q (F0 m (pc + 3) ls (.int t.1 :: rest))) : W p l e R s m args below meth c H locs cells slots Q (F0 m pc ls (.ref a :: rest)) := by
  rcases ht with ⟨h1, h2⟩ | ⟨h1, h2⟩
  · exact vp_callSi (va_Run.run (runU (C := R_GG) hC (c_GS_rule l) tw_133 tw_142 tw_128 tw_129 tw_127 tw_3 ⟨by decide +kernel, by decide +kernel, rfl⟩ rfl rfl (ci := 2) rfl rfl (at_of hP h2) hsz rfl hW ⟨Nat.le_trans (by decide) hR.1, Nat.le_trans (by decide) hR.2⟩ hf hdg)) (fun r hr => by rw [hr]; rw [h1] at kk; exact kk)
  · exact vp_callSi (va_Run.run (runO hC (c_GU_rule l (one_of hP h2)) tw_132 tw_142 tw_128 tw_130 tw_131 tw_4 tw_127 tw_133 ⟨by decide +kernel, by decide +kernel, rfl⟩ rfl rfl (ci := 1) rfl rfl (at_of hP h2) hsz rfl hW ⟨Nat.le_trans (by decide) hR.1, Nat.le_trans (by decide) hR.2⟩ hf hdg)) (fun r hr => by rw [hr]; exact kk)
set_option maxHeartbeats 4000000 in
set_option maxRecDepth 100000 in
theorem k_GG_19_GS_rule {a : Nat} {t : T3} {X Lw : va_W} (hC : CX p m c cc nL s args R_GG D dA) (hP : va_P D classes (X ++ Lw) H) (ht : stp t a Lw) (hsz : ls.size = nL) (hW : (rest.map fun v => v.category).sum ≤ 8) (hR : 0 + 1 ≤ R.frames ∧ 8 + (1 + 11) + 0 ≤ R.locals) (hf : cells + 0 ≤ R.cells ∧ slots + 0 ≤ R.slots) (hdg : decode cc pc = .ok (.invokevirtual 19, 3)) (kk : W p l e R s m args below meth c H locs cells slots Q (F0 m (pc + 3) ls (.int t.1 :: rest))) : W p l e R s m args below meth c H locs cells slots Q (F0 m pc ls (.ref a :: rest)) := by
  rcases ht with ⟨h1, h2⟩ | ⟨h1, h2⟩
  · exact vp_callSi (va_Run.run (runU (C := R_GG) hC (c_GS_rule l) tw_133 tw_126 tw_128 tw_129 tw_127 tw_3 ⟨by decide +kernel, by decide +kernel, rfl⟩ rfl rfl (ci := 2) rfl rfl (at_of hP h2) hsz rfl hW ⟨Nat.le_trans (by decide) hR.1, Nat.le_trans (by decide) hR.2⟩ hf hdg)) (fun r hr => by rw [hr]; rw [h1] at kk; exact kk)
  · exact vp_callSi (va_Run.run (runO hC (c_GU_rule l (one_of hP h2)) tw_132 tw_126 tw_128 tw_130 tw_131 tw_4 tw_127 tw_133 ⟨by decide +kernel, by decide +kernel, rfl⟩ rfl rfl (ci := 1) rfl rfl (at_of hP h2) hsz rfl hW ⟨Nat.le_trans (by decide) hR.1, Nat.le_trans (by decide) hR.2⟩ hf hdg)) (fun r hr => by rw [hr]; exact kk)
set_option maxHeartbeats 4000000 in
set_option maxRecDepth 100000 in
theorem k_GR_96_GS_place {a : Nat} {t : T3} {X Lw : va_W} (hC : CX p m c cc nL s args R_GR D dA) (hP : va_P D classes (X ++ Lw) H) (ht : stp t a Lw) (hsz : ls.size = nL) (hW : (rest.map fun v => v.category).sum ≤ 8) (hR : 0 + 1 ≤ R.frames ∧ 8 + (1 + 11) + 0 ≤ R.locals) (hf : cells + 0 ≤ R.cells ∧ slots + 0 ≤ R.slots) (hdg : decode cc pc = .ok (.invokevirtual 96, 3)) (kk : W p l e R s m args below meth c H locs cells slots Q (F0 m (pc + 3) ls (.int (plc t) :: rest))) : W p l e R s m args below meth c H locs cells slots Q (F0 m pc ls (.ref a :: rest)) := by
  rcases ht with ⟨h1, h2⟩ | ⟨h1, h2⟩
  · exact vp_callSi (va_Run.run (runU (C := R_GG) hC (c_GS_place l) tw_190 tw_183 tw_185 tw_186 tw_184 tw_3 ⟨by decide +kernel, by decide +kernel, rfl⟩ rfl rfl (ci := 2) rfl rfl (at_of hP h2) hsz rfl hW ⟨Nat.le_trans (by decide) hR.1, Nat.le_trans (by decide) hR.2⟩ hf hdg)) (fun r hr => by rw [hr]; rw [show plc t = -1 from if_pos h1] at kk; exact kk)
  · exact vp_callSi (va_Run.run (runO hC (c_GU_place l (one_of hP h2)) tw_189 tw_183 tw_185 tw_187 tw_188 tw_4 tw_184 tw_190 ⟨by decide +kernel, by decide +kernel, rfl⟩ rfl rfl (ci := 1) rfl rfl (at_of hP h2) hsz rfl hW ⟨Nat.le_trans (by decide) hR.1, Nat.le_trans (by decide) hR.2⟩ hf hdg)) (fun r hr => by rw [hr]; rw [show plc t = t.2.1 from if_neg h1] at kk; exact kk)
set_option maxHeartbeats 4000000 in
set_option maxRecDepth 100000 in
theorem k_GR_92_GS_isAlone {a : Nat} {t : T3} {X Lw : va_W} (hC : CX p m c cc nL s args R_GR D dA) (hP : va_P D classes (X ++ Lw) H) (ht : stp t a Lw) (hsz : ls.size = nL) (hW : (rest.map fun v => v.category).sum ≤ 8) (hR : 0 + 1 ≤ R.frames ∧ 8 + (1 + 11) + 0 ≤ R.locals) (hf : cells + 0 ≤ R.cells ∧ slots + 0 ≤ R.slots) (hdg : decode cc pc = .ok (.invokevirtual 92, 3)) (kk : W p l e R s m args below meth c H locs cells slots Q (F0 m (pc + 3) ls (.int (if aln t then 1 else 0) :: rest))) : W p l e R s m args below meth c H locs cells slots Q (F0 m pc ls (.ref a :: rest)) := by
  rcases ht with ⟨h1, h2⟩ | ⟨h1, h2⟩
  · exact vp_callSi (va_Run.run (runU (C := R_GG) hC (c_GS_isAlone l) tw_182 tw_175 tw_177 tw_178 tw_176 tw_3 ⟨by decide +kernel, by decide +kernel, rfl⟩ rfl rfl (ci := 2) rfl rfl (at_of hP h2) hsz rfl hW ⟨Nat.le_trans (by decide) hR.1, Nat.le_trans (by decide) hR.2⟩ hf hdg)) (fun r hr => by rw [hr]; rw [if_neg (fun z => z.1 h1)] at kk; exact kk)
  · exact vp_callSi (va_Run.run (runO hC (c_GU_isAlone l (one_of hP h2)) tw_181 tw_175 tw_177 tw_179 tw_180 tw_4 tw_176 tw_182 ⟨by decide +kernel, by decide +kernel, rfl⟩ rfl rfl (ci := 1) rfl rfl (at_of hP h2) hsz rfl hW ⟨Nat.le_trans (by decide) hR.1, Nat.le_trans (by decide) hR.2⟩ hf hdg)) (fun r hr => by rw [hr]; rw [show (if t.2.2 = 1 then (1 : Int32) else 0) = (if aln t then 1 else 0) from by by_cases hz : t.2.2 = 1 <;> simp [hz, h1]]; exact kk)
set_option maxHeartbeats 4000000 in
set_option maxRecDepth 100000 in
theorem k_GR_115_GS_code {a : Nat} {t : T3} {X Lw : va_W} (hC : CX p m c cc nL s args R_GR D dA) (hP : va_P D classes (X ++ Lw) H) (ht : stp t a Lw) (hsz : ls.size = nL) (hW : (rest.map fun v => v.category).sum ≤ 8) (hR : 0 + 1 ≤ R.frames ∧ 8 + (1 + 11) + 0 ≤ R.locals) (hf : cells + 0 ≤ R.cells ∧ slots + 0 ≤ R.slots) (hdg : decode cc pc = .ok (.invokevirtual 115, 3)) (kk : W p l e R s m args below meth c H locs cells slots Q (F0 m (pc + 3) ls (.int (cde t) :: rest))) : W p l e R s m args below meth c H locs cells slots Q (F0 m pc ls (.ref a :: rest)) := by
  rcases ht with ⟨h1, h2⟩ | ⟨h1, h2⟩
  · exact vp_callSi (va_Run.run (runA hC (c_GG_code l (one_of hP h2)) tw_250 tw_245 tw_247 tw_248 tw_249 tw_5 nw_246 ⟨by decide +kernel, by decide +kernel, rfl⟩ rfl rfl (ci := 2) rfl rfl (at_of hP h2) hsz rfl hW ⟨Nat.le_trans (by decide) hR.1, Nat.le_trans (by decide) hR.2⟩ hf hdg)) (fun r hr => by rw [hr]; rw [show cde t = -1 - t.2.1 from if_pos h1] at kk; exact kk)
  · exact vp_callSi (va_Run.run (runA hC (c_GU_code l (one_of hP h2)) tw_253 tw_245 tw_247 tw_251 tw_252 tw_4 nw_246 ⟨by decide +kernel, by decide +kernel, rfl⟩ rfl rfl (ci := 1) rfl rfl (at_of hP h2) hsz rfl hW ⟨Nat.le_trans (by decide) hR.1, Nat.le_trans (by decide) hR.2⟩ hf hdg)) (fun r hr => by rw [hr]; rw [show cde t = (t.1 * 256 + t.2.1) * 10 + t.2.2 from if_neg h1] at kk; exact kk)
set_option maxHeartbeats 4000000 in
set_option maxRecDepth 100000 in
theorem k_GR_111_GS_hint {a : Nat} {t : T3} {X Lw : va_W} (hC : CX p m c cc nL s args R_GR D dA) (hP : va_P D classes (X ++ Lw) H) (ht : stp t a Lw) {d : Int32} (hd : d = 1 ∨ d = 2 ∨ d = 3 ∨ d = 4) (hsz : ls.size = nL) (hW : (rest.map fun v => v.category).sum ≤ 8) (hR : 0 + 1 ≤ R.frames ∧ 8 + (2 + 11) + 0 ≤ R.locals) (hf : cells + 0 ≤ R.cells ∧ slots + 0 ≤ R.slots) (hdg : decode cc pc = .ok (.invokevirtual 111, 3)) (kk : W p l e R s m args below meth c H locs cells slots Q (F0 m (pc + 3) ls (.int (hnt t d) :: rest))) : W p l e R s m args below meth c H locs cells slots Q (F0 m pc ls (.int d :: .ref a :: rest)) := by
  rcases ht with ⟨h1, h2⟩ | ⟨h1, h2⟩
  · exact vp_callSi (va_Run.run (runA hC (c_GG_hint l (one_of hP h2)) tw_223 tw_218 tw_220 tw_221 tw_222 tw_5 nw_219 ⟨by decide +kernel, by decide +kernel, rfl⟩ rfl rfl (ci := 2) rfl rfl (at_of hP h2) hsz rfl hW ⟨Nat.le_trans (by decide) hR.1, Nat.le_trans (by decide) hR.2⟩ hf hdg)) (fun r hr => by rw [hr]; rw [show hnt t d = _ from if_pos h1] at kk; exact kk)
  · exact vp_callSi (va_Run.run (runA hC (c_GU_hint l (one_of hP h2) hd) tw_226 tw_218 tw_220 tw_224 tw_225 tw_4 nw_219 ⟨by decide +kernel, by decide +kernel, rfl⟩ rfl rfl (ci := 1) rfl rfl (at_of hP h2) hsz rfl hW ⟨Nat.le_trans (by decide) hR.1, Nat.le_trans (by decide) hR.2⟩ hf hdg)) (fun r hr => by rw [hr]; rw [show hnt t d = _ from if_neg h1] at kk; exact kk)
end STEPS
end
section
section GRRO
variable {p : Program} {e : Env} {R : Room} {s : State} {m : MethodId} {args : Array Value} {below : List Frame} {meth : Method} {c : Code} {locs : List Loc} {cells slots : Nat} {Q : State → Prop}
variable {cc : ByteArray} {pc nL : Nat} {ls : Array Slot} {rest : List Value} {own : String} {l : Launch} {D : va_G} {dA : Nat → ClassId} {A : Nat → Prop} {H H0 : Heap} {S : St} {ad md : Nat → Nat}
theorem nI_sub1 {k : Nat} (h : 0 < k) : nI k - 1 = nI (k - 1) := by
  obtain ⟨j, rfl⟩ : ∃ j, k = j + 1 := ⟨k - 1, by omega⟩
  exact nI_pred j
theorem nI_c0 : (0 : Int32) = nI 0 := nI_0.symm
theorem nI_ne_m1 (r : Nat) (h : r < 2 ^ 31) : nI r ≠ -1 := by
  intro z
  have h1 := congrArg Int32.toInt z
  rw [nI_toInt h] at h1
  have h2 : (-1 : Int32).toInt = -1 := by decide
  omega
theorem nI_lt0 {r : Nat} (h : r < 2 ^ 31) : ¬ nI r < 0 := nI_pos h
set_option maxHeartbeats 4000000 in
set_option maxRecDepth 100000 in
theorem c_GR_isFirst (l : Launch) {A : Nat → Prop} {ad : Nat → Nat} {S : St} {sf kf : Nat → Option Nat} {L : va_W} {D : va_G} {dA : Nat → ClassId} {H : Heap} (hG : GX D dA A ad S sf kf L H) (hI : Inv S) {x : Int32} {k : Nat} (hk : k ≤ S.n) : Met l y_GR_isFirst (wd y_GR_isFirst b_GR_isFirst 4 (some .boolean)) ({ frames := 1, cells := 0, slots := 0, locals := 20 } : Room) (va_Pc [.ref (ad 0), .int x, .int (nI k)] (PX D dA H)) (vp_Si (fun v => v = if Frs S.row x k then 1 else 0)) 0 0 (fun _ => False) := by
  refine mkMet (by decide) (Nat.le_of_ble_eq_true rfl) ?_
  intro p e s m below meth c ls hC hr hlk hnm hl hH
  have hl : lv_has ls 4 [(0, .ref (ad 0)), (1, .int x), (2, .int (nI k))] := hl
  obtain ⟨hP, hD, hst, hkp⟩ := id hG
  obtain ⟨hnr, hn, hcur, hnc, hnk, hWE, hrow, hkr, hcl, hdj⟩ := id hI
  refine lv_iconst (pc := 0) (v := nI 0) hC.x hC.b d_GR_isFirst_0 (by decide) ?_
  refine lv_istore_n (pc := 1) (lv' := [(3, .int (nI 0)), (0, .ref (ad 0)), (1, .int x), (2, .int (nI k))]) hC.x hC.b d_GR_isFirst_1 rfl hl (by decide) rfl (fun ls hl => ?_)
  refine lpW (pc := 2) (I := fun j ls => lv_has ls 4 [(3, .int (nI j)), (0, .ref (ad 0)), (1, .int x), (2, .int (nI k))] ∧ Frs S.row x j) (k) ?_ ?_ (0) (Nat.zero_le _) ⟨(lv_sub hl [0, 1, 2, 3] rfl), fun _ h => absurd h (Nat.not_lt_zero _)⟩
  · intro ls hI
    obtain ⟨hl, hv⟩ := hI
    refine lv_iload_n (pc := 2) hC.x hC.b d_GR_isFirst_2 rfl (lv_at hl 0 rfl) ?_
    refine lv_iload_n (pc := 3) hC.x hC.b d_GR_isFirst_3 rfl (lv_at hl 3 rfl) ?_
    refine ni_ge (pc := 4) (tgt := 28) hC d_GR_isFirst_4 (by decide) (by omega) (by omega) (fun c_4 => ?_) (fun c_4 => ?_)
    · refine lv_iconst (pc := 28) (v := 1) hC.x hC.b d_GR_isFirst_28 (by decide) ?_
      exact ro_z (pc := 29) hC hr hlk hH d_GR_isFirst_29 (by decide) (if_pos hv).symm
    · exact absurd c_4 (Nat.lt_irrefl _)
  · intro j ls hj hI ih
    obtain ⟨hl, hv⟩ := hI
    refine lv_iload_n (pc := 2) hC.x hC.b d_GR_isFirst_2 rfl (lv_at hl 0 rfl) ?_
    refine lv_iload_n (pc := 3) hC.x hC.b d_GR_isFirst_3 rfl (lv_at hl 3 rfl) ?_
    refine ni_ge (pc := 4) (tgt := 28) hC d_GR_isFirst_4 (by decide) (by omega) (by omega) (fun c_4 => ?_) (fun c_4 => ?_)
    · exact absurd c_4 (by omega)
    refine lv_aload_n (pc := 7) hC.x hC.b d_GR_isFirst_7 rfl (lv_at hl 1 rfl) ?_
    refine fg_GR_18 (pc := 8) hC hP 0 rfl rfl d_GR_isFirst_8 ?_
    refine lv_iload_n (pc := 11) hC.x hC.b d_GR_isFirst_11 rfl (lv_at hl 0 rfl) ?_
    obtain ⟨a, ha, hs⟩ := hst (j) (by omega)
    refine ald_q (pc := 12) (t0 := 3) hC hP 3 (j) rfl rfl rfl (by omega) (by decide) ha d_GR_isFirst_12 ?_
    refine k_GR_66_GS_rule (pc := 13) hC hP hs hl.1 (Nat.le_of_ble_eq_true rfl) ⟨Nat.le_of_ble_eq_true rfl, Nat.le_of_ble_eq_true rfl⟩ ⟨Nat.zero_le _, Nat.zero_le _⟩ d_GR_isFirst_13 ?_
    refine lv_iload_n (pc := 16) hC.x hC.b d_GR_isFirst_16 rfl (lv_at hl 2 rfl) ?_
    refine lv_icmp_ne (pc := 17) (tgt := 22) hC.x hC.b d_GR_isFirst_17 (by decide) (fun c_17 => ?_) (fun c_17 => ?_)
    · refine lv_iinc (pc := 22) (v := nI (j + 1)) (lv' := [(3, .int (nI (j + 1))), (0, .ref (ad 0)), (1, .int x), (2, .int (nI k))]) hC.x hC.b d_GR_isFirst_22 hl (k := 0) rfl (nI_1 _) (by decide) rfl (fun ls hl => ?_)
      refine lv_goto (pc := 25) (tgt := 2) hC.x hC.b d_GR_isFirst_25 (by decide) ?_
      exact ih ls ⟨(lv_sub hl [0, 1, 2, 3] rfl), fun i hi => if z : i = j then z ▸ c_17 else hv i (by omega)⟩
    refine lv_iconst (pc := 20) (v := 0) hC.x hC.b d_GR_isFirst_20 (by decide) ?_
    exact ro_z (pc := 21) hC hr hlk hH d_GR_isFirst_21 (by decide) (if_neg (fun z => z j hj c_17)).symm
set_option maxHeartbeats 4000000 in
set_option maxRecDepth 100000 in
theorem k_GU_21_GR_isFirst (hC : CX p m c cc nL s args R_GU D dA) {sf kf : Nat → Option Nat} {L : va_W} (hG : GX D dA A ad S sf kf L H) (hI : Inv S) {x : Int32} {k : Nat} (hk : k ≤ S.n) (hsz : ls.size = nL) (hW : (rest.map fun v => v.category).sum ≤ 8) (hR : 1 + 1 ≤ R.frames ∧ 8 + (4 + 11) + 20 ≤ R.locals) (hf : cells + 0 ≤ R.cells ∧ slots + 0 ≤ R.slots) (hdg : decode cc pc = .ok (.invokevirtual 21, 3)) (kk : W p l e R s m args below meth c H locs cells slots Q (F0 m (pc + 3) ls (.int (if Frs S.row x k then 1 else 0) :: rest))) : W p l e R s m args below meth c H locs cells slots Q (F0 m pc ls (.int (nI k) :: .int x :: .ref (ad 0) :: rest)) :=
  vp_callSi (va_Run.run (runVN hC (c_GR_isFirst l hG hI hk) tw_141 nw_138 tw_140 ts_1 tw_1 ⟨by decide +kernel, by decide +kernel, rfl⟩ rfl rfl (ci := 0) rfl rfl ((hG.1 0 _ rfl)) hsz rfl hW hR hf hdg)) (fun r hr => by rw [hr]; exact kk)
set_option maxHeartbeats 4000000 in
set_option maxRecDepth 100000 in
theorem c_GU_cost (l : Launch) {A : Nat → Prop} {ad : Nat → Nat} {S : St} {sf kf : Nat → Option Nat} {L : va_W} {D : va_G} {dA : Nat → ClassId} {H : Heap} (hG : GX D dA A ad S sf kf L H) (hI : Inv S) {a k : Nat} (hk : k < S.n) (hne : (S.row k).1 ≠ -1) (ha : (a, .inr (1, [.int (S.row k).1, .int (S.row k).2.1, .int (S.row k).2.2])) ∈ L) : Met l y_GU_cost (wd y_GU_cost b_GU_cost 5 (some .long)) ({ frames := 2, cells := 0, slots := 0, locals := 43 } : Room) (va_Pc [.ref a, .ref (ad 0), .int (nI k)] (PX D dA H)) (vp_Sl (fun v => v = S.cost k)) 0 0 (fun _ => False) := by
  refine mkMet (by decide) (Nat.le_of_ble_eq_true rfl) ?_
  intro p e s m below meth c ls hC hr hlk hnm hl hH
  have hl : lv_has ls 5 [(0, .ref a), (1, .ref (ad 0)), (2, .int (nI k))] := hl
  obtain ⟨hP, hD, hst, hkp⟩ := id hG
  obtain ⟨hnr, hn, hcur, hnc, hnk, hWE, hrow, hkr, hcl, hdj⟩ := id hI
  have hu := one_of hP ha
  obtain ⟨h0, -⟩ | ⟨r, q, w, hr1, hq1, hw1, hw2, ht⟩ := hrow k hk
  · exact absurd h0 hne
  have hix : (S.row k).1.toNatClampNeg = r := by rw [ht]; exact nI_clamp (by omega)
  have h1r : (S.row k).1 = nI r := by rw [ht]
  refine lv_aload_n (pc := 0) hC.x hC.b d_GU_cost_0 rfl (lv_at hl 1 rfl) ?_
  refine lv_aload_n (pc := 1) hC.x hC.b d_GU_cost_1 rfl (lv_at hl 0 rfl) ?_
  refine fg_GU_9 (pc := 2) hC hu 0 rfl rfl d_GU_cost_2 ?_
  refine lv_iload_n (pc := 5) hC.x hC.b d_GU_cost_5 rfl (lv_at hl 2 rfl) ?_
  refine k_GU_21_GR_isFirst (pc := 6) hC hG hI (Nat.le_of_lt hk) hl.1 (Nat.le_of_ble_eq_true rfl) ⟨Nat.le_of_ble_eq_true rfl, Nat.le_of_ble_eq_true rfl⟩ ⟨Nat.zero_le _, Nat.zero_le _⟩ d_GU_cost_6 ?_
  by_cases hF : Frs S.row (S.row k).1 k
  · refine tp_i (y := 1) (if_pos hF) ?_
    refine lv_if_eq (pc := 9) (tgt := 25) hC.x hC.b d_GU_cost_9 (by decide) (fun c_9 => ?_) (fun c_9 => ?_)
    · exact absurd c_9 (by decide)
    refine lv_aload_n (pc := 12) hC.x hC.b d_GU_cost_12 rfl (lv_at hl 1 rfl) ?_
    refine fg_GU_25 (pc := 13) hC hP 0 rfl rfl d_GU_cost_13 ?_
    refine lv_aload_n (pc := 16) hC.x hC.b d_GU_cost_16 rfl (lv_at hl 0 rfl) ?_
    refine fg_GU_9 (pc := 17) hC hu 0 rfl rfl d_GU_cost_17 ?_
    refine ald_i (pc := 20) hC hP 2 (r) rfl h1r (by omega) (by decide) d_GU_cost_20 ?_
    refine lv_i2l (pc := 21) hC.x hC.b d_GU_cost_21 rfl ?_
    refine lv_goto (pc := 22) (tgt := 26) hC.x hC.b d_GU_cost_22 (by decide) ?_
    refine lv_lstore_n (pc := 26) (lv' := [(3, .long ((S.E r).toInt64)), (0, .ref a), (1, .ref (ad 0)), (2, .int (nI k))]) hC.x hC.b d_GU_cost_26 rfl hl (by decide) rfl (fun ls hl => ?_)
    refine lv_aload_n (pc := 27) hC.x hC.b d_GU_cost_27 rfl (lv_at hl 2 rfl) ?_
    refine fg_GU_29 (pc := 28) hC hP 0 rfl rfl d_GU_cost_28 ?_
    refine lv_aload_n (pc := 31) hC.x hC.b d_GU_cost_31 rfl (lv_at hl 1 rfl) ?_
    refine fg_GU_9 (pc := 32) hC hu 0 rfl rfl d_GU_cost_32 ?_
    refine ald_i (pc := 35) hC hP 1 (r) rfl h1r (by omega) (by decide) d_GU_cost_35 ?_
    refine lv_i2l (pc := 36) hC.x hC.b d_GU_cost_36 rfl ?_
    refine lv_bipush (pc := 37) (v := 12) hC.x hC.b d_GU_cost_37 (by decide) ?_
    refine lv_aload_n (pc := 39) hC.x hC.b d_GU_cost_39 rfl (lv_at hl 1 rfl) ?_
    refine fg_GU_18 (pc := 40) hC hu 0 rfl rfl d_GU_cost_40 ?_
    refine lv_isub (pc := 43) hC.x hC.b d_GU_cost_43 ?_
    refine lv_i2l (pc := 44) hC.x hC.b d_GU_cost_44 rfl ?_
    refine lv_lmul (pc := 45) hC.x hC.b d_GU_cost_45 ?_
    refine lv_ldc2 (pc := 46) hC.x hC.b hC.o (hC.t _ tw_143) d_GU_cost_46 ?_
    refine lv_ldiv (pc := 49) hC.x hC.b d_GU_cost_49 (by decide) ?_
    refine lv_lload_n (pc := 50) hC.x hC.b d_GU_cost_50 rfl (lv_at hl 0 rfl) ?_
    refine lv_ladd (pc := 51) hC.x hC.b d_GU_cost_51 ?_
    exact ro_l (pc := 52) hC hr hlk hH d_GU_cost_52 (by unfold St.cost cst; rw [if_neg hne, if_pos hF, hix])
  · refine tp_i (y := 0) (if_neg hF) ?_
    refine lv_if_eq (pc := 9) (tgt := 25) hC.x hC.b d_GU_cost_9 (by decide) (fun c_9 => ?_) (fun c_9 => ?_)
    · refine lv_lconst (pc := 25) (v := 0) hC.x hC.b d_GU_cost_25 (by decide) ?_
      refine lv_lstore_n (pc := 26) (lv' := [(3, .long 0), (0, .ref a), (1, .ref (ad 0)), (2, .int (nI k))]) hC.x hC.b d_GU_cost_26 rfl hl (by decide) rfl (fun ls hl => ?_)
      refine lv_aload_n (pc := 27) hC.x hC.b d_GU_cost_27 rfl (lv_at hl 2 rfl) ?_
      refine fg_GU_29 (pc := 28) hC hP 0 rfl rfl d_GU_cost_28 ?_
      refine lv_aload_n (pc := 31) hC.x hC.b d_GU_cost_31 rfl (lv_at hl 1 rfl) ?_
      refine fg_GU_9 (pc := 32) hC hu 0 rfl rfl d_GU_cost_32 ?_
      refine ald_i (pc := 35) hC hP 1 (r) rfl h1r (by omega) (by decide) d_GU_cost_35 ?_
      refine lv_i2l (pc := 36) hC.x hC.b d_GU_cost_36 rfl ?_
      refine lv_bipush (pc := 37) (v := 12) hC.x hC.b d_GU_cost_37 (by decide) ?_
      refine lv_aload_n (pc := 39) hC.x hC.b d_GU_cost_39 rfl (lv_at hl 1 rfl) ?_
      refine fg_GU_18 (pc := 40) hC hu 0 rfl rfl d_GU_cost_40 ?_
      refine lv_isub (pc := 43) hC.x hC.b d_GU_cost_43 ?_
      refine lv_i2l (pc := 44) hC.x hC.b d_GU_cost_44 rfl ?_
      refine lv_lmul (pc := 45) hC.x hC.b d_GU_cost_45 ?_
      refine lv_ldc2 (pc := 46) hC.x hC.b hC.o (hC.t _ tw_143) d_GU_cost_46 ?_
      refine lv_ldiv (pc := 49) hC.x hC.b d_GU_cost_49 (by decide) ?_
      refine lv_lload_n (pc := 50) hC.x hC.b d_GU_cost_50 rfl (lv_at hl 0 rfl) ?_
      refine lv_ladd (pc := 51) hC.x hC.b d_GU_cost_51 ?_
      exact ro_l (pc := 52) hC hr hlk hH d_GU_cost_52 (by unfold St.cost cst; rw [if_neg hne, if_neg hF, hix])
    · exact absurd rfl c_9
set_option maxHeartbeats 4000000 in
set_option maxRecDepth 100000 in
theorem c_GG_cost (l : Launch) {A : Nat → Prop} {ad : Nat → Nat} {S : St} {sf kf : Nat → Option Nat} {L : va_W} {D : va_G} {dA : Nat → ClassId} {H : Heap} (hG : GX D dA A ad S sf kf L H) (hI : Inv S) {a k : Nat} (hk : k < S.n) (h1 : (S.row k).1 = -1) (ha : (a, .inr (2, [.int (S.row k).2.1])) ∈ L) : Met l y_GG_cost (wd y_GG_cost b_GG_cost 4 (some .long)) ({ frames := 1, cells := 0, slots := 0, locals := 20 } : Room) (va_Pc [.ref a, .ref (ad 0), .int (nI k)] (PX D dA H)) (vp_Sl (fun v => v = S.cost k)) 0 0 (fun _ => False) := by
  refine mkMet (by decide) (Nat.le_of_ble_eq_true rfl) ?_
  intro p e s m below meth c ls hC hr hlk hnm hl hH
  have hl : lv_has ls 4 [(0, .ref a), (1, .ref (ad 0)), (2, .int (nI k))] := hl
  obtain ⟨hP, hD, hst, hkp⟩ := id hG
  obtain ⟨hnr, hn, hcur, hnc, hnk, hWE, hrow, hkr, hcl, hdj⟩ := id hI
  have hu := one_of hP ha
  refine lv_iload_n (pc := 0) hC.x hC.b d_GG_cost_0 rfl (lv_at hl 2 rfl) ?_
  refine nz_le (pc := 1) (tgt := 22) hC d_GG_cost_1 (by decide) (by omega) (fun c_1 => ?_) (fun c_1 => ?_)
  · refine lv_iconst (pc := 22) (v := 0) hC.x hC.b d_GG_cost_22 (by decide) ?_
    refine lv_istore_n (pc := 23) (lv' := [(3, .int 0), (0, .ref a), (1, .ref (ad 0)), (2, .int (nI k))]) hC.x hC.b d_GG_cost_23 rfl hl (by decide) rfl (fun ls hl => ?_)
    refine lv_ldc2 (pc := 24) hC.x hC.b hC.o (hC.t _ tw_134) d_GG_cost_24 ?_
    refine lv_aload_n (pc := 27) hC.x hC.b d_GG_cost_27 rfl (lv_at hl 1 rfl) ?_
    refine fg_GG_9 (pc := 28) hC hu 0 rfl rfl d_GG_cost_28 ?_
    refine lv_i2l (pc := 31) hC.x hC.b d_GG_cost_31 rfl ?_
    refine lv_lmul (pc := 32) hC.x hC.b d_GG_cost_32 ?_
    refine lv_iload_n (pc := 33) hC.x hC.b d_GG_cost_33 rfl (lv_at hl 0 rfl) ?_
    refine lv_if_eq (pc := 34) (tgt := 41) hC.x hC.b d_GG_cost_34 (by decide) (fun c_34 => ?_) (fun c_34 => ?_)
    · refine lv_iconst (pc := 41) (v := 1) hC.x hC.b d_GG_cost_41 (by decide) ?_
      refine lv_i2l (pc := 42) hC.x hC.b d_GG_cost_42 rfl ?_
      refine tp_l (y := 1) (by decide) ?_
      refine lv_lmul (pc := 43) hC.x hC.b d_GG_cost_43 ?_
      exact ro_l (pc := 44) hC hr hlk hH d_GG_cost_44 (by unfold St.cost cst; rw [if_pos h1, if_neg (fun z => by omega)])
    · exact absurd rfl c_34
  refine lv_aload_n (pc := 4) hC.x hC.b d_GG_cost_4 rfl (lv_at hl 1 rfl) ?_
  refine fg_GG_15 (pc := 5) hC hP 0 rfl rfl d_GG_cost_5 ?_
  refine lv_iload_n (pc := 8) hC.x hC.b d_GG_cost_8 rfl (lv_at hl 2 rfl) ?_
  refine lv_iconst (pc := 9) (v := 1) hC.x hC.b d_GG_cost_9 (by decide) ?_
  refine lv_isub (pc := 10) hC.x hC.b d_GG_cost_10 ?_
  refine tp_i (y := nI (k - 1)) (nI_sub1 c_1) ?_
  obtain ⟨b, hb, hs⟩ := hst (k - 1) (by omega)
  refine ald_q (pc := 11) (t0 := 3) hC hP 3 (k - 1) rfl rfl rfl (by omega) (by decide) hb d_GG_cost_11 ?_
  refine k_GG_19_GS_rule (pc := 12) hC hP hs hl.1 (Nat.le_of_ble_eq_true rfl) ⟨Nat.le_of_ble_eq_true rfl, Nat.le_of_ble_eq_true rfl⟩ ⟨Nat.zero_le _, Nat.zero_le _⟩ d_GG_cost_12 ?_
  obtain ⟨h0, -⟩ | ⟨r, q, w, hr1, hq1, hw1, hw2, ht⟩ := hrow (k - 1) (by omega)
  · refine lv_if_ge (pc := 15) (tgt := 22) hC.x hC.b d_GG_cost_15 (by decide) (fun c_15 => ?_) (fun c_15 => ?_)
    · exact absurd c_15 (by rw [h0]; decide)
    refine lv_iconst (pc := 18) (v := 1) hC.x hC.b d_GG_cost_18 (by decide) ?_
    refine lv_goto (pc := 19) (tgt := 23) hC.x hC.b d_GG_cost_19 (by decide) ?_
    refine lv_istore_n (pc := 23) (lv' := [(3, .int 1), (0, .ref a), (1, .ref (ad 0)), (2, .int (nI k))]) hC.x hC.b d_GG_cost_23 rfl hl (by decide) rfl (fun ls hl => ?_)
    refine lv_ldc2 (pc := 24) hC.x hC.b hC.o (hC.t _ tw_134) d_GG_cost_24 ?_
    refine lv_aload_n (pc := 27) hC.x hC.b d_GG_cost_27 rfl (lv_at hl 1 rfl) ?_
    refine fg_GG_9 (pc := 28) hC hu 0 rfl rfl d_GG_cost_28 ?_
    refine lv_i2l (pc := 31) hC.x hC.b d_GG_cost_31 rfl ?_
    refine lv_lmul (pc := 32) hC.x hC.b d_GG_cost_32 ?_
    refine lv_iload_n (pc := 33) hC.x hC.b d_GG_cost_33 rfl (lv_at hl 0 rfl) ?_
    refine lv_if_eq (pc := 34) (tgt := 41) hC.x hC.b d_GG_cost_34 (by decide) (fun c_34 => ?_) (fun c_34 => ?_)
    · exact absurd c_34 (by decide)
    refine lv_iconst (pc := 37) (v := 2) hC.x hC.b d_GG_cost_37 (by decide) ?_
    refine lv_goto (pc := 38) (tgt := 42) hC.x hC.b d_GG_cost_38 (by decide) ?_
    refine lv_i2l (pc := 42) hC.x hC.b d_GG_cost_42 rfl ?_
    refine tp_l (y := 2) (by decide) ?_
    refine lv_lmul (pc := 43) hC.x hC.b d_GG_cost_43 ?_
    exact ro_l (pc := 44) hC hr hlk hH d_GG_cost_44 (by unfold St.cost cst; rw [if_pos h1, if_pos ⟨c_1, h0⟩])
  · have h2 : (S.row (k - 1)).1 = nI r := by rw [ht]
    refine lv_if_ge (pc := 15) (tgt := 22) hC.x hC.b d_GG_cost_15 (by decide) (fun c_15 => ?_) (fun c_15 => ?_)
    · refine lv_iconst (pc := 22) (v := 0) hC.x hC.b d_GG_cost_22 (by decide) ?_
      refine lv_istore_n (pc := 23) (lv' := [(3, .int 0), (0, .ref a), (1, .ref (ad 0)), (2, .int (nI k))]) hC.x hC.b d_GG_cost_23 rfl hl (by decide) rfl (fun ls hl => ?_)
      refine lv_ldc2 (pc := 24) hC.x hC.b hC.o (hC.t _ tw_134) d_GG_cost_24 ?_
      refine lv_aload_n (pc := 27) hC.x hC.b d_GG_cost_27 rfl (lv_at hl 1 rfl) ?_
      refine fg_GG_9 (pc := 28) hC hu 0 rfl rfl d_GG_cost_28 ?_
      refine lv_i2l (pc := 31) hC.x hC.b d_GG_cost_31 rfl ?_
      refine lv_lmul (pc := 32) hC.x hC.b d_GG_cost_32 ?_
      refine lv_iload_n (pc := 33) hC.x hC.b d_GG_cost_33 rfl (lv_at hl 0 rfl) ?_
      refine lv_if_eq (pc := 34) (tgt := 41) hC.x hC.b d_GG_cost_34 (by decide) (fun c_34 => ?_) (fun c_34 => ?_)
      · refine lv_iconst (pc := 41) (v := 1) hC.x hC.b d_GG_cost_41 (by decide) ?_
        refine lv_i2l (pc := 42) hC.x hC.b d_GG_cost_42 rfl ?_
        refine tp_l (y := 1) (by decide) ?_
        refine lv_lmul (pc := 43) hC.x hC.b d_GG_cost_43 ?_
        exact ro_l (pc := 44) hC hr hlk hH d_GG_cost_44 (by unfold St.cost cst; rw [if_pos h1, if_neg (fun z => nI_ne_m1 r (by omega) (h2.symm.trans z.2))])
      · exact absurd rfl c_34
    · exact absurd (by rw [h2]; exact nI_pos' (by omega)) c_15
set_option maxHeartbeats 4000000 in
set_option maxRecDepth 100000 in
theorem k_GR_72_GS_cost {sf kf : Nat → Option Nat} {L : va_W} (hG : GX D dA A ad S sf kf L H) (hI : Inv S) {a k : Nat} (hC : CX p m c cc nL s args R_GR D dA) (hk : k < S.n) (ht : stp (S.row k) a L) (hsz : ls.size = nL) (hW : (rest.map fun v => v.category).sum ≤ 8) (hR : 2 + 1 ≤ R.frames ∧ 8 + (5 + 11) + 43 ≤ R.locals) (hf : cells + 0 ≤ R.cells ∧ slots + 0 ≤ R.slots) (hdg : decode cc pc = .ok (.invokevirtual 72, 3)) (kk : W p l e R s m args below meth c H locs cells slots Q (F0 m (pc + 3) ls (.long (S.cost k) :: rest))) : W p l e R s m args below meth c H locs cells slots Q (F0 m pc ls (.int (nI k) :: .ref (ad 0) :: .ref a :: rest)) := by
  rcases ht with ⟨h1, h2⟩ | ⟨h1, h2⟩
  · exact vp_callSl (va_Run.run (runA hC (c_GG_cost l hG hI hk h1 h2) tw_125 tw_120 tw_122 tw_123 tw_124 tw_5 nw_121 ⟨by decide +kernel, by decide +kernel, rfl⟩ rfl rfl (ci := 2) rfl rfl (at_of hG.1 h2) hsz rfl hW ⟨Nat.le_trans (by decide) hR.1, Nat.le_trans (by decide) hR.2⟩ hf hdg)) (fun r hr => by rw [hr]; exact kk)
  · exact vp_callSl (va_Run.run (runA hC (c_GU_cost l hG hI hk h1 h2) tw_137 tw_120 tw_122 tw_135 tw_136 tw_4 nw_121 ⟨by decide +kernel, by decide +kernel, rfl⟩ rfl rfl (ci := 1) rfl rfl (at_of hG.1 h2) hsz rfl hW ⟨Nat.le_trans (by decide) hR.1, Nat.le_trans (by decide) hR.2⟩ hf hdg)) (fun r hr => by rw [hr]; exact kk)
/-- cost(x), sum(x) of any int -/
def St.costA (S : St) (x : Int32) : Int64 := if x < 0 ∨ nI S.n ≤ x then -1 else S.cost x.toNatClampNeg
theorem costA_in {S : St} {k : Nat} (hk : k < S.n) (hn : S.n ≤ 200) : S.costA (nI k) = S.cost k := by
  unfold St.costA
  rw [if_neg (by intro h; rcases h with h | h
                 · exact nI_pos (by omega) h
                 · exact nI_ge hk (by omega) h), nI_clamp (by omega)]
def St.sumA (S : St) (x : Int32) : Int64 := if x < 0 then -1 else S.sum (min x.toNatClampNeg S.n)
set_option maxHeartbeats 4000000 in
set_option maxRecDepth 100000 in
theorem c_GR_cost (l : Launch) {A : Nat → Prop} {ad : Nat → Nat} {S : St} {sf kf : Nat → Option Nat} {L : va_W} {D : va_G} {dA : Nat → ClassId} {H : Heap} (hG : GX D dA A ad S sf kf L H) (hI : Inv S) {x : Int32} : Met l y_GR_cost (wd y_GR_cost b_GR_cost 2 (some .long)) ({ frames := 3, cells := 0, slots := 0, locals := 67 } : Room) (va_Pc [.ref (ad 0), .int x] (PX D dA H)) (vp_Sl (fun v => v = S.costA x)) 0 0 (fun _ => False) := by
  refine mkMet (by decide) (Nat.le_of_ble_eq_true rfl) ?_
  intro p e s m below meth c ls hC hr hlk hnm hl hH
  have hl : lv_has ls 2 [(0, .ref (ad 0)), (1, .int x)] := hl
  obtain ⟨hP, hD, hst, hkp⟩ := id hG
  obtain ⟨hnr, hn, hcur, hnc, hnk, hWE, hrow, hkr, hcl, hdj⟩ := id hI
  rcases pk_ix x (n := S.n) (by omega) with hx | hx | ⟨k, hk, rfl⟩
  · refine lv_iload_n (pc := 0) hC.x hC.b d_GR_cost_0 rfl (lv_at hl 1 rfl) ?_
    refine lv_if_lt (pc := 1) (tgt := 12) hC.x hC.b d_GR_cost_1 (by decide) (fun c_1 => ?_) (fun c_1 => ?_)
    · refine lv_ldc2 (pc := 12) hC.x hC.b hC.o (hC.t _ tw_119) d_GR_cost_12 ?_
      refine lv_goto (pc := 15) (tgt := 29) hC.x hC.b d_GR_cost_15 (by decide) ?_
      exact ro_l (pc := 29) hC hr hlk hH d_GR_cost_29 (by unfold St.costA; rw [if_pos (Or.inl hx)])
    · exact absurd hx c_1
  · refine lv_iload_n (pc := 0) hC.x hC.b d_GR_cost_0 rfl (lv_at hl 1 rfl) ?_
    refine lv_if_lt (pc := 1) (tgt := 12) hC.x hC.b d_GR_cost_1 (by decide) (fun c_1 => ?_) (fun c_1 => ?_)
    · refine lv_ldc2 (pc := 12) hC.x hC.b hC.o (hC.t _ tw_119) d_GR_cost_12 ?_
      refine lv_goto (pc := 15) (tgt := 29) hC.x hC.b d_GR_cost_15 (by decide) ?_
      exact ro_l (pc := 29) hC hr hlk hH d_GR_cost_29 (by unfold St.costA; rw [if_pos (Or.inr hx)])
    refine lv_iload_n (pc := 4) hC.x hC.b d_GR_cost_4 rfl (lv_at hl 1 rfl) ?_
    refine lv_aload_n (pc := 5) hC.x hC.b d_GR_cost_5 rfl (lv_at hl 0 rfl) ?_
    refine fg_GR_40 (pc := 6) hC hP 0 rfl rfl d_GR_cost_6 ?_
    refine lv_icmp_lt (pc := 9) (tgt := 18) hC.x hC.b d_GR_cost_9 (by decide) (fun c_9 => ?_) (fun c_9 => ?_)
    · exact absurd c_9 (Int32.not_lt.mpr hx)
    refine lv_ldc2 (pc := 12) hC.x hC.b hC.o (hC.t _ tw_119) d_GR_cost_12 ?_
    refine lv_goto (pc := 15) (tgt := 29) hC.x hC.b d_GR_cost_15 (by decide) ?_
    exact ro_l (pc := 29) hC hr hlk hH d_GR_cost_29 (by unfold St.costA; rw [if_pos (Or.inr hx)])
  · refine lv_iload_n (pc := 0) hC.x hC.b d_GR_cost_0 rfl (lv_at hl 1 rfl) ?_
    refine lv_if_lt (pc := 1) (tgt := 12) hC.x hC.b d_GR_cost_1 (by decide) (fun c_1 => ?_) (fun c_1 => ?_)
    · exact absurd c_1 (nI_pos (by omega))
    refine lv_iload_n (pc := 4) hC.x hC.b d_GR_cost_4 rfl (lv_at hl 1 rfl) ?_
    refine lv_aload_n (pc := 5) hC.x hC.b d_GR_cost_5 rfl (lv_at hl 0 rfl) ?_
    refine fg_GR_40 (pc := 6) hC hP 0 rfl rfl d_GR_cost_6 ?_
    refine ni_lt (pc := 9) (tgt := 18) hC d_GR_cost_9 (by decide) (by omega) (by omega) (fun c_9 => ?_) (fun c_9 => ?_)
    · refine lv_aload_n (pc := 18) hC.x hC.b d_GR_cost_18 rfl (lv_at hl 0 rfl) ?_
      refine fg_GR_18 (pc := 19) hC hP 0 rfl rfl d_GR_cost_19 ?_
      refine lv_iload_n (pc := 22) hC.x hC.b d_GR_cost_22 rfl (lv_at hl 1 rfl) ?_
      obtain ⟨a, ha, hs⟩ := hst (k) (by omega)
      refine ald_q (pc := 23) (t0 := 3) hC hP 3 (k) rfl rfl rfl (by omega) (by decide) ha d_GR_cost_23 ?_
      refine lv_aload_n (pc := 24) hC.x hC.b d_GR_cost_24 rfl (lv_at hl 0 rfl) ?_
      refine lv_iload_n (pc := 25) hC.x hC.b d_GR_cost_25 rfl (lv_at hl 1 rfl) ?_
      refine k_GR_72_GS_cost (pc := 26) hG hI hC (by omega) hs hl.1 (Nat.le_of_ble_eq_true rfl) ⟨Nat.le_of_ble_eq_true rfl, Nat.le_of_ble_eq_true rfl⟩ ⟨Nat.zero_le _, Nat.zero_le _⟩ d_GR_cost_26 ?_
      exact ro_l (pc := 29) hC hr hlk hH d_GR_cost_29 (costA_in hk hn).symm
    · exact absurd c_9 (by omega)
set_option maxHeartbeats 4000000 in
set_option maxRecDepth 100000 in
theorem k_GR_103_GR_cost (hC : CX p m c cc nL s args R_GR D dA) {sf kf : Nat → Option Nat} {L : va_W} (hG : GX D dA A ad S sf kf L H) (hI : Inv S) {x : Int32} (hsz : ls.size = nL) (hW : (rest.map fun v => v.category).sum ≤ 8) (hR : 3 + 1 ≤ R.frames ∧ 8 + (2 + 11) + 67 ≤ R.locals) (hf : cells + 0 ≤ R.cells ∧ slots + 0 ≤ R.slots) (hdg : decode cc pc = .ok (.invokevirtual 103, 3)) (kk : W p l e R s m args below meth c H locs cells slots Q (F0 m (pc + 3) ls (.long (S.costA x) :: rest))) : W p l e R s m args below meth c H locs cells slots Q (F0 m pc ls (.int x :: .ref (ad 0) :: rest)) :=
  vp_callSl (va_Run.run (runV hC (c_GR_cost l hG hI) tw_118 tw_199 tw_116 tw_117 tw_1 ⟨by decide +kernel, by decide +kernel, rfl⟩ rfl rfl (ci := 0) rfl rfl ((hG.1 0 _ rfl)) hsz rfl hW hR hf hdg)) (fun r hr => by rw [hr]; exact kk)
set_option maxHeartbeats 4000000 in
set_option maxRecDepth 100000 in
theorem c_GR_sum (l : Launch) {A : Nat → Prop} {ad : Nat → Nat} {S : St} {sf kf : Nat → Option Nat} {L : va_W} {D : va_G} {dA : Nat → ClassId} {H : Heap} (hG : GX D dA A ad S sf kf L H) (hI : Inv S) {x : Int32} : Met l y_GR_sum (wd y_GR_sum b_GR_sum 5 (some .long)) ({ frames := 3, cells := 0, slots := 0, locals := 67 } : Room) (va_Pc [.ref (ad 0), .int x] (PX D dA H)) (vp_Sl (fun v => v = S.sumA x)) 0 0 (fun _ => False) := by
  refine mkMet (by decide) (Nat.le_of_ble_eq_true rfl) ?_
  intro p e s m below meth c ls hC hr hlk hnm hl hH
  have hl : lv_has ls 5 [(0, .ref (ad 0)), (1, .int x)] := hl
  obtain ⟨hP, hD, hst, hkp⟩ := id hG
  obtain ⟨hnr, hn, hcur, hnc, hnk, hWE, hrow, hkr, hcl, hdj⟩ := id hI
  refine lv_iload_n (pc := 0) hC.x hC.b d_GR_sum_0 rfl (lv_at hl 1 rfl) ?_
  refine lv_if_ge (pc := 1) (tgt := 8) hC.x hC.b d_GR_sum_1 (by decide) (fun c_1 => ?_) (fun c_1 => ?_)
  · obtain ⟨q, hq, rfl⟩ := nI_of (Int32.not_lt.mpr c_1)
    have hz : S.sumA (nI q) = S.sum (min q S.n) := by unfold St.sumA; rw [if_neg (nI_pos hq), nI_clamp hq]
    refine lv_lconst (pc := 8) (v := 0) hC.x hC.b d_GR_sum_8 (by decide) ?_
    refine lv_lstore_n (pc := 9) (lv' := [(2, .long 0), (0, .ref (ad 0)), (1, .int (nI q))]) hC.x hC.b d_GR_sum_9 rfl hl (by decide) rfl (fun ls hl => ?_)
    refine lv_iconst (pc := 10) (v := nI 0) hC.x hC.b d_GR_sum_10 (by decide) ?_
    refine lv_istore (pc := 11) (lv' := [(4, .int (nI 0)), (2, .long 0), (0, .ref (ad 0)), (1, .int (nI q))]) hC.x hC.b d_GR_sum_11 hl (by decide) rfl (fun ls hl => ?_)
    refine lpW (pc := 13) (I := fun j ls => lv_has ls 5 [(4, .int (nI j)), (2, .long (S.sum j)), (0, .ref (ad 0)), (1, .int (nI q))] ∧ True) (min q S.n) ?_ ?_ (0) (Nat.zero_le _) ⟨(lv_sub hl [0, 1, 2, 3] rfl), trivial⟩
    · intro ls hI
      obtain ⟨hl, hv⟩ := hI
      refine lv_iload (pc := 13) hC.x hC.b d_GR_sum_13 (lv_at hl 0 rfl) ?_
      refine lv_iload_n (pc := 15) hC.x hC.b d_GR_sum_15 rfl (lv_at hl 3 rfl) ?_
      refine ni_ge (pc := 16) (tgt := 50) hC d_GR_sum_16 (by decide) (by omega) (by omega) (fun c_16 => ?_) (fun c_16 => ?_)
      · refine lv_lload_n (pc := 50) hC.x hC.b d_GR_sum_50 rfl (lv_at hl 1 rfl) ?_
        exact ro_l (pc := 51) hC hr hlk hH d_GR_sum_51 hz.symm
      refine lv_iload (pc := 19) hC.x hC.b d_GR_sum_19 (lv_at hl 0 rfl) ?_
      refine lv_aload_n (pc := 21) hC.x hC.b d_GR_sum_21 rfl (lv_at hl 2 rfl) ?_
      refine fg_GR_40 (pc := 22) hC hP 0 rfl rfl d_GR_sum_22 ?_
      refine ni_ge (pc := 25) (tgt := 50) hC d_GR_sum_25 (by decide) (by omega) (by omega) (fun c_25 => ?_) (fun c_25 => ?_)
      · refine lv_lload_n (pc := 50) hC.x hC.b d_GR_sum_50 rfl (lv_at hl 1 rfl) ?_
        exact ro_l (pc := 51) hC hr hlk hH d_GR_sum_51 hz.symm
      · exact absurd c_25 (by omega)
    · intro j ls hj hI ih
      obtain ⟨hl, hv⟩ := hI
      refine lv_iload (pc := 13) hC.x hC.b d_GR_sum_13 (lv_at hl 0 rfl) ?_
      refine lv_iload_n (pc := 15) hC.x hC.b d_GR_sum_15 rfl (lv_at hl 3 rfl) ?_
      refine ni_ge (pc := 16) (tgt := 50) hC d_GR_sum_16 (by decide) (by omega) (by omega) (fun c_16 => ?_) (fun c_16 => ?_)
      · exact absurd c_16 (by omega)
      refine lv_iload (pc := 19) hC.x hC.b d_GR_sum_19 (lv_at hl 0 rfl) ?_
      refine lv_aload_n (pc := 21) hC.x hC.b d_GR_sum_21 rfl (lv_at hl 2 rfl) ?_
      refine fg_GR_40 (pc := 22) hC hP 0 rfl rfl d_GR_sum_22 ?_
      refine ni_ge (pc := 25) (tgt := 50) hC d_GR_sum_25 (by decide) (by omega) (by omega) (fun c_25 => ?_) (fun c_25 => ?_)
      · exact absurd c_25 (by omega)
      refine lv_lload_n (pc := 28) hC.x hC.b d_GR_sum_28 rfl (lv_at hl 1 rfl) ?_
      refine lv_aload_n (pc := 29) hC.x hC.b d_GR_sum_29 rfl (lv_at hl 2 rfl) ?_
      refine fg_GR_18 (pc := 30) hC hP 0 rfl rfl d_GR_sum_30 ?_
      refine lv_iload (pc := 33) hC.x hC.b d_GR_sum_33 (lv_at hl 0 rfl) ?_
      obtain ⟨a, ha, hs⟩ := hst (j) (by omega)
      refine ald_q (pc := 35) (t0 := 3) hC hP 3 (j) rfl rfl rfl (by omega) (by decide) ha d_GR_sum_35 ?_
      refine lv_aload_n (pc := 36) hC.x hC.b d_GR_sum_36 rfl (lv_at hl 2 rfl) ?_
      refine lv_iload (pc := 37) hC.x hC.b d_GR_sum_37 (lv_at hl 0 rfl) ?_
      refine k_GR_72_GS_cost (pc := 39) hG hI hC (by omega) hs hl.1 (Nat.le_of_ble_eq_true rfl) ⟨Nat.le_of_ble_eq_true rfl, Nat.le_of_ble_eq_true rfl⟩ ⟨Nat.zero_le _, Nat.zero_le _⟩ d_GR_sum_39 ?_
      refine lv_ladd (pc := 42) hC.x hC.b d_GR_sum_42 ?_
      refine tp_l (y := S.sum (j + 1)) rfl ?_
      refine lv_lstore_n (pc := 43) (lv' := [(2, .long (S.sum (j + 1))), (4, .int (nI j)), (0, .ref (ad 0)), (1, .int (nI q))]) hC.x hC.b d_GR_sum_43 rfl hl (by decide) rfl (fun ls hl => ?_)
      refine lv_iinc (pc := 44) (v := nI (j + 1)) (lv' := [(4, .int (nI (j + 1))), (2, .long (S.sum (j + 1))), (0, .ref (ad 0)), (1, .int (nI q))]) hC.x hC.b d_GR_sum_44 hl (k := 1) rfl (nI_1 _) (by decide) rfl (fun ls hl => ?_)
      refine lv_goto (pc := 47) (tgt := 13) hC.x hC.b d_GR_sum_47 (by decide) ?_
      exact ih ls ⟨(lv_sub hl [0, 1, 2, 3] rfl), trivial⟩
  · refine lv_ldc2 (pc := 4) hC.x hC.b hC.o (hC.t _ tw_119) d_GR_sum_4 ?_
    exact ro_l (pc := 7) hC hr hlk hH d_GR_sum_7 (by unfold St.sumA; rw [if_pos (Int32.not_le.mp c_1)])
theorem sumA_n {S : St} (hn : S.n ≤ 200) : S.sumA (nI S.n) = S.sum S.n := by
  unfold St.sumA
  rw [if_neg (nI_pos (by omega)), nI_clamp (by omega), Nat.min_self]
set_option maxHeartbeats 4000000 in
set_option maxRecDepth 100000 in
theorem k_GR_81_GR_sum (hC : CX p m c cc nL s args R_GR D dA) {sf kf : Nat → Option Nat} {L : va_W} (hG : GX D dA A ad S sf kf L H) (hI : Inv S) {x : Int32} (hsz : ls.size = nL) (hW : (rest.map fun v => v.category).sum ≤ 8) (hR : 3 + 1 ≤ R.frames ∧ 8 + (5 + 11) + 67 ≤ R.locals) (hf : cells + 0 ≤ R.cells ∧ slots + 0 ≤ R.slots) (hdg : decode cc pc = .ok (.invokevirtual 81, 3)) (kk : W p l e R s m args below meth c H locs cells slots Q (F0 m (pc + 3) ls (.long (S.sumA x) :: rest))) : W p l e R s m args below meth c H locs cells slots Q (F0 m pc ls (.int x :: .ref (ad 0) :: rest)) :=
  vp_callSl (va_Run.run (runV hC (c_GR_sum l hG hI) tw_147 tw_157 tw_145 tw_146 tw_1 ⟨by decide +kernel, by decide +kernel, rfl⟩ rfl rfl (ci := 0) rfl rfl ((hG.1 0 _ rfl)) hsz rfl hW hR hf hdg)) (fun r hr => by rw [hr]; exact kk)
set_option maxHeartbeats 4000000 in
set_option maxRecDepth 100000 in
theorem k_GK_13_GR_sum (hC : CX p m c cc nL s args R_GK D dA) {sf kf : Nat → Option Nat} {L : va_W} (hG : GX D dA A ad S sf kf L H) (hI : Inv S) {x : Int32} (hsz : ls.size = nL) (hW : (rest.map fun v => v.category).sum ≤ 8) (hR : 3 + 1 ≤ R.frames ∧ 8 + (5 + 11) + 67 ≤ R.locals) (hf : cells + 0 ≤ R.cells ∧ slots + 0 ≤ R.slots) (hdg : decode cc pc = .ok (.invokevirtual 13, 3)) (kk : W p l e R s m args below meth c H locs cells slots Q (F0 m (pc + 3) ls (.long (S.sumA x) :: rest))) : W p l e R s m args below meth c H locs cells slots Q (F0 m pc ls (.int x :: .ref (ad 0) :: rest)) :=
  vp_callSl (va_Run.run (runV hC (c_GR_sum l hG hI) tw_147 tw_236 tw_145 tw_146 tw_1 ⟨by decide +kernel, by decide +kernel, rfl⟩ rfl rfl (ci := 0) rfl rfl ((hG.1 0 _ rfl)) hsz rfl hW hR hf hdg)) (fun r hr => by rw [hr]; exact kk)
end GRRO
end
section
section GRLOOK
variable {p : Program} {e : Env} {R : Room} {s : State} {m : MethodId} {args : Array Value} {below : List Frame} {meth : Method} {c : Code} {locs : List Loc} {cells slots : Nat} {Q : State → Prop}
variable {cc : ByteArray} {pc nL : Nat} {ls : Array Slot} {rest : List Value} {own : String} {l : Launch} {D : va_G} {dA : Nat → ClassId} {A : Nat → Prop} {H H0 : Heap} {S : St} {ad md : Nat → Nat}
theorem lpR {G : JFrame → Prop} {m : MethodId} {pc : Nat} {st : List Value} (I : Nat → Array Slot → Prop) (hstep : ∀ d ls, I d ls → (∀ d' ls', d' < d → I d' ls' → G (F0 m pc ls' st)) → G (F0 m pc ls st)) (d : Nat) {ls : Array Slot} (h : I d ls) : G (F0 m pc ls st) := by
  have key : ∀ n d ls, d < n → I d ls → G (F0 m pc ls st) := by
    intro n
    induction n with
    | zero => intro d ls e; omega
    | succ n ih => intro d ls e hI; exact hstep d ls hI (fun d' ls' h1 h' => ih d' ls' (by omega) h')
  exact key (d + 1) d ls (by omega) h
theorem cnt_t {P : Nat → Prop} [DecidablePred P] {k : Nat} (h : P k) : nI (cnt P k) + 1 = nI (cnt P (k + 1)) := by
  rw [show cnt P (k + 1) = cnt P k + 1 from by simp only [cnt, if_pos h]]; exact nI_1 _
theorem cnt_f {P : Nat → Prop} [DecidablePred P] {k : Nat} (h : ¬ P k) : nI (cnt P k) + 0 = nI (cnt P (k + 1)) := by
  rw [show cnt P (k + 1) = cnt P k from by simp only [cnt, if_neg h, Nat.add_zero]]
  exact Int32.add_zero _
def St.grade (S : St) : Int32 := S.cls (S.sum S.n)
def St.rankX (S : St) : Int32 := if S.grade < 0 then -1 else nI (cnt (fun k => S.hi k < S.lo S.grade.toNatClampNeg) S.nc)
def St.gapX (S : St) (F : Nat) (v : Int64) : Int64 := if v < 0 then -1 else gp S F v
theorem cls_cases {S : St} (hnc : S.nc ≤ 20) (v : Int64) : (∃ c, c < S.nc ∧ inC S.lo S.hi v c ∧ S.cls v = nI c ∧ ¬ S.cls v < 0 ∧ (S.cls v).toNatClampNeg = c) ∨ (S.cls v = -1 ∧ S.cls v < 0) := by
  rcases cof_cases S.lo S.hi v S.nc 0 with ⟨c, -, h2, h3, -, h5⟩ | ⟨h1, -⟩
  · refine Or.inl ⟨c, by omega, h3, h5, ?_, ?_⟩
    · rw [show S.cls v = nI c from h5]; exact nI_pos (by omega)
    · rw [show S.cls v = nI c from h5]; exact nI_clamp (by omega)
  · exact Or.inr ⟨h1, by rw [show S.cls v = -1 from h1]; decide⟩
theorem gp_stop {S : St} {F : Nat} {v : Int64} (h : S.cls v < 0) (hF : 0 < F) : gp S F v = v := by
  obtain ⟨f, rfl⟩ : ∃ f, F = f + 1 := ⟨F - 1, by omega⟩
  simp only [gp, if_pos h]
theorem gp_go {S : St} {F c : Nat} {v : Int64} (h : ¬ S.cls v < 0) (hc : (S.cls v).toNatClampNeg = c) (hF : 0 < F) : gp S F v = gp S (F - 1) (S.hi c + 1) := by
  obtain ⟨f, rfl⟩ : ∃ f, F = f + 1 := ⟨F - 1, by omega⟩
  simp only [gp, if_neg h, hc, Nat.add_sub_cancel]
theorem up1 {x : Int64} (h0 : 0 ≤ x) (h : x ≤ 100000000) : (x + 1).toInt = x.toInt + 1 := by
  rw [Int64.le_iff_toInt_le] at h0 h
  have e0 : (0 : Int64).toInt = 0 := by decide
  have e1 : (1 : Int64).toInt = 1 := by decide
  have e2 : (100000000 : Int64).toInt = 100000000 := by decide
  rw [Int64.toInt_add, e1]
  exact Jvm.Kit.bmod64 (by omega) (by omega)
/-- a class of v: the next number to try lies higher, and not too high -/
theorem gp_mu {S : St} (hI : Inv S) {c : Nat} {v : Int64} (hc : c < S.nc) (h : inC S.lo S.hi v c) : (100000001 - (S.hi c + 1).toInt).toNat < (100000001 - v.toInt).toNat := by
  obtain ⟨-, -, -, -, -, -, -, -, hcl, -⟩ := hI
  obtain ⟨h1, h2, h3⟩ := hcl c hc
  have e := up1 (Int64.le_trans h1 h2) h3
  have h4 := h.2
  rw [Int64.le_iff_toInt_le] at h3 h4
  have e2 : (100000000 : Int64).toInt = 100000000 := by decide
  omega
theorem stk_new {r : Nat → T3} {x c : Int32} {d i : Nat} (h : nw1 r i) : stk r x (d + 1) i c = if c = x then (r i).2.1 else stk r x d (i + 1) (c + 1) := by simp only [stk, if_pos h]
theorem stk_old {r : Nat → T3} {x c : Int32} {d i : Nat} (h : ¬ nw1 r i) : stk r x (d + 1) i c = stk r x d (i + 1) c := by simp only [stk, if_neg h]
def St.stuckX (S : St) (x : Int32) : Int32 := stk S.row x S.n 0 0
theorem rn_up {C : Nat → Int64} {k : Nat} (h : 0 < k ∧ C (k - 1) ≤ C k) : (rn C k).2 + 1 = (rn C (k + 1)).2 := by simp only [rn, if_pos h]
theorem rn_one {C : Nat → Int64} {k : Nat} (h : ¬ (0 < k ∧ C (k - 1) ≤ C k)) : 1 = (rn C (k + 1)).2 := by simp only [rn, if_neg h]
theorem rn_best {C : Nat → Int64} {k : Nat} : (if (rn C k).1 < (rn C (k + 1)).2 then (rn C (k + 1)).2 else (rn C k).1) = (rn C (k + 1)).1 := rfl
def St.runX (S : St) : Int32 := (rn S.cost S.n).1
theorem hdI_t {C : Nat → Int64} {r : Nat → T3} {q : Int32} {k : Nat} (h : (r k).1 = q) : (if 0 < hdI C r q k then hdI C r q k else 0) + C k = hdI C r q (k + 1) := by simp only [hdI, if_pos h]
theorem hdI_f {C : Nat → Int64} {r : Nat → T3} {q : Int32} {k : Nat} (h : ¬ (r k).1 = q) : hdI C r q k = hdI C r q (k + 1) := by simp only [hdI, if_neg h]
theorem hdO_t {C : Nat → Int64} {r : Nat → T3} {n q : Nat} (h : hdI C r (nI q) n ≤ (hdO C r n q).2) : hdO C r n (q + 1) = hdO C r n q := by simp only [hdO, if_pos h]
theorem hdO_f {C : Nat → Int64} {r : Nat → T3} {n q : Nat} (h : ¬ hdI C r (nI q) n ≤ (hdO C r n q).2) : hdO C r n (q + 1) = (nI q, hdI C r (nI q) n) := by simp only [hdO, if_neg h]
def St.hardX (S : St) : Int32 := (hdO S.cost S.row S.n S.nr).1
set_option maxHeartbeats 4000000 in
set_option maxRecDepth 100000 in
theorem c_GR_classOf (l : Launch) {A : Nat → Prop} {ad : Nat → Nat} {S : St} {sf kf : Nat → Option Nat} {L : va_W} {D : va_G} {dA : Nat → ClassId} {H : Heap} (hG : GX D dA A ad S sf kf L H) (hI : Inv S) {v : Int64} : Met l y_GR_classOf (wd y_GR_classOf b_GR_classOf 4 (some .int)) ({ frames := 0, cells := 0, slots := 0, locals := 0 } : Room) (va_Pc [.ref (ad 0), .long v] (PX D dA H)) (vp_Si (fun r => r = S.cls v)) 0 0 (fun _ => False) := by
  refine mkMet (by decide) (Nat.le_of_ble_eq_true rfl) ?_
  intro p e s m below meth c ls hC hr hlk hnm hl hH
  have hl : lv_has ls 4 [(0, .ref (ad 0)), (1, .long v)] := hl
  obtain ⟨hP, hD, hst, hkp⟩ := id hG
  obtain ⟨hnr, hn, hcur, hnc, hnk, hWE, hrow, hkr, hcl, hdj⟩ := id hI
  refine lv_iconst (pc := 0) (v := nI 0) hC.x hC.b d_GR_classOf_0 (by decide) ?_
  refine lv_istore_n (pc := 1) (lv' := [(3, .int (nI 0)), (0, .ref (ad 0)), (1, .long v)]) hC.x hC.b d_GR_classOf_1 rfl hl (by decide) rfl (fun ls hl => ?_)
  refine lpW (pc := 2) (I := fun j ls => lv_has ls 4 [(3, .int (nI j)), (0, .ref (ad 0)), (1, .long v)] ∧ (∀ i, i < j → ¬ inC S.lo S.hi v i)) (S.nc) ?_ ?_ (0) (Nat.zero_le _) ⟨(lv_sub hl [0, 1, 2] rfl), fun _ h => absurd h (Nat.not_lt_zero _)⟩
  · intro ls hI
    obtain ⟨hl, hv⟩ := hI
    refine lv_iload_n (pc := 2) hC.x hC.b d_GR_classOf_2 rfl (lv_at hl 0 rfl) ?_
    refine lv_aload_n (pc := 3) hC.x hC.b d_GR_classOf_3 rfl (lv_at hl 1 rfl) ?_
    refine fg_GR_78 (pc := 4) hC hP 0 rfl rfl d_GR_classOf_4 ?_
    refine ni_ge (pc := 7) (tgt := 40) hC d_GR_classOf_7 (by decide) (by omega) (by omega) (fun c_7 => ?_) (fun c_7 => ?_)
    · refine lv_iconst (pc := 40) (v := (-1)) hC.x hC.b d_GR_classOf_40 (by decide) ?_
      exact ro_i (pc := 41) hC hr hlk hH d_GR_classOf_41 (cof_none S.nc 0 (fun i _ h => hv i (by omega))).symm
    · exact absurd c_7 (Nat.lt_irrefl _)
  · intro j ls hj hI ih
    obtain ⟨hl, hv⟩ := hI
    refine lv_iload_n (pc := 2) hC.x hC.b d_GR_classOf_2 rfl (lv_at hl 0 rfl) ?_
    refine lv_aload_n (pc := 3) hC.x hC.b d_GR_classOf_3 rfl (lv_at hl 1 rfl) ?_
    refine fg_GR_78 (pc := 4) hC hP 0 rfl rfl d_GR_classOf_4 ?_
    refine ni_ge (pc := 7) (tgt := 40) hC d_GR_classOf_7 (by decide) (by omega) (by omega) (fun c_7 => ?_) (fun c_7 => ?_)
    · exact absurd c_7 (by omega)
    refine lv_lload_n (pc := 10) hC.x hC.b d_GR_classOf_10 rfl (lv_at hl 2 rfl) ?_
    refine lv_aload_n (pc := 11) hC.x hC.b d_GR_classOf_11 rfl (lv_at hl 1 rfl) ?_
    refine fg_GR_22 (pc := 12) hC hP 0 rfl rfl d_GR_classOf_12 ?_
    refine lv_iload_n (pc := 15) hC.x hC.b d_GR_classOf_15 rfl (lv_at hl 0 rfl) ?_
    refine ald_l (pc := 16) hC hP 4 (j) rfl rfl (by omega) (by decide) d_GR_classOf_16 ?_
    refine lc_lt (pc := 17) (tgt := 34) hC d_GR_classOf_17 d_GR_classOf_18 (by decide) (fun c_17 => ?_) (fun c_17 => ?_)
    · refine lv_iinc (pc := 34) (v := nI (j + 1)) (lv' := [(3, .int (nI (j + 1))), (0, .ref (ad 0)), (1, .long v)]) hC.x hC.b d_GR_classOf_34 hl (k := 0) rfl (nI_1 _) (by decide) rfl (fun ls hl => ?_)
      refine lv_goto (pc := 37) (tgt := 2) hC.x hC.b d_GR_classOf_37 (by decide) ?_
      exact ih ls ⟨(lv_sub hl [0, 1, 2] rfl), fun i hi => if z : i = j then z ▸ (fun y => Int64.not_le.mpr c_17 y.1) else hv i (by omega)⟩
    refine lv_lload_n (pc := 21) hC.x hC.b d_GR_classOf_21 rfl (lv_at hl 2 rfl) ?_
    refine lv_aload_n (pc := 22) hC.x hC.b d_GR_classOf_22 rfl (lv_at hl 1 rfl) ?_
    refine fg_GR_26 (pc := 23) hC hP 0 rfl rfl d_GR_classOf_23 ?_
    refine lv_iload_n (pc := 26) hC.x hC.b d_GR_classOf_26 rfl (lv_at hl 0 rfl) ?_
    refine ald_l (pc := 27) hC hP 5 (j) rfl rfl (by omega) (by decide) d_GR_classOf_27 ?_
    refine lc_gt (pc := 28) (tgt := 34) hC d_GR_classOf_28 d_GR_classOf_29 (by decide) (fun c_28 => ?_) (fun c_28 => ?_)
    · refine lv_iinc (pc := 34) (v := nI (j + 1)) (lv' := [(3, .int (nI (j + 1))), (0, .ref (ad 0)), (1, .long v)]) hC.x hC.b d_GR_classOf_34 hl (k := 0) rfl (nI_1 _) (by decide) rfl (fun ls hl => ?_)
      refine lv_goto (pc := 37) (tgt := 2) hC.x hC.b d_GR_classOf_37 (by decide) ?_
      exact ih ls ⟨(lv_sub hl [0, 1, 2] rfl), fun i hi => if z : i = j then z ▸ (fun y => Int64.not_le.mpr c_28 y.2) else hv i (by omega)⟩
    refine lv_iload_n (pc := 32) hC.x hC.b d_GR_classOf_32 rfl (lv_at hl 0 rfl) ?_
    exact ro_i (pc := 33) hC hr hlk hH d_GR_classOf_33 (cof_some ⟨Int64.not_lt.mp c_17, Int64.not_lt.mp c_28⟩ S.nc 0 (Nat.zero_le _) (by omega) (fun i _ h => hv i h)).symm
set_option maxHeartbeats 4000000 in
set_option maxRecDepth 100000 in
theorem k_GR_85_GR_classOf (hC : CX p m c cc nL s args R_GR D dA) {sf kf : Nat → Option Nat} {L : va_W} (hG : GX D dA A ad S sf kf L H) (hI : Inv S) {v : Int64} (hsz : ls.size = nL) (hW : (rest.map fun v => v.category).sum ≤ 8) (hR : 0 + 1 ≤ R.frames ∧ 8 + (4 + 11) + 0 ≤ R.locals) (hf : cells + 0 ≤ R.cells ∧ slots + 0 ≤ R.slots) (hdg : decode cc pc = .ok (.invokevirtual 85, 3)) (kk : W p l e R s m args below meth c H locs cells slots Q (F0 m (pc + 3) ls (.int (S.cls v) :: rest))) : W p l e R s m args below meth c H locs cells slots Q (F0 m pc ls (.long v :: .ref (ad 0) :: rest)) :=
  vp_callSi (va_Run.run (runV hC (c_GR_classOf l hG hI) tw_161 tw_158 tw_160 ts_2 tw_1 ⟨by decide +kernel, by decide +kernel, rfl⟩ rfl rfl (ci := 0) rfl rfl ((hG.1 0 _ rfl)) hsz rfl hW hR hf hdg)) (fun r hr => by rw [hr]; exact kk)
set_option maxHeartbeats 4000000 in
set_option maxRecDepth 100000 in
theorem c_GR_grade (l : Launch) {A : Nat → Prop} {ad : Nat → Nat} {S : St} {sf kf : Nat → Option Nat} {L : va_W} {D : va_G} {dA : Nat → ClassId} {H : Heap} (hG : GX D dA A ad S sf kf L H) (hI : Inv S) : Met l y_GR_grade (wd y_GR_grade b_GR_grade 1 (some .int)) ({ frames := 4, cells := 0, slots := 0, locals := 91 } : Room) (va_Pc [.ref (ad 0)] (PX D dA H)) (vp_Si (fun r => r = S.grade)) 0 0 (fun _ => False) := by
  refine mkMet (by decide) (Nat.le_of_ble_eq_true rfl) ?_
  intro p e s m below meth c ls hC hr hlk hnm hl hH
  have hl : lv_has ls 1 [(0, .ref (ad 0))] := hl
  obtain ⟨hP, hD, hst, hkp⟩ := id hG
  obtain ⟨hnr, hn, hcur, hnc, hnk, hWE, hrow, hkr, hcl, hdj⟩ := id hI
  refine lv_aload_n (pc := 0) hC.x hC.b d_GR_grade_0 rfl (lv_at hl 0 rfl) ?_
  refine lv_aload_n (pc := 1) hC.x hC.b d_GR_grade_1 rfl (lv_at hl 0 rfl) ?_
  refine lv_aload_n (pc := 2) hC.x hC.b d_GR_grade_2 rfl (lv_at hl 0 rfl) ?_
  refine fg_GR_40 (pc := 3) hC hP 0 rfl rfl d_GR_grade_3 ?_
  refine k_GR_81_GR_sum (pc := 6) hC hG hI hl.1 (Nat.le_of_ble_eq_true rfl) ⟨Nat.le_of_ble_eq_true rfl, Nat.le_of_ble_eq_true rfl⟩ ⟨Nat.zero_le _, Nat.zero_le _⟩ d_GR_grade_6 ?_
  refine tp_l (y := S.sum S.n) (sumA_n hn) ?_
  refine k_GR_85_GR_classOf (pc := 9) hC hG hI hl.1 (Nat.le_of_ble_eq_true rfl) ⟨Nat.le_of_ble_eq_true rfl, Nat.le_of_ble_eq_true rfl⟩ ⟨Nat.zero_le _, Nat.zero_le _⟩ d_GR_grade_9 ?_
  exact ro_i (pc := 12) hC hr hlk hH d_GR_grade_12 rfl
set_option maxHeartbeats 4000000 in
set_option maxRecDepth 100000 in
theorem k_GR_89_GR_grade (hC : CX p m c cc nL s args R_GR D dA) {sf kf : Nat → Option Nat} {L : va_W} (hG : GX D dA A ad S sf kf L H) (hI : Inv S) (hsz : ls.size = nL) (hW : (rest.map fun v => v.category).sum ≤ 8) (hR : 4 + 1 ≤ R.frames ∧ 8 + (1 + 11) + 91 ≤ R.locals) (hf : cells + 0 ≤ R.cells ∧ slots + 0 ≤ R.slots) (hdg : decode cc pc = .ok (.invokevirtual 89, 3)) (kk : W p l e R s m args below meth c H locs cells slots Q (F0 m (pc + 3) ls (.int S.grade :: rest))) : W p l e R s m args below meth c H locs cells slots Q (F0 m pc ls (.ref (ad 0) :: rest)) :=
  vp_callSi (va_Run.run (runV hC (c_GR_grade l hG hI) tw_156 tw_166 tw_154 tw_155 tw_1 ⟨by decide +kernel, by decide +kernel, rfl⟩ rfl rfl (ci := 0) rfl rfl ((hG.1 0 _ rfl)) hsz rfl hW hR hf hdg)) (fun r hr => by rw [hr]; exact kk)
set_option maxHeartbeats 4000000 in
set_option maxRecDepth 100000 in
theorem c_GR_rank (l : Launch) {A : Nat → Prop} {ad : Nat → Nat} {S : St} {sf kf : Nat → Option Nat} {L : va_W} {D : va_G} {dA : Nat → ClassId} {H : Heap} (hG : GX D dA A ad S sf kf L H) (hI : Inv S) : Met l y_GR_rank (wd y_GR_rank b_GR_rank 4 (some .int)) ({ frames := 5, cells := 0, slots := 0, locals := 111 } : Room) (va_Pc [.ref (ad 0)] (PX D dA H)) (vp_Si (fun r => r = S.rankX)) 0 0 (fun _ => False) := by
  refine mkMet (by decide) (Nat.le_of_ble_eq_true rfl) ?_
  intro p e s m below meth c ls hC hr hlk hnm hl hH
  have hl : lv_has ls 4 [(0, .ref (ad 0))] := hl
  obtain ⟨hP, hD, hst, hkp⟩ := id hG
  obtain ⟨hnr, hn, hcur, hnc, hnk, hWE, hrow, hkr, hcl, hdj⟩ := id hI
  refine lv_aload_n (pc := 0) hC.x hC.b d_GR_rank_0 rfl (lv_at hl 0 rfl) ?_
  refine k_GR_89_GR_grade (pc := 1) hC hG hI hl.1 (Nat.le_of_ble_eq_true rfl) ⟨Nat.le_of_ble_eq_true rfl, Nat.le_of_ble_eq_true rfl⟩ ⟨Nat.zero_le _, Nat.zero_le _⟩ d_GR_rank_1 ?_
  rcases cls_cases hnc (S.sum S.n) with ⟨c, hc, hin, hg, hg0, hgc⟩ | ⟨hg, hg0⟩
  · refine tp_i (y := nI c) hg ?_
    refine lv_istore_n (pc := 4) (lv' := [(1, .int (nI c)), (0, .ref (ad 0))]) hC.x hC.b d_GR_rank_4 rfl hl (by decide) rfl (fun ls hl => ?_)
    refine lv_iload_n (pc := 5) hC.x hC.b d_GR_rank_5 rfl (lv_at hl 0 rfl) ?_
    refine lv_if_ge (pc := 6) (tgt := 11) hC.x hC.b d_GR_rank_6 (by decide) (fun c_6 => ?_) (fun c_6 => ?_)
    · refine lv_iconst (pc := 11) (v := nI 0) hC.x hC.b d_GR_rank_11 (by decide) ?_
      refine tp_i (y := nI (cnt (fun k => S.hi k < S.lo c) 0)) rfl ?_
      refine lv_istore_n (pc := 12) (lv' := [(2, .int (nI (cnt (fun k => S.hi k < S.lo c) 0))), (1, .int (nI c)), (0, .ref (ad 0))]) hC.x hC.b d_GR_rank_12 rfl hl (by decide) rfl (fun ls hl => ?_)
      refine lv_iconst (pc := 13) (v := nI 0) hC.x hC.b d_GR_rank_13 (by decide) ?_
      refine lv_istore_n (pc := 14) (lv' := [(3, .int (nI 0)), (2, .int (nI (cnt (fun k => S.hi k < S.lo c) 0))), (1, .int (nI c)), (0, .ref (ad 0))]) hC.x hC.b d_GR_rank_14 rfl hl (by decide) rfl (fun ls hl => ?_)
      refine lpW (pc := 15) (I := fun j ls => lv_has ls 4 [(3, .int (nI j)), (2, .int (nI (cnt (fun k => S.hi k < S.lo c) j))), (0, .ref (ad 0)), (1, .int (nI c))] ∧ True) (S.nc) ?_ ?_ (0) (Nat.zero_le _) ⟨(lv_sub hl [0, 1, 3, 2] rfl), trivial⟩
      · intro ls hI
        obtain ⟨hl, hv⟩ := hI
        refine lv_iload_n (pc := 15) hC.x hC.b d_GR_rank_15 rfl (lv_at hl 0 rfl) ?_
        refine lv_aload_n (pc := 16) hC.x hC.b d_GR_rank_16 rfl (lv_at hl 2 rfl) ?_
        refine fg_GR_78 (pc := 17) hC hP 0 rfl rfl d_GR_rank_17 ?_
        refine ni_ge (pc := 20) (tgt := 53) hC d_GR_rank_20 (by decide) (by omega) (by omega) (fun c_20 => ?_) (fun c_20 => ?_)
        · refine lv_iload_n (pc := 53) hC.x hC.b d_GR_rank_53 rfl (lv_at hl 1 rfl) ?_
          exact ro_i (pc := 54) hC hr hlk hH d_GR_rank_54 (by unfold St.rankX; rw [show S.grade = S.cls (S.sum S.n) from rfl, if_neg hg0, hgc])
        · exact absurd c_20 (Nat.lt_irrefl _)
      · intro j ls hj hI ih
        obtain ⟨hl, hv⟩ := hI
        refine lv_iload_n (pc := 15) hC.x hC.b d_GR_rank_15 rfl (lv_at hl 0 rfl) ?_
        refine lv_aload_n (pc := 16) hC.x hC.b d_GR_rank_16 rfl (lv_at hl 2 rfl) ?_
        refine fg_GR_78 (pc := 17) hC hP 0 rfl rfl d_GR_rank_17 ?_
        refine ni_ge (pc := 20) (tgt := 53) hC d_GR_rank_20 (by decide) (by omega) (by omega) (fun c_20 => ?_) (fun c_20 => ?_)
        · exact absurd c_20 (by omega)
        refine lv_iload_n (pc := 23) hC.x hC.b d_GR_rank_23 rfl (lv_at hl 1 rfl) ?_
        refine lv_aload_n (pc := 24) hC.x hC.b d_GR_rank_24 rfl (lv_at hl 2 rfl) ?_
        refine fg_GR_26 (pc := 25) hC hP 0 rfl rfl d_GR_rank_25 ?_
        refine lv_iload_n (pc := 28) hC.x hC.b d_GR_rank_28 rfl (lv_at hl 0 rfl) ?_
        refine ald_l (pc := 29) hC hP 5 (j) rfl rfl (by omega) (by decide) d_GR_rank_29 ?_
        refine lv_aload_n (pc := 30) hC.x hC.b d_GR_rank_30 rfl (lv_at hl 2 rfl) ?_
        refine fg_GR_22 (pc := 31) hC hP 0 rfl rfl d_GR_rank_31 ?_
        refine lv_iload_n (pc := 34) hC.x hC.b d_GR_rank_34 rfl (lv_at hl 3 rfl) ?_
        refine ald_l (pc := 35) hC hP 4 (c) rfl rfl (by omega) (by decide) d_GR_rank_35 ?_
        refine lc_ge (pc := 36) (tgt := 44) hC d_GR_rank_36 d_GR_rank_37 (by decide) (fun c_36 => ?_) (fun c_36 => ?_)
        · refine lv_iconst (pc := 44) (v := 0) hC.x hC.b d_GR_rank_44 (by decide) ?_
          refine lv_iadd (pc := 45) hC.x hC.b d_GR_rank_45 ?_
          refine tp_i (y := nI (cnt (fun k => S.hi k < S.lo c) (j + 1))) (cnt_f (Int64.not_lt.mpr c_36)) ?_
          refine lv_istore_n (pc := 46) (lv' := [(2, .int (nI (cnt (fun k => S.hi k < S.lo c) (j + 1)))), (3, .int (nI j)), (0, .ref (ad 0)), (1, .int (nI c))]) hC.x hC.b d_GR_rank_46 rfl hl (by decide) rfl (fun ls hl => ?_)
          refine lv_iinc (pc := 47) (v := nI (j + 1)) (lv' := [(3, .int (nI (j + 1))), (2, .int (nI (cnt (fun k => S.hi k < S.lo c) (j + 1)))), (0, .ref (ad 0)), (1, .int (nI c))]) hC.x hC.b d_GR_rank_47 hl (k := 1) rfl (nI_1 _) (by decide) rfl (fun ls hl => ?_)
          refine lv_goto (pc := 50) (tgt := 15) hC.x hC.b d_GR_rank_50 (by decide) ?_
          exact ih ls ⟨(lv_sub hl [0, 1, 2, 3] rfl), trivial⟩
        · refine lv_iconst (pc := 40) (v := 1) hC.x hC.b d_GR_rank_40 (by decide) ?_
          refine lv_goto (pc := 41) (tgt := 45) hC.x hC.b d_GR_rank_41 (by decide) ?_
          refine lv_iadd (pc := 45) hC.x hC.b d_GR_rank_45 ?_
          refine tp_i (y := nI (cnt (fun k => S.hi k < S.lo c) (j + 1))) (cnt_t (Int64.not_le.mp c_36)) ?_
          refine lv_istore_n (pc := 46) (lv' := [(2, .int (nI (cnt (fun k => S.hi k < S.lo c) (j + 1)))), (3, .int (nI j)), (0, .ref (ad 0)), (1, .int (nI c))]) hC.x hC.b d_GR_rank_46 rfl hl (by decide) rfl (fun ls hl => ?_)
          refine lv_iinc (pc := 47) (v := nI (j + 1)) (lv' := [(3, .int (nI (j + 1))), (2, .int (nI (cnt (fun k => S.hi k < S.lo c) (j + 1)))), (0, .ref (ad 0)), (1, .int (nI c))]) hC.x hC.b d_GR_rank_47 hl (k := 1) rfl (nI_1 _) (by decide) rfl (fun ls hl => ?_)
          refine lv_goto (pc := 50) (tgt := 15) hC.x hC.b d_GR_rank_50 (by decide) ?_
          exact ih ls ⟨(lv_sub hl [0, 1, 2, 3] rfl), trivial⟩
    · exact absurd (nI_pos' (by omega)) c_6
  · refine tp_i (y := -1) hg ?_
    refine lv_istore_n (pc := 4) (lv' := [(1, .int (-1)), (0, .ref (ad 0))]) hC.x hC.b d_GR_rank_4 rfl hl (by decide) rfl (fun ls hl => ?_)
    refine lv_iload_n (pc := 5) hC.x hC.b d_GR_rank_5 rfl (lv_at hl 0 rfl) ?_
    refine lv_if_ge (pc := 6) (tgt := 11) hC.x hC.b d_GR_rank_6 (by decide) (fun c_6 => ?_) (fun c_6 => ?_)
    · exact absurd c_6 (by decide)
    refine lv_iconst (pc := 9) (v := (-1)) hC.x hC.b d_GR_rank_9 (by decide) ?_
    exact ro_i (pc := 10) hC hr hlk hH d_GR_rank_10 (by unfold St.rankX; rw [show S.grade = S.cls (S.sum S.n) from rfl, if_pos hg0])
set_option maxHeartbeats 4000000 in
set_option maxRecDepth 100000 in
theorem c_GR_gap (l : Launch) {A : Nat → Prop} {ad : Nat → Nat} {S : St} {sf kf : Nat → Option Nat} {L : va_W} {D : va_G} {dA : Nat → ClassId} {H : Heap} (hG : GX D dA A ad S sf kf L H) (hI : Inv S) {v : Int64} {F : Nat} (hF : 100000002 ≤ F) : Met l y_GR_gap (wd y_GR_gap b_GR_gap 6 (some .long)) ({ frames := 1, cells := 0, slots := 0, locals := 23 } : Room) (va_Pc [.ref (ad 0), .long v] (PX D dA H)) (vp_Sl (fun r => r = S.gapX F v)) 0 0 (fun _ => False) := by
  refine mkMet (by decide) (Nat.le_of_ble_eq_true rfl) ?_
  intro p e s m below meth c ls hC hr hlk hnm hl hH
  have hl : lv_has ls 6 [(0, .ref (ad 0)), (1, .long v)] := hl
  obtain ⟨hP, hD, hst, hkp⟩ := id hG
  obtain ⟨hnr, hn, hcur, hnc, hnk, hWE, hrow, hkr, hcl, hdj⟩ := id hI
  refine lv_lload_n (pc := 0) hC.x hC.b d_GR_gap_0 rfl (lv_at hl 1 rfl) ?_
  refine lv_lconst (pc := 1) (v := 0) hC.x hC.b d_GR_gap_1 (by decide) ?_
  refine lc_ge (pc := 2) (tgt := 10) hC d_GR_gap_2 d_GR_gap_3 (by decide) (fun c_2 => ?_) (fun c_2 => ?_)
  · refine lv_lload_n (pc := 10) hC.x hC.b d_GR_gap_10 rfl (lv_at hl 1 rfl) ?_
    refine lv_lstore_n (pc := 11) (lv' := [(3, .long v), (0, .ref (ad 0)), (1, .long v)]) hC.x hC.b d_GR_gap_11 rfl hl (by decide) rfl (fun ls hl => ?_)
    refine lv_aload_n (pc := 12) hC.x hC.b d_GR_gap_12 rfl (lv_at hl 1 rfl) ?_
    refine lv_lload_n (pc := 13) hC.x hC.b d_GR_gap_13 rfl (lv_at hl 0 rfl) ?_
    refine k_GR_85_GR_classOf (pc := 14) hC hG hI hl.1 (Nat.le_of_ble_eq_true rfl) ⟨Nat.le_of_ble_eq_true rfl, Nat.le_of_ble_eq_true rfl⟩ ⟨Nat.zero_le _, Nat.zero_le _⟩ d_GR_gap_14 ?_
    refine lv_istore (pc := 17) (lv' := [(5, .int (S.cls v)), (3, .long v), (0, .ref (ad 0)), (1, .long v)]) hC.x hC.b d_GR_gap_17 hl (by decide) rfl (fun ls hl => ?_)
    refine lpR (pc := 19) (I := fun d ls => ∃ (w : Int64) (F1 : Nat), lv_has ls 6 [(5, .int (S.cls w)), (3, .long w), (0, .ref (ad 0)), (1, .long v)] ∧ gp S F1 w = gp S F v ∧ (100000001 - w.toInt).toNat = d ∧ d < F1) ?_ (100000001 - v.toInt).toNat ⟨v, F, (lv_sub hl [0, 1, 2, 3] rfl), rfl, rfl, ?_⟩
    · intro d ls hI2 ih
      obtain ⟨w, F1, hl, hg, hd, hF1⟩ := hI2
      refine lv_iload (pc := 19) hC.x hC.b d_GR_gap_19 (lv_at hl 0 rfl) ?_
      rcases cls_cases hnc w with ⟨c, hc, hin, hg1, hg0, hgc⟩ | ⟨hg1, hg0⟩
      · refine lv_if_lt (pc := 21) (tgt := 44) hC.x hC.b d_GR_gap_21 (by decide) (fun c_21 => ?_) (fun c_21 => ?_)
        · exact absurd c_21 hg0
        refine lv_aload_n (pc := 24) hC.x hC.b d_GR_gap_24 rfl (lv_at hl 2 rfl) ?_
        refine fg_GR_26 (pc := 25) hC hP 0 rfl rfl d_GR_gap_25 ?_
        refine lv_iload (pc := 28) hC.x hC.b d_GR_gap_28 (lv_at hl 0 rfl) ?_
        refine ald_l (pc := 30) hC hP 5 (c) rfl hg1 (by omega) (by decide) d_GR_gap_30 ?_
        refine lv_lconst (pc := 31) (v := 1) hC.x hC.b d_GR_gap_31 (by decide) ?_
        refine lv_ladd (pc := 32) hC.x hC.b d_GR_gap_32 ?_
        refine lv_lstore_n (pc := 33) (lv' := [(3, .long ((S.hi c) + 1)), (5, .int (S.cls w)), (0, .ref (ad 0)), (1, .long v)]) hC.x hC.b d_GR_gap_33 rfl hl (by decide) rfl (fun ls hl => ?_)
        refine lv_aload_n (pc := 34) hC.x hC.b d_GR_gap_34 rfl (lv_at hl 2 rfl) ?_
        refine lv_lload_n (pc := 35) hC.x hC.b d_GR_gap_35 rfl (lv_at hl 0 rfl) ?_
        refine k_GR_85_GR_classOf (pc := 36) hC hG hI hl.1 (Nat.le_of_ble_eq_true rfl) ⟨Nat.le_of_ble_eq_true rfl, Nat.le_of_ble_eq_true rfl⟩ ⟨Nat.zero_le _, Nat.zero_le _⟩ d_GR_gap_36 ?_
        refine lv_istore (pc := 39) (lv' := [(5, .int (S.cls (S.hi c + 1))), (3, .long ((S.hi c) + 1)), (0, .ref (ad 0)), (1, .long v)]) hC.x hC.b d_GR_gap_39 hl (by decide) rfl (fun ls hl => ?_)
        refine lv_goto (pc := 41) (tgt := 19) hC.x hC.b d_GR_gap_41 (by decide) ?_
        exact ih _ ls (hd ▸ gp_mu hI hc hin) ⟨S.hi c + 1, F1 - 1, (lv_sub hl [0, 1, 2, 3] rfl), (gp_go hg0 hgc (by omega)).symm.trans hg, rfl, by have := gp_mu hI hc hin; omega⟩
      · refine lv_if_lt (pc := 21) (tgt := 44) hC.x hC.b d_GR_gap_21 (by decide) (fun c_21 => ?_) (fun c_21 => ?_)
        · refine lv_lload_n (pc := 44) hC.x hC.b d_GR_gap_44 rfl (lv_at hl 1 rfl) ?_
          exact ro_l (pc := 45) hC hr hlk hH d_GR_gap_45 (by unfold St.gapX; rw [if_neg (Int64.not_lt.mpr c_2), ← hg]; exact (gp_stop hg0 (by omega)).symm)
        · exact absurd hg0 c_21
    rw [Int64.le_iff_toInt_le] at c_2
    have e0 : (0 : Int64).toInt = 0 := by decide
    omega
  refine lv_ldc2 (pc := 6) hC.x hC.b hC.o (hC.t _ tw_119) d_GR_gap_6 ?_
  exact ro_l (pc := 9) hC hr hlk hH d_GR_gap_9 (by unfold St.gapX; rw [if_pos (Int64.not_le.mp c_2)])
set_option maxHeartbeats 4000000 in
set_option maxRecDepth 100000 in
theorem c_GR_isStuckAhead (l : Launch) {A : Nat → Prop} {ad : Nat → Nat} {S : St} {sf kf : Nat → Option Nat} {L : va_W} {D : va_G} {dA : Nat → ClassId} {H : Heap} (hG : GX D dA A ad S sf kf L H) (hI : Inv S) {x : Int32} {k : Nat} (hk : k ≤ S.n) : Met l y_GR_isStuckAhead (wd y_GR_isStuckAhead b_GR_isStuckAhead 4 (some .boolean)) ({ frames := 1, cells := 0, slots := 0, locals := 20 } : Room) (va_Pc [.ref (ad 0), .int x, .int (nI k)] (PX D dA H)) (vp_Si (fun v => v = if (∀ j, j < k → ¬ (aln (S.row j) ∧ (S.row j).2.1 = x)) then 0 else 1)) 0 0 (fun _ => False) := by
  refine mkMet (by decide) (Nat.le_of_ble_eq_true rfl) ?_
  intro p e s m below meth c ls hC hr hlk hnm hl hH
  have hl : lv_has ls 4 [(0, .ref (ad 0)), (1, .int x), (2, .int (nI k))] := hl
  obtain ⟨hP, hD, hst, hkp⟩ := id hG
  obtain ⟨hnr, hn, hcur, hnc, hnk, hWE, hrow, hkr, hcl, hdj⟩ := id hI
  refine lv_iconst (pc := 0) (v := nI 0) hC.x hC.b d_GR_isStuckAhead_0 (by decide) ?_
  refine lv_istore_n (pc := 1) (lv' := [(3, .int (nI 0)), (0, .ref (ad 0)), (1, .int x), (2, .int (nI k))]) hC.x hC.b d_GR_isStuckAhead_1 rfl hl (by decide) rfl (fun ls hl => ?_)
  refine lpW (pc := 2) (I := fun j ls => lv_has ls 4 [(3, .int (nI j)), (0, .ref (ad 0)), (1, .int x), (2, .int (nI k))] ∧ (∀ i, i < j → ¬ (aln (S.row i) ∧ (S.row i).2.1 = x))) (k) ?_ ?_ (0) (Nat.zero_le _) ⟨(lv_sub hl [0, 1, 2, 3] rfl), fun _ h => absurd h (Nat.not_lt_zero _)⟩
  · intro ls hI
    obtain ⟨hl, hv⟩ := hI
    refine lv_iload_n (pc := 2) hC.x hC.b d_GR_isStuckAhead_2 rfl (lv_at hl 0 rfl) ?_
    refine lv_iload_n (pc := 3) hC.x hC.b d_GR_isStuckAhead_3 rfl (lv_at hl 3 rfl) ?_
    refine ni_ge (pc := 4) (tgt := 40) hC d_GR_isStuckAhead_4 (by decide) (by omega) (by omega) (fun c_4 => ?_) (fun c_4 => ?_)
    · refine lv_iconst (pc := 40) (v := 0) hC.x hC.b d_GR_isStuckAhead_40 (by decide) ?_
      exact ro_z (pc := 41) hC hr hlk hH d_GR_isStuckAhead_41 (by decide) (if_pos hv).symm
    · exact absurd c_4 (Nat.lt_irrefl _)
  · intro j ls hj hI ih
    obtain ⟨hl, hv⟩ := hI
    refine lv_iload_n (pc := 2) hC.x hC.b d_GR_isStuckAhead_2 rfl (lv_at hl 0 rfl) ?_
    refine lv_iload_n (pc := 3) hC.x hC.b d_GR_isStuckAhead_3 rfl (lv_at hl 3 rfl) ?_
    refine ni_ge (pc := 4) (tgt := 40) hC d_GR_isStuckAhead_4 (by decide) (by omega) (by omega) (fun c_4 => ?_) (fun c_4 => ?_)
    · exact absurd c_4 (by omega)
    refine lv_aload_n (pc := 7) hC.x hC.b d_GR_isStuckAhead_7 rfl (lv_at hl 1 rfl) ?_
    refine fg_GR_18 (pc := 8) hC hP 0 rfl rfl d_GR_isStuckAhead_8 ?_
    refine lv_iload_n (pc := 11) hC.x hC.b d_GR_isStuckAhead_11 rfl (lv_at hl 0 rfl) ?_
    obtain ⟨a, ha, hs⟩ := hst (j) (by omega)
    refine ald_q (pc := 12) (t0 := 3) hC hP 3 (j) rfl rfl rfl (by omega) (by decide) ha d_GR_isStuckAhead_12 ?_
    refine k_GR_92_GS_isAlone (pc := 13) hC hP hs hl.1 (Nat.le_of_ble_eq_true rfl) ⟨Nat.le_of_ble_eq_true rfl, Nat.le_of_ble_eq_true rfl⟩ ⟨Nat.zero_le _, Nat.zero_le _⟩ d_GR_isStuckAhead_13 ?_
    by_cases hA : aln (S.row j)
    · refine tp_i (y := 1) (if_pos hA) ?_
      refine lv_if_eq (pc := 16) (tgt := 34) hC.x hC.b d_GR_isStuckAhead_16 (by decide) (fun c_16 => ?_) (fun c_16 => ?_)
      · exact absurd c_16 (by decide)
      refine lv_aload_n (pc := 19) hC.x hC.b d_GR_isStuckAhead_19 rfl (lv_at hl 1 rfl) ?_
      refine fg_GR_18 (pc := 20) hC hP 0 rfl rfl d_GR_isStuckAhead_20 ?_
      refine lv_iload_n (pc := 23) hC.x hC.b d_GR_isStuckAhead_23 rfl (lv_at hl 0 rfl) ?_
      obtain ⟨a2, ha2, hs2⟩ := hst (j) (by omega)
      refine ald_q (pc := 24) (t0 := 3) hC hP 3 (j) rfl rfl rfl (by omega) (by decide) ha2 d_GR_isStuckAhead_24 ?_
      refine k_GR_96_GS_place (pc := 25) hC hP hs2 hl.1 (Nat.le_of_ble_eq_true rfl) ⟨Nat.le_of_ble_eq_true rfl, Nat.le_of_ble_eq_true rfl⟩ ⟨Nat.zero_le _, Nat.zero_le _⟩ d_GR_isStuckAhead_25 ?_
      refine tp_i (y := (S.row j).2.1) (if_neg hA.1) ?_
      refine lv_iload_n (pc := 28) hC.x hC.b d_GR_isStuckAhead_28 rfl (lv_at hl 2 rfl) ?_
      refine lv_icmp_ne (pc := 29) (tgt := 34) hC.x hC.b d_GR_isStuckAhead_29 (by decide) (fun c_29 => ?_) (fun c_29 => ?_)
      · refine lv_iinc (pc := 34) (v := nI (j + 1)) (lv' := [(3, .int (nI (j + 1))), (0, .ref (ad 0)), (1, .int x), (2, .int (nI k))]) hC.x hC.b d_GR_isStuckAhead_34 hl (k := 0) rfl (nI_1 _) (by decide) rfl (fun ls hl => ?_)
        refine lv_goto (pc := 37) (tgt := 2) hC.x hC.b d_GR_isStuckAhead_37 (by decide) ?_
        exact ih ls ⟨(lv_sub hl [0, 1, 2, 3] rfl), fun i hi => if z : i = j then z ▸ (fun y => c_29 y.2) else hv i (by omega)⟩
      refine lv_iconst (pc := 32) (v := 1) hC.x hC.b d_GR_isStuckAhead_32 (by decide) ?_
      exact ro_z (pc := 33) hC hr hlk hH d_GR_isStuckAhead_33 (by decide) (if_neg (fun z => z j hj ⟨hA, c_29⟩)).symm
    · refine tp_i (y := 0) (if_neg hA) ?_
      refine lv_if_eq (pc := 16) (tgt := 34) hC.x hC.b d_GR_isStuckAhead_16 (by decide) (fun c_16 => ?_) (fun c_16 => ?_)
      · refine lv_iinc (pc := 34) (v := nI (j + 1)) (lv' := [(3, .int (nI (j + 1))), (0, .ref (ad 0)), (1, .int x), (2, .int (nI k))]) hC.x hC.b d_GR_isStuckAhead_34 hl (k := 0) rfl (nI_1 _) (by decide) rfl (fun ls hl => ?_)
        refine lv_goto (pc := 37) (tgt := 2) hC.x hC.b d_GR_isStuckAhead_37 (by decide) ?_
        exact ih ls ⟨(lv_sub hl [0, 1, 2, 3] rfl), fun i hi => if z : i = j then z ▸ (fun y => hA y.1) else hv i (by omega)⟩
      · exact absurd rfl c_16
set_option maxHeartbeats 4000000 in
set_option maxRecDepth 100000 in
theorem k_GR_99_GR_isStuckAhead (hC : CX p m c cc nL s args R_GR D dA) {sf kf : Nat → Option Nat} {L : va_W} (hG : GX D dA A ad S sf kf L H) (hI : Inv S) {x : Int32} {k : Nat} (hk : k ≤ S.n) (hsz : ls.size = nL) (hW : (rest.map fun v => v.category).sum ≤ 8) (hR : 1 + 1 ≤ R.frames ∧ 8 + (4 + 11) + 20 ≤ R.locals) (hf : cells + 0 ≤ R.cells ∧ slots + 0 ≤ R.slots) (hdg : decode cc pc = .ok (.invokevirtual 99, 3)) (kk : W p l e R s m args below meth c H locs cells slots Q (F0 m (pc + 3) ls (.int (if (∀ j, j < k → ¬ (aln (S.row j) ∧ (S.row j).2.1 = x)) then 0 else 1) :: rest))) : W p l e R s m args below meth c H locs cells slots Q (F0 m pc ls (.int (nI k) :: .int x :: .ref (ad 0) :: rest)) :=
  vp_callSi (va_Run.run (runV hC (c_GR_isStuckAhead l hG hI hk) tw_194 tw_191 tw_193 ts_3 tw_1 ⟨by decide +kernel, by decide +kernel, rfl⟩ rfl rfl (ci := 0) rfl rfl ((hG.1 0 _ rfl)) hsz rfl hW hR hf hdg)) (fun r hr => by rw [hr]; exact kk)
set_option maxHeartbeats 4000000 in
set_option maxRecDepth 100000 in
theorem c_GR_stuck (l : Launch) {A : Nat → Prop} {ad : Nat → Nat} {S : St} {sf kf : Nat → Option Nat} {L : va_W} {D : va_G} {dA : Nat → ClassId} {H : Heap} (hG : GX D dA A ad S sf kf L H) (hI : Inv S) {x : Int32} : Met l y_GR_stuck (wd y_GR_stuck b_GR_stuck 4 (some .int)) ({ frames := 2, cells := 0, slots := 0, locals := 43 } : Room) (va_Pc [.ref (ad 0), .int x] (PX D dA H)) (vp_Si (fun r => r = S.stuckX x)) 0 0 (fun _ => False) := by
  refine mkMet (by decide) (Nat.le_of_ble_eq_true rfl) ?_
  intro p e s m below meth c ls hC hr hlk hnm hl hH
  have hl : lv_has ls 4 [(0, .ref (ad 0)), (1, .int x)] := hl
  obtain ⟨hP, hD, hst, hkp⟩ := id hG
  obtain ⟨hnr, hn, hcur, hnc, hnk, hWE, hrow, hkr, hcl, hdj⟩ := id hI
  refine lv_iconst (pc := 0) (v := 0) hC.x hC.b d_GR_stuck_0 (by decide) ?_
  refine lv_istore_n (pc := 1) (lv' := [(2, .int 0), (0, .ref (ad 0)), (1, .int x)]) hC.x hC.b d_GR_stuck_1 rfl hl (by decide) rfl (fun ls hl => ?_)
  refine lv_iconst (pc := 2) (v := nI 0) hC.x hC.b d_GR_stuck_2 (by decide) ?_
  refine lv_istore_n (pc := 3) (lv' := [(3, .int (nI 0)), (2, .int 0), (0, .ref (ad 0)), (1, .int x)]) hC.x hC.b d_GR_stuck_3 rfl hl (by decide) rfl (fun ls hl => ?_)
  refine lpW (pc := 4) (I := fun j ls => ∃ c : Int32, lv_has ls 4 [(3, .int (nI j)), (2, .int c), (0, .ref (ad 0)), (1, .int x)] ∧ stk S.row x (S.n - j) j c = S.stuckX x) (S.n) ?_ ?_ (0) (Nat.zero_le _) ⟨0, (lv_sub hl [0, 1, 2, 3] rfl), rfl⟩
  · intro ls hI
    obtain ⟨c, hl, hv⟩ := hI
    refine lv_iload_n (pc := 4) hC.x hC.b d_GR_stuck_4 rfl (lv_at hl 0 rfl) ?_
    refine lv_aload_n (pc := 5) hC.x hC.b d_GR_stuck_5 rfl (lv_at hl 2 rfl) ?_
    refine fg_GR_40 (pc := 6) hC hP 0 rfl rfl d_GR_stuck_6 ?_
    refine ni_ge (pc := 9) (tgt := 68) hC d_GR_stuck_9 (by decide) (by omega) (by omega) (fun c_9 => ?_) (fun c_9 => ?_)
    · refine lv_iconst (pc := 68) (v := (-1)) hC.x hC.b d_GR_stuck_68 (by decide) ?_
      exact ro_i (pc := 69) hC hr hlk hH d_GR_stuck_69 (by rw [Nat.sub_self] at hv; exact hv)
    · exact absurd c_9 (Nat.lt_irrefl _)
  · intro j ls hj hI ih
    obtain ⟨c, hl, hv⟩ := hI
    have e1 : S.n - j = (S.n - (j + 1)) + 1 := by omega
    rw [e1] at hv
    refine lv_iload_n (pc := 4) hC.x hC.b d_GR_stuck_4 rfl (lv_at hl 0 rfl) ?_
    refine lv_aload_n (pc := 5) hC.x hC.b d_GR_stuck_5 rfl (lv_at hl 2 rfl) ?_
    refine fg_GR_40 (pc := 6) hC hP 0 rfl rfl d_GR_stuck_6 ?_
    refine ni_ge (pc := 9) (tgt := 68) hC d_GR_stuck_9 (by decide) (by omega) (by omega) (fun c_9 => ?_) (fun c_9 => ?_)
    · exact absurd c_9 (by omega)
    refine lv_aload_n (pc := 12) hC.x hC.b d_GR_stuck_12 rfl (lv_at hl 2 rfl) ?_
    refine fg_GR_18 (pc := 13) hC hP 0 rfl rfl d_GR_stuck_13 ?_
    refine lv_iload_n (pc := 16) hC.x hC.b d_GR_stuck_16 rfl (lv_at hl 0 rfl) ?_
    obtain ⟨a, ha, hs⟩ := hst (j) (by omega)
    refine ald_q (pc := 17) (t0 := 3) hC hP 3 (j) rfl rfl rfl (by omega) (by decide) ha d_GR_stuck_17 ?_
    refine k_GR_92_GS_isAlone (pc := 18) hC hP hs hl.1 (Nat.le_of_ble_eq_true rfl) ⟨Nat.le_of_ble_eq_true rfl, Nat.le_of_ble_eq_true rfl⟩ ⟨Nat.zero_le _, Nat.zero_le _⟩ d_GR_stuck_18 ?_
    by_cases hA : aln (S.row j)
    · refine tp_i (y := 1) (if_pos hA) ?_
      refine lv_if_eq (pc := 21) (tgt := 62) hC.x hC.b d_GR_stuck_21 (by decide) (fun c_21 => ?_) (fun c_21 => ?_)
      · exact absurd c_21 (by decide)
      refine lv_aload_n (pc := 24) hC.x hC.b d_GR_stuck_24 rfl (lv_at hl 2 rfl) ?_
      refine lv_aload_n (pc := 25) hC.x hC.b d_GR_stuck_25 rfl (lv_at hl 2 rfl) ?_
      refine fg_GR_18 (pc := 26) hC hP 0 rfl rfl d_GR_stuck_26 ?_
      refine lv_iload_n (pc := 29) hC.x hC.b d_GR_stuck_29 rfl (lv_at hl 0 rfl) ?_
      obtain ⟨a2, ha2, hs2⟩ := hst (j) (by omega)
      refine ald_q (pc := 30) (t0 := 3) hC hP 3 (j) rfl rfl rfl (by omega) (by decide) ha2 d_GR_stuck_30 ?_
      refine k_GR_96_GS_place (pc := 31) hC hP hs2 hl.1 (Nat.le_of_ble_eq_true rfl) ⟨Nat.le_of_ble_eq_true rfl, Nat.le_of_ble_eq_true rfl⟩ ⟨Nat.zero_le _, Nat.zero_le _⟩ d_GR_stuck_31 ?_
      refine tp_i (y := (S.row j).2.1) (if_neg hA.1) ?_
      refine lv_iload_n (pc := 34) hC.x hC.b d_GR_stuck_34 rfl (lv_at hl 0 rfl) ?_
      refine k_GR_99_GR_isStuckAhead (pc := 35) hC hG hI (Nat.le_of_lt hj) hl.1 (Nat.le_of_ble_eq_true rfl) ⟨Nat.le_of_ble_eq_true rfl, Nat.le_of_ble_eq_true rfl⟩ ⟨Nat.zero_le _, Nat.zero_le _⟩ d_GR_stuck_35 ?_
      by_cases hN : ∀ i, i < j → ¬ (aln (S.row i) ∧ (S.row i).2.1 = (S.row j).2.1)
      · refine tp_i (y := 0) (if_pos hN) ?_
        refine lv_if_eq (pc := 38) (tgt := 44) hC.x hC.b d_GR_stuck_38 (by decide) (fun c_38 => ?_) (fun c_38 => ?_)
        · rw [stk_new ⟨hA, hN⟩] at hv
          refine lv_iload_n (pc := 44) hC.x hC.b d_GR_stuck_44 rfl (lv_at hl 1 rfl) ?_
          refine lv_iload_n (pc := 45) hC.x hC.b d_GR_stuck_45 rfl (lv_at hl 3 rfl) ?_
          refine lv_icmp_ne (pc := 46) (tgt := 59) hC.x hC.b d_GR_stuck_46 (by decide) (fun c_46 => ?_) (fun c_46 => ?_)
          · refine lv_iinc (pc := 59) (v := c + 1) (lv' := [(2, .int (c + 1)), (3, .int (nI j)), (0, .ref (ad 0)), (1, .int x)]) hC.x hC.b d_GR_stuck_59 hl (k := 1) rfl rfl (by decide) rfl (fun ls hl => ?_)
            refine lv_iinc (pc := 62) (v := nI (j + 1)) (lv' := [(3, .int (nI (j + 1))), (2, .int (c + 1)), (0, .ref (ad 0)), (1, .int x)]) hC.x hC.b d_GR_stuck_62 hl (k := 1) rfl (nI_1 _) (by decide) rfl (fun ls hl => ?_)
            refine lv_goto (pc := 65) (tgt := 4) hC.x hC.b d_GR_stuck_65 (by decide) ?_
            exact ih ls ⟨c + 1, (lv_sub hl [0, 1, 2, 3] rfl), by rw [if_neg c_46] at hv; exact hv⟩
          refine lv_aload_n (pc := 49) hC.x hC.b d_GR_stuck_49 rfl (lv_at hl 2 rfl) ?_
          refine fg_GR_18 (pc := 50) hC hP 0 rfl rfl d_GR_stuck_50 ?_
          refine lv_iload_n (pc := 53) hC.x hC.b d_GR_stuck_53 rfl (lv_at hl 0 rfl) ?_
          obtain ⟨a3, ha3, hs3⟩ := hst (j) (by omega)
          refine ald_q (pc := 54) (t0 := 3) hC hP 3 (j) rfl rfl rfl (by omega) (by decide) ha3 d_GR_stuck_54 ?_
          refine k_GR_96_GS_place (pc := 55) hC hP hs3 hl.1 (Nat.le_of_ble_eq_true rfl) ⟨Nat.le_of_ble_eq_true rfl, Nat.le_of_ble_eq_true rfl⟩ ⟨Nat.zero_le _, Nat.zero_le _⟩ d_GR_stuck_55 ?_
          refine tp_i (y := (S.row j).2.1) (if_neg hA.1) ?_
          exact ro_i (pc := 58) hC hr hlk hH d_GR_stuck_58 (by rw [if_pos c_46] at hv; exact hv)
        · exact absurd rfl c_38
      · refine tp_i (y := 1) (if_neg hN) ?_
        refine lv_if_eq (pc := 38) (tgt := 44) hC.x hC.b d_GR_stuck_38 (by decide) (fun c_38 => ?_) (fun c_38 => ?_)
        · exact absurd c_38 (by decide)
        refine lv_goto (pc := 41) (tgt := 62) hC.x hC.b d_GR_stuck_41 (by decide) ?_
        refine lv_iinc (pc := 62) (v := nI (j + 1)) (lv' := [(3, .int (nI (j + 1))), (2, .int c), (0, .ref (ad 0)), (1, .int x)]) hC.x hC.b d_GR_stuck_62 hl (k := 0) rfl (nI_1 _) (by decide) rfl (fun ls hl => ?_)
        refine lv_goto (pc := 65) (tgt := 4) hC.x hC.b d_GR_stuck_65 (by decide) ?_
        exact ih ls ⟨c, (lv_sub hl [0, 1, 2, 3] rfl), by rw [stk_old (fun z => hN z.2)] at hv; exact hv⟩
    · refine tp_i (y := 0) (if_neg hA) ?_
      refine lv_if_eq (pc := 21) (tgt := 62) hC.x hC.b d_GR_stuck_21 (by decide) (fun c_21 => ?_) (fun c_21 => ?_)
      · refine lv_iinc (pc := 62) (v := nI (j + 1)) (lv' := [(3, .int (nI (j + 1))), (2, .int c), (0, .ref (ad 0)), (1, .int x)]) hC.x hC.b d_GR_stuck_62 hl (k := 0) rfl (nI_1 _) (by decide) rfl (fun ls hl => ?_)
        refine lv_goto (pc := 65) (tgt := 4) hC.x hC.b d_GR_stuck_65 (by decide) ?_
        exact ih ls ⟨c, (lv_sub hl [0, 1, 2, 3] rfl), by rw [stk_old (fun z => hA z.1)] at hv; exact hv⟩
      · exact absurd rfl c_21
set_option maxHeartbeats 4000000 in
set_option maxRecDepth 100000 in
theorem c_GR_run (l : Launch) {A : Nat → Prop} {ad : Nat → Nat} {S : St} {sf kf : Nat → Option Nat} {L : va_W} {D : va_G} {dA : Nat → ClassId} {H : Heap} (hG : GX D dA A ad S sf kf L H) (hI : Inv S) : Met l y_GR_run (wd y_GR_run b_GR_run 4 (some .int)) ({ frames := 4, cells := 0, slots := 0, locals := 88 } : Room) (va_Pc [.ref (ad 0)] (PX D dA H)) (vp_Si (fun r => r = S.runX)) 0 0 (fun _ => False) := by
  refine mkMet (by decide) (Nat.le_of_ble_eq_true rfl) ?_
  intro p e s m below meth c ls hC hr hlk hnm hl hH
  have hl : lv_has ls 4 [(0, .ref (ad 0))] := hl
  obtain ⟨hP, hD, hst, hkp⟩ := id hG
  obtain ⟨hnr, hn, hcur, hnc, hnk, hWE, hrow, hkr, hcl, hdj⟩ := id hI
  refine lv_iconst (pc := 0) (v := 0) hC.x hC.b d_GR_run_0 (by decide) ?_
  refine tp_i (y := (rn S.cost 0).1) rfl ?_
  refine lv_istore_n (pc := 1) (lv' := [(1, .int ((rn S.cost 0).1)), (0, .ref (ad 0))]) hC.x hC.b d_GR_run_1 rfl hl (by decide) rfl (fun ls hl => ?_)
  refine lv_iconst (pc := 2) (v := 0) hC.x hC.b d_GR_run_2 (by decide) ?_
  refine tp_i (y := (rn S.cost 0).2) rfl ?_
  refine lv_istore_n (pc := 3) (lv' := [(2, .int ((rn S.cost 0).2)), (1, .int ((rn S.cost 0).1)), (0, .ref (ad 0))]) hC.x hC.b d_GR_run_3 rfl hl (by decide) rfl (fun ls hl => ?_)
  refine lv_iconst (pc := 4) (v := nI 0) hC.x hC.b d_GR_run_4 (by decide) ?_
  refine lv_istore_n (pc := 5) (lv' := [(3, .int (nI 0)), (2, .int ((rn S.cost 0).2)), (1, .int ((rn S.cost 0).1)), (0, .ref (ad 0))]) hC.x hC.b d_GR_run_5 rfl hl (by decide) rfl (fun ls hl => ?_)
  refine lpW (pc := 6) (I := fun j ls => lv_has ls 4 [(3, .int (nI j)), (1, .int (rn S.cost j).1), (2, .int (rn S.cost j).2), (0, .ref (ad 0))] ∧ True) (S.n) ?_ ?_ (0) (Nat.zero_le _) ⟨(lv_sub hl [0, 2, 1, 3] rfl), trivial⟩
  · intro ls hI
    obtain ⟨hl, hv⟩ := hI
    refine lv_iload_n (pc := 6) hC.x hC.b d_GR_run_6 rfl (lv_at hl 0 rfl) ?_
    refine lv_aload_n (pc := 7) hC.x hC.b d_GR_run_7 rfl (lv_at hl 3 rfl) ?_
    refine fg_GR_40 (pc := 8) hC hP 0 rfl rfl d_GR_run_8 ?_
    refine ni_ge (pc := 11) (tgt := 54) hC d_GR_run_11 (by decide) (by omega) (by omega) (fun c_11 => ?_) (fun c_11 => ?_)
    · refine lv_iload_n (pc := 54) hC.x hC.b d_GR_run_54 rfl (lv_at hl 1 rfl) ?_
      exact ro_i (pc := 55) hC hr hlk hH d_GR_run_55 rfl
    · exact absurd c_11 (Nat.lt_irrefl _)
  · intro j ls hj hI ih
    obtain ⟨hl, hv⟩ := hI
    refine lv_iload_n (pc := 6) hC.x hC.b d_GR_run_6 rfl (lv_at hl 0 rfl) ?_
    refine lv_aload_n (pc := 7) hC.x hC.b d_GR_run_7 rfl (lv_at hl 3 rfl) ?_
    refine fg_GR_40 (pc := 8) hC hP 0 rfl rfl d_GR_run_8 ?_
    refine ni_ge (pc := 11) (tgt := 54) hC d_GR_run_11 (by decide) (by omega) (by omega) (fun c_11 => ?_) (fun c_11 => ?_)
    · exact absurd c_11 (by omega)
    refine lv_iload_n (pc := 14) hC.x hC.b d_GR_run_14 rfl (lv_at hl 0 rfl) ?_
    refine nz_le (pc := 15) (tgt := 40) hC d_GR_run_15 (by decide) (by omega) (fun c_15 => ?_) (fun c_15 => ?_)
    · refine lv_iconst (pc := 40) (v := 1) hC.x hC.b d_GR_run_40 (by decide) ?_
      refine tp_i (y := (rn S.cost (j + 1)).2) (rn_one (fun z => by omega)) ?_
      refine lv_istore_n (pc := 41) (lv' := [(2, .int ((rn S.cost (j + 1)).2)), (3, .int (nI j)), (1, .int (rn S.cost j).1), (0, .ref (ad 0))]) hC.x hC.b d_GR_run_41 rfl hl (by decide) rfl (fun ls hl => ?_)
      refine lv_iload_n (pc := 42) hC.x hC.b d_GR_run_42 rfl (lv_at hl 2 rfl) ?_
      refine lv_iload_n (pc := 43) hC.x hC.b d_GR_run_43 rfl (lv_at hl 0 rfl) ?_
      refine va_mmax (pc := 44) hC.x hC.b (hC.ml.trans hl.1.symm) hC.o (hC.t _ tw_200) (hC.t _ tw_201) (hC.t _ tw_6) (hC.t _ tw_202) (Nat.le_of_ble_eq_true rfl) (Nat.le_of_ble_eq_true rfl) (Nat.zero_le _) (Nat.zero_le _) d_GR_run_44 ?_
      refine tp_i (y := (rn S.cost (j + 1)).1) rn_best ?_
      refine lv_istore_n (pc := 47) (lv' := [(1, .int (rn S.cost (j + 1)).1), (2, .int ((rn S.cost (j + 1)).2)), (3, .int (nI j)), (0, .ref (ad 0))]) hC.x hC.b d_GR_run_47 rfl hl (by decide) rfl (fun ls hl => ?_)
      refine lv_iinc (pc := 48) (v := nI (j + 1)) (lv' := [(3, .int (nI (j + 1))), (1, .int (rn S.cost (j + 1)).1), (2, .int ((rn S.cost (j + 1)).2)), (0, .ref (ad 0))]) hC.x hC.b d_GR_run_48 hl (k := 2) rfl (nI_1 _) (by decide) rfl (fun ls hl => ?_)
      refine lv_goto (pc := 51) (tgt := 6) hC.x hC.b d_GR_run_51 (by decide) ?_
      exact ih ls ⟨(lv_sub hl [0, 1, 2, 3] rfl), trivial⟩
    refine lv_aload_n (pc := 18) hC.x hC.b d_GR_run_18 rfl (lv_at hl 3 rfl) ?_
    refine lv_iload_n (pc := 19) hC.x hC.b d_GR_run_19 rfl (lv_at hl 0 rfl) ?_
    refine k_GR_103_GR_cost (pc := 20) hC hG hI hl.1 (Nat.le_of_ble_eq_true rfl) ⟨Nat.le_of_ble_eq_true rfl, Nat.le_of_ble_eq_true rfl⟩ ⟨Nat.zero_le _, Nat.zero_le _⟩ d_GR_run_20 ?_
    refine tp_l (y := S.cost j) (costA_in hj hn) ?_
    refine lv_aload_n (pc := 23) hC.x hC.b d_GR_run_23 rfl (lv_at hl 3 rfl) ?_
    refine lv_iload_n (pc := 24) hC.x hC.b d_GR_run_24 rfl (lv_at hl 0 rfl) ?_
    refine lv_iconst (pc := 25) (v := 1) hC.x hC.b d_GR_run_25 (by decide) ?_
    refine lv_isub (pc := 26) hC.x hC.b d_GR_run_26 ?_
    refine tp_i (y := nI (j - 1)) (nI_sub1 c_15) ?_
    refine k_GR_103_GR_cost (pc := 27) hC hG hI hl.1 (Nat.le_of_ble_eq_true rfl) ⟨Nat.le_of_ble_eq_true rfl, Nat.le_of_ble_eq_true rfl⟩ ⟨Nat.zero_le _, Nat.zero_le _⟩ d_GR_run_27 ?_
    refine tp_l (y := S.cost (j - 1)) (costA_in (by omega) hn) ?_
    refine lc_lt (pc := 30) (tgt := 40) hC d_GR_run_30 d_GR_run_31 (by decide) (fun c_30 => ?_) (fun c_30 => ?_)
    · refine lv_iconst (pc := 40) (v := 1) hC.x hC.b d_GR_run_40 (by decide) ?_
      refine tp_i (y := (rn S.cost (j + 1)).2) (rn_one (fun z => Int64.not_le.mpr c_30 z.2)) ?_
      refine lv_istore_n (pc := 41) (lv' := [(2, .int ((rn S.cost (j + 1)).2)), (3, .int (nI j)), (1, .int (rn S.cost j).1), (0, .ref (ad 0))]) hC.x hC.b d_GR_run_41 rfl hl (by decide) rfl (fun ls hl => ?_)
      refine lv_iload_n (pc := 42) hC.x hC.b d_GR_run_42 rfl (lv_at hl 2 rfl) ?_
      refine lv_iload_n (pc := 43) hC.x hC.b d_GR_run_43 rfl (lv_at hl 0 rfl) ?_
      refine va_mmax (pc := 44) hC.x hC.b (hC.ml.trans hl.1.symm) hC.o (hC.t _ tw_200) (hC.t _ tw_201) (hC.t _ tw_6) (hC.t _ tw_202) (Nat.le_of_ble_eq_true rfl) (Nat.le_of_ble_eq_true rfl) (Nat.zero_le _) (Nat.zero_le _) d_GR_run_44 ?_
      refine tp_i (y := (rn S.cost (j + 1)).1) rn_best ?_
      refine lv_istore_n (pc := 47) (lv' := [(1, .int (rn S.cost (j + 1)).1), (2, .int ((rn S.cost (j + 1)).2)), (3, .int (nI j)), (0, .ref (ad 0))]) hC.x hC.b d_GR_run_47 rfl hl (by decide) rfl (fun ls hl => ?_)
      refine lv_iinc (pc := 48) (v := nI (j + 1)) (lv' := [(3, .int (nI (j + 1))), (1, .int (rn S.cost (j + 1)).1), (2, .int ((rn S.cost (j + 1)).2)), (0, .ref (ad 0))]) hC.x hC.b d_GR_run_48 hl (k := 2) rfl (nI_1 _) (by decide) rfl (fun ls hl => ?_)
      refine lv_goto (pc := 51) (tgt := 6) hC.x hC.b d_GR_run_51 (by decide) ?_
      exact ih ls ⟨(lv_sub hl [0, 1, 2, 3] rfl), trivial⟩
    refine lv_iload_n (pc := 34) hC.x hC.b d_GR_run_34 rfl (lv_at hl 2 rfl) ?_
    refine lv_iconst (pc := 35) (v := 1) hC.x hC.b d_GR_run_35 (by decide) ?_
    refine lv_iadd (pc := 36) hC.x hC.b d_GR_run_36 ?_
    refine tp_i (y := (rn S.cost (j + 1)).2) (rn_up ⟨c_15, Int64.not_lt.mp c_30⟩) ?_
    refine lv_goto (pc := 37) (tgt := 41) hC.x hC.b d_GR_run_37 (by decide) ?_
    refine lv_istore_n (pc := 41) (lv' := [(2, .int ((rn S.cost (j + 1)).2)), (3, .int (nI j)), (1, .int (rn S.cost j).1), (0, .ref (ad 0))]) hC.x hC.b d_GR_run_41 rfl hl (by decide) rfl (fun ls hl => ?_)
    refine lv_iload_n (pc := 42) hC.x hC.b d_GR_run_42 rfl (lv_at hl 2 rfl) ?_
    refine lv_iload_n (pc := 43) hC.x hC.b d_GR_run_43 rfl (lv_at hl 0 rfl) ?_
    refine va_mmax (pc := 44) hC.x hC.b (hC.ml.trans hl.1.symm) hC.o (hC.t _ tw_200) (hC.t _ tw_201) (hC.t _ tw_6) (hC.t _ tw_202) (Nat.le_of_ble_eq_true rfl) (Nat.le_of_ble_eq_true rfl) (Nat.zero_le _) (Nat.zero_le _) d_GR_run_44 ?_
    refine tp_i (y := (rn S.cost (j + 1)).1) rn_best ?_
    refine lv_istore_n (pc := 47) (lv' := [(1, .int (rn S.cost (j + 1)).1), (2, .int ((rn S.cost (j + 1)).2)), (3, .int (nI j)), (0, .ref (ad 0))]) hC.x hC.b d_GR_run_47 rfl hl (by decide) rfl (fun ls hl => ?_)
    refine lv_iinc (pc := 48) (v := nI (j + 1)) (lv' := [(3, .int (nI (j + 1))), (1, .int (rn S.cost (j + 1)).1), (2, .int ((rn S.cost (j + 1)).2)), (0, .ref (ad 0))]) hC.x hC.b d_GR_run_48 hl (k := 2) rfl (nI_1 _) (by decide) rfl (fun ls hl => ?_)
    refine lv_goto (pc := 51) (tgt := 6) hC.x hC.b d_GR_run_51 (by decide) ?_
    exact ih ls ⟨(lv_sub hl [0, 1, 2, 3] rfl), trivial⟩
set_option maxHeartbeats 4000000 in
set_option maxRecDepth 100000 in
theorem c_GR_hardest (l : Launch) {A : Nat → Prop} {ad : Nat → Nat} {S : St} {sf kf : Nat → Option Nat} {L : va_W} {D : va_G} {dA : Nat → ClassId} {H : Heap} (hG : GX D dA A ad S sf kf L H) (hI : Inv S) : Met l y_GR_hardest (wd y_GR_hardest b_GR_hardest 8 (some .int)) ({ frames := 4, cells := 0, slots := 0, locals := 88 } : Room) (va_Pc [.ref (ad 0)] (PX D dA H)) (vp_Si (fun r => r = S.hardX)) 0 0 (fun _ => False) := by
  refine mkMet (by decide) (Nat.le_of_ble_eq_true rfl) ?_
  intro p e s m below meth c ls hC hr hlk hnm hl hH
  have hl : lv_has ls 8 [(0, .ref (ad 0))] := hl
  obtain ⟨hP, hD, hst, hkp⟩ := id hG
  obtain ⟨hnr, hn, hcur, hnc, hnk, hWE, hrow, hkr, hcl, hdj⟩ := id hI
  refine lv_iconst (pc := 0) (v := (-1)) hC.x hC.b d_GR_hardest_0 (by decide) ?_
  refine tp_i (y := (hdO S.cost S.row S.n 0).1) rfl ?_
  refine lv_istore_n (pc := 1) (lv' := [(1, .int ((hdO S.cost S.row S.n 0).1)), (0, .ref (ad 0))]) hC.x hC.b d_GR_hardest_1 rfl hl (by decide) rfl (fun ls hl => ?_)
  refine lv_ldc2 (pc := 2) hC.x hC.b hC.o (hC.t _ tw_119) d_GR_hardest_2 ?_
  refine tp_l (y := (hdO S.cost S.row S.n 0).2) rfl ?_
  refine lv_lstore_n (pc := 5) (lv' := [(2, .long ((hdO S.cost S.row S.n 0).2)), (1, .int ((hdO S.cost S.row S.n 0).1)), (0, .ref (ad 0))]) hC.x hC.b d_GR_hardest_5 rfl hl (by decide) rfl (fun ls hl => ?_)
  refine lv_iconst (pc := 6) (v := nI 0) hC.x hC.b d_GR_hardest_6 (by decide) ?_
  refine lv_istore (pc := 7) (lv' := [(4, .int (nI 0)), (2, .long ((hdO S.cost S.row S.n 0).2)), (1, .int ((hdO S.cost S.row S.n 0).1)), (0, .ref (ad 0))]) hC.x hC.b d_GR_hardest_7 hl (by decide) rfl (fun ls hl => ?_)
  refine lpW (pc := 9) (I := fun q ls => lv_has ls 8 [(4, .int (nI q)), (1, .int (hdO S.cost S.row S.n q).1), (2, .long (hdO S.cost S.row S.n q).2), (0, .ref (ad 0))] ∧ True) (S.nr) ?_ ?_ (0) (Nat.zero_le _) ⟨(lv_sub hl [0, 2, 1, 3] rfl), trivial⟩
  · intro ls hI
    obtain ⟨hl, hv⟩ := hI
    refine lv_iload (pc := 9) hC.x hC.b d_GR_hardest_9 (lv_at hl 0 rfl) ?_
    refine lv_aload_n (pc := 11) hC.x hC.b d_GR_hardest_11 rfl (lv_at hl 3 rfl) ?_
    refine fg_GR_36 (pc := 12) hC hP 0 rfl rfl d_GR_hardest_12 ?_
    refine ni_ge (pc := 15) (tgt := 93) hC d_GR_hardest_15 (by decide) (by omega) (by omega) (fun c_15 => ?_) (fun c_15 => ?_)
    · refine lv_iload_n (pc := 93) hC.x hC.b d_GR_hardest_93 rfl (lv_at hl 1 rfl) ?_
      exact ro_i (pc := 94) hC hr hlk hH d_GR_hardest_94 rfl
    · exact absurd c_15 (Nat.lt_irrefl _)
  · intro q ls hj hI ih
    obtain ⟨hl, hv⟩ := hI
    refine lv_iload (pc := 9) hC.x hC.b d_GR_hardest_9 (lv_at hl 0 rfl) ?_
    refine lv_aload_n (pc := 11) hC.x hC.b d_GR_hardest_11 rfl (lv_at hl 3 rfl) ?_
    refine fg_GR_36 (pc := 12) hC hP 0 rfl rfl d_GR_hardest_12 ?_
    refine ni_ge (pc := 15) (tgt := 93) hC d_GR_hardest_15 (by decide) (by omega) (by omega) (fun c_15 => ?_) (fun c_15 => ?_)
    · exact absurd c_15 (by omega)
    refine lv_ldc2 (pc := 18) hC.x hC.b hC.o (hC.t _ tw_119) d_GR_hardest_18 ?_
    refine tp_l (y := hdI S.cost S.row (nI q) 0) rfl ?_
    refine lv_lstore (pc := 21) (lv' := [(5, .long (hdI S.cost S.row (nI q) 0)), (4, .int (nI q)), (1, .int (hdO S.cost S.row S.n q).1), (2, .long (hdO S.cost S.row S.n q).2), (0, .ref (ad 0))]) hC.x hC.b d_GR_hardest_21 hl (by decide) rfl (fun ls hl => ?_)
    refine lv_iconst (pc := 23) (v := nI 0) hC.x hC.b d_GR_hardest_23 (by decide) ?_
    refine lv_istore (pc := 24) (lv' := [(7, .int (nI 0)), (5, .long (hdI S.cost S.row (nI q) 0)), (4, .int (nI q)), (1, .int (hdO S.cost S.row S.n q).1), (2, .long (hdO S.cost S.row S.n q).2), (0, .ref (ad 0))]) hC.x hC.b d_GR_hardest_24 hl (by decide) rfl (fun ls hl => ?_)
    refine lpW (pc := 26) (I := fun j ls => lv_has ls 8 [(7, .int (nI j)), (5, .long (hdI S.cost S.row (nI q) j)), (4, .int (nI q)), (1, .int (hdO S.cost S.row S.n q).1), (2, .long (hdO S.cost S.row S.n q).2), (0, .ref (ad 0))] ∧ True) (S.n) ?_ ?_ (0) (Nat.zero_le _) ⟨(lv_sub hl [0, 1, 2, 3, 4, 5] rfl), trivial⟩
    · intro ls hI
      obtain ⟨hl, hv2⟩ := hI
      refine lv_iload (pc := 26) hC.x hC.b d_GR_hardest_26 (lv_at hl 0 rfl) ?_
      refine lv_aload_n (pc := 28) hC.x hC.b d_GR_hardest_28 rfl (lv_at hl 5 rfl) ?_
      refine fg_GR_40 (pc := 29) hC hP 0 rfl rfl d_GR_hardest_29 ?_
      refine ni_ge (pc := 32) (tgt := 71) hC d_GR_hardest_32 (by decide) (by omega) (by omega) (fun c_32 => ?_) (fun c_32 => ?_)
      · refine lv_lload (pc := 71) hC.x hC.b d_GR_hardest_71 (lv_at hl 1 rfl) ?_
        refine lv_lload_n (pc := 73) hC.x hC.b d_GR_hardest_73 rfl (lv_at hl 4 rfl) ?_
        refine lc_gt (pc := 74) (tgt := 81) hC d_GR_hardest_74 d_GR_hardest_75 (by decide) (fun c_74 => ?_) (fun c_74 => ?_)
        · refine lv_lload (pc := 81) hC.x hC.b d_GR_hardest_81 (lv_at hl 1 rfl) ?_
          refine lv_lstore_n (pc := 83) (lv' := [(2, .long (hdI S.cost S.row (nI q) S.n)), (7, .int (nI S.n)), (5, .long (hdI S.cost S.row (nI q) S.n)), (4, .int (nI q)), (1, .int (hdO S.cost S.row S.n q).1), (0, .ref (ad 0))]) hC.x hC.b d_GR_hardest_83 rfl hl (by decide) rfl (fun ls hl => ?_)
          refine lv_iload (pc := 84) hC.x hC.b d_GR_hardest_84 (lv_at hl 3 rfl) ?_
          refine lv_istore_n (pc := 86) (lv' := [(1, .int (nI q)), (2, .long (hdI S.cost S.row (nI q) S.n)), (7, .int (nI S.n)), (5, .long (hdI S.cost S.row (nI q) S.n)), (4, .int (nI q)), (0, .ref (ad 0))]) hC.x hC.b d_GR_hardest_86 rfl hl (by decide) rfl (fun ls hl => ?_)
          refine lv_iinc (pc := 87) (v := nI (q + 1)) (lv' := [(4, .int (nI (q + 1))), (1, .int (nI q)), (2, .long (hdI S.cost S.row (nI q) S.n)), (7, .int (nI S.n)), (5, .long (hdI S.cost S.row (nI q) S.n)), (0, .ref (ad 0))]) hC.x hC.b d_GR_hardest_87 hl (k := 4) rfl (nI_1 _) (by decide) rfl (fun ls hl => ?_)
          refine lv_goto (pc := 90) (tgt := 9) hC.x hC.b d_GR_hardest_90 (by decide) ?_
          refine ih ls ⟨?_, trivial⟩
          rw [hdO_f (Int64.not_le.mpr c_74)]
          exact (lv_sub hl [0, 1, 2, 5] rfl)
        · refine lv_goto (pc := 78) (tgt := 87) hC.x hC.b d_GR_hardest_78 (by decide) ?_
          refine lv_iinc (pc := 87) (v := nI (q + 1)) (lv' := [(4, .int (nI (q + 1))), (7, .int (nI S.n)), (5, .long (hdI S.cost S.row (nI q) S.n)), (1, .int (hdO S.cost S.row S.n q).1), (2, .long (hdO S.cost S.row S.n q).2), (0, .ref (ad 0))]) hC.x hC.b d_GR_hardest_87 hl (k := 2) rfl (nI_1 _) (by decide) rfl (fun ls hl => ?_)
          refine lv_goto (pc := 90) (tgt := 9) hC.x hC.b d_GR_hardest_90 (by decide) ?_
          refine ih ls ⟨?_, trivial⟩
          rw [hdO_t (Int64.not_lt.mp c_74)]
          exact (lv_sub hl [0, 3, 4, 5] rfl)
      · exact absurd c_32 (Nat.lt_irrefl _)
    · intro j ls hj2 hI ih2
      obtain ⟨hl, hv2⟩ := hI
      refine lv_iload (pc := 26) hC.x hC.b d_GR_hardest_26 (lv_at hl 0 rfl) ?_
      refine lv_aload_n (pc := 28) hC.x hC.b d_GR_hardest_28 rfl (lv_at hl 5 rfl) ?_
      refine fg_GR_40 (pc := 29) hC hP 0 rfl rfl d_GR_hardest_29 ?_
      refine ni_ge (pc := 32) (tgt := 71) hC d_GR_hardest_32 (by decide) (by omega) (by omega) (fun c_32 => ?_) (fun c_32 => ?_)
      · exact absurd c_32 (by omega)
      refine lv_aload_n (pc := 35) hC.x hC.b d_GR_hardest_35 rfl (lv_at hl 5 rfl) ?_
      refine fg_GR_18 (pc := 36) hC hP 0 rfl rfl d_GR_hardest_36 ?_
      refine lv_iload (pc := 39) hC.x hC.b d_GR_hardest_39 (lv_at hl 0 rfl) ?_
      obtain ⟨a, ha, hs⟩ := hst (j) (by omega)
      refine ald_q (pc := 41) (t0 := 3) hC hP 3 (j) rfl rfl rfl (by omega) (by decide) ha d_GR_hardest_41 ?_
      refine k_GR_66_GS_rule (pc := 42) hC hP hs hl.1 (Nat.le_of_ble_eq_true rfl) ⟨Nat.le_of_ble_eq_true rfl, Nat.le_of_ble_eq_true rfl⟩ ⟨Nat.zero_le _, Nat.zero_le _⟩ d_GR_hardest_42 ?_
      refine lv_iload (pc := 45) hC.x hC.b d_GR_hardest_45 (lv_at hl 2 rfl) ?_
      refine lv_icmp_ne (pc := 47) (tgt := 65) hC.x hC.b d_GR_hardest_47 (by decide) (fun c_47 => ?_) (fun c_47 => ?_)
      · refine lv_iinc (pc := 65) (v := nI (j + 1)) (lv' := [(7, .int (nI (j + 1))), (5, .long (hdI S.cost S.row (nI q) j)), (4, .int (nI q)), (1, .int (hdO S.cost S.row S.n q).1), (2, .long (hdO S.cost S.row S.n q).2), (0, .ref (ad 0))]) hC.x hC.b d_GR_hardest_65 hl (k := 0) rfl (nI_1 _) (by decide) rfl (fun ls hl => ?_)
        refine lv_goto (pc := 68) (tgt := 26) hC.x hC.b d_GR_hardest_68 (by decide) ?_
        refine ih2 ls ⟨?_, trivial⟩
        rw [← hdI_f c_47]
        exact (lv_sub hl [0, 1, 2, 3, 4, 5] rfl)
      refine lv_lload (pc := 50) hC.x hC.b d_GR_hardest_50 (lv_at hl 1 rfl) ?_
      refine lv_lconst (pc := 52) (v := 0) hC.x hC.b d_GR_hardest_52 (by decide) ?_
      refine va_mmax_long (pc := 53) hC.x hC.b (hC.ml.trans hl.1.symm) hC.o (hC.t _ tw_207) (hC.t _ tw_208) (hC.t _ tw_6) (hC.t _ tw_209) (Nat.le_of_ble_eq_true rfl) (Nat.le_of_ble_eq_true rfl) (Nat.zero_le _) (Nat.zero_le _) d_GR_hardest_53 ?_
      refine lv_aload_n (pc := 56) hC.x hC.b d_GR_hardest_56 rfl (lv_at hl 5 rfl) ?_
      refine lv_iload (pc := 57) hC.x hC.b d_GR_hardest_57 (lv_at hl 0 rfl) ?_
      refine k_GR_103_GR_cost (pc := 59) hC hG hI hl.1 (Nat.le_of_ble_eq_true rfl) ⟨Nat.le_of_ble_eq_true rfl, Nat.le_of_ble_eq_true rfl⟩ ⟨Nat.zero_le _, Nat.zero_le _⟩ d_GR_hardest_59 ?_
      refine tp_l (y := S.cost j) (costA_in hj2 hn) ?_
      refine lv_ladd (pc := 62) hC.x hC.b d_GR_hardest_62 ?_
      refine tp_l (y := hdI S.cost S.row (nI q) (j + 1)) (hdI_t c_47) ?_
      refine lv_lstore (pc := 63) (lv' := [(5, .long (hdI S.cost S.row (nI q) (j + 1))), (7, .int (nI j)), (4, .int (nI q)), (1, .int (hdO S.cost S.row S.n q).1), (2, .long (hdO S.cost S.row S.n q).2), (0, .ref (ad 0))]) hC.x hC.b d_GR_hardest_63 hl (by decide) rfl (fun ls hl => ?_)
      refine lv_iinc (pc := 65) (v := nI (j + 1)) (lv' := [(7, .int (nI (j + 1))), (5, .long (hdI S.cost S.row (nI q) (j + 1))), (4, .int (nI q)), (1, .int (hdO S.cost S.row S.n q).1), (2, .long (hdO S.cost S.row S.n q).2), (0, .ref (ad 0))]) hC.x hC.b d_GR_hardest_65 hl (k := 1) rfl (nI_1 _) (by decide) rfl (fun ls hl => ?_)
      refine lv_goto (pc := 68) (tgt := 26) hC.x hC.b d_GR_hardest_68 (by decide) ?_
      exact ih2 ls ⟨(lv_sub hl [0, 1, 2, 3, 4, 5] rfl), trivial⟩
set_option maxHeartbeats 4000000 in
set_option maxRecDepth 100000 in
theorem c_GR_isKept (l : Launch) {A : Nat → Prop} {ad : Nat → Nat} {S : St} {sf kf : Nat → Option Nat} {L : va_W} {D : va_G} {dA : Nat → ClassId} {H : Heap} (hG : GX D dA A ad S sf kf L H) (hI : Inv S) {x : Int32} : Met l y_GR_isKept (wd y_GR_isKept b_GR_isKept 2 (some .boolean)) ({ frames := 0, cells := 0, slots := 0, locals := 0 } : Room) (va_Pc [.ref (ad 0), .int x] (PX D dA H)) (vp_Si (fun r => r = if x < 0 ∨ nI S.nk ≤ x then 0 else 1)) 0 0 (fun _ => False) := by
  refine mkMet (by decide) (Nat.le_of_ble_eq_true rfl) ?_
  intro p e s m below meth c ls hC hr hlk hnm hl hH
  have hl : lv_has ls 2 [(0, .ref (ad 0)), (1, .int x)] := hl
  obtain ⟨hP, hD, hst, hkp⟩ := id hG
  obtain ⟨hnr, hn, hcur, hnc, hnk, hWE, hrow, hkr, hcl, hdj⟩ := id hI
  refine lv_iload_n (pc := 0) hC.x hC.b d_GR_isKept_0 rfl (lv_at hl 1 rfl) ?_
  refine lv_if_lt (pc := 1) (tgt := 16) hC.x hC.b d_GR_isKept_1 (by decide) (fun c_1 => ?_) (fun c_1 => ?_)
  · refine lv_iconst (pc := 16) (v := 0) hC.x hC.b d_GR_isKept_16 (by decide) ?_
    exact ro_z (pc := 17) hC hr hlk hH d_GR_isKept_17 (by decide) (if_pos (Or.inl c_1)).symm
  refine lv_iload_n (pc := 4) hC.x hC.b d_GR_isKept_4 rfl (lv_at hl 1 rfl) ?_
  refine lv_aload_n (pc := 5) hC.x hC.b d_GR_isKept_5 rfl (lv_at hl 0 rfl) ?_
  refine fg_GR_118 (pc := 6) hC hP 0 rfl rfl d_GR_isKept_6 ?_
  refine lv_icmp_ge (pc := 9) (tgt := 16) hC.x hC.b d_GR_isKept_9 (by decide) (fun c_9 => ?_) (fun c_9 => ?_)
  · refine lv_iconst (pc := 16) (v := 0) hC.x hC.b d_GR_isKept_16 (by decide) ?_
    exact ro_z (pc := 17) hC hr hlk hH d_GR_isKept_17 (by decide) (if_pos (Or.inr c_9)).symm
  refine lv_iconst (pc := 12) (v := 1) hC.x hC.b d_GR_isKept_12 (by decide) ?_
  refine lv_goto (pc := 13) (tgt := 17) hC.x hC.b d_GR_isKept_13 (by decide) ?_
  exact ro_z (pc := 17) hC hr hlk hH d_GR_isKept_17 (by decide) (if_neg (fun z => z.elim c_1 c_9)).symm
set_option maxHeartbeats 4000000 in
set_option maxRecDepth 100000 in
theorem k_GR_124_GR_isKept (hC : CX p m c cc nL s args R_GR D dA) {sf kf : Nat → Option Nat} {L : va_W} (hG : GX D dA A ad S sf kf L H) (hI : Inv S) {x : Int32} (hsz : ls.size = nL) (hW : (rest.map fun v => v.category).sum ≤ 8) (hR : 0 + 1 ≤ R.frames ∧ 8 + (2 + 11) + 0 ≤ R.locals) (hf : cells + 0 ≤ R.cells ∧ slots + 0 ≤ R.slots) (hdg : decode cc pc = .ok (.invokevirtual 124, 3)) (kk : W p l e R s m args below meth c H locs cells slots Q (F0 m (pc + 3) ls (.int (if x < 0 ∨ nI S.nk ≤ x then 0 else 1) :: rest))) : W p l e R s m args below meth c H locs cells slots Q (F0 m pc ls (.int x :: .ref (ad 0) :: rest)) :=
  vp_callSi (va_Run.run (runV hC (c_GR_isKept l hG hI) tw_274 tw_271 tw_273 ts_6 tw_1 ⟨by decide +kernel, by decide +kernel, rfl⟩ rfl rfl (ci := 0) rfl rfl ((hG.1 0 _ rfl)) hsz rfl hW hR hf hdg)) (fun r hr => by rw [hr]; exact kk)
end GRLOOK
end
section
section GRWR
variable {p : Program} {e : Env} {R : Room} {s : State} {m : MethodId} {args : Array Value} {below : List Frame} {meth : Method} {c : Code} {locs : List Loc} {cells slots : Nat} {Q : State → Prop}
variable {cc : ByteArray} {pc nL : Nat} {ls : Array Slot} {rest : List Value} {own : String} {l : Launch} {D : va_G} {dA : Nat → ClassId} {A : Nat → Prop} {H H0 : Heap} {S : St} {ad md : Nat → Nat}
theorem upd_s {f : Nat → Int32} {k : Nat} {x : Int32} : upd f k x k = x := if_pos rfl
theorem upd_n {f : Nat → Int32} {k j : Nat} {x : Int32} (h : j ≠ k) : upd f k x j = f j := if_neg h
def updT (r : Nat → T3) (k : Nat) (t : T3) : Nat → T3 := fun j => if j = k then t else r j
theorem updT_s {r : Nat → T3} {k : Nat} {t : T3} : updT r k t k = t := if_pos rfl
theorem updT_n {r : Nat → T3} {k j : Nat} {t : T3} (h : j ≠ k) : updT r k t j = r j := if_neg h
abbrev St.ruleC (S : St) (w x : Int32) : Prop := w < 0 ∨ 10000 < w ∨ x < 0 ∨ 100000 < x ∨ S.nr = 40
def St.ruleV (S : St) (w x : Int32) : Int32 := if S.ruleC w x then -1 else nI S.nr
def St.ruleS (S : St) (w x : Int32) : St := if S.ruleC w x then S else ((S.nr + 1, upd S.W S.nr w, upd S.E S.nr x), S.2)
def St.addS (S : St) (t : T3) : St := (S.1, (S.n + 1, updT S.row S.n t), S.2.2)
abbrev St.usedC (S : St) (r q w : Int32) : Prop := r < 0 ∨ nI S.nr ≤ r ∨ q < 0 ∨ 256 ≤ q ∨ w < 1 ∨ 9 < w ∨ S.n = 200
def St.usedV (S : St) (r q w : Int32) : Int32 := if S.usedC r q w then -1 else nI S.n
def St.usedS (S : St) (r q w : Int32) : St := if S.usedC r q w then S else S.addS (r, q, w)
abbrev St.guessC (S : St) (d : Int32) : Prop := d < 1 ∨ 20 < d ∨ S.n = 200
def St.guessV (S : St) (d : Int32) : Int32 := if S.guessC d then -1 else nI S.n
def St.guessS (S : St) (d : Int32) : St := if S.guessC d then S else S.addS (-1, d, 0)
def St.dropV (S : St) : Int32 := if S.n = 0 then 0 else 1
def St.dropS (S : St) : St := if S.n = 0 then S else (S.1, (S.n - 1, S.row), min S.cur (S.n - 1), S.2.2.2)
abbrev St.clsC (S : St) (a b : Int64) : Prop := a < 0 ∨ b < a ∨ 100000000 < b ∨ S.nc = 20 ∨ ¬ ∀ k, k < S.nc → ¬ (a ≤ S.hi k ∧ S.lo k ≤ b)
def St.clsV (S : St) (a b : Int64) : Int32 := if S.clsC a b then -1 else nI S.nc
def St.clsS (S : St) (a b : Int64) : St := if S.clsC a b then S else (S.1, S.2.1, S.cur, (S.nc + 1, vp_updL S.lo S.nc a, vp_updL S.hi S.nc b), S.2.2.2.2)
abbrev St.goC (S : St) (x : Int32) : Prop := x < 0 ∨ nI S.n < x
def St.goV (S : St) (x : Int32) : Int32 := if S.goC x then 0 else 1
def St.goS (S : St) (x : Int32) : St := if S.goC x then S else (S.1, S.2.1, x.toNatClampNeg, S.2.2.2)
abbrev St.hintC (S : St) (d : Int32) : Prop := S.cur = S.n ∨ d < 1 ∨ 4 < d
def St.hintV (S : St) (d : Int32) : Int32 := if S.hintC d then -1 else hnt (S.row S.cur) d
def St.hintS (S : St) (d : Int32) : St := if S.hintC d then S else if d = 4 then (S.1, S.2.1, S.cur + 1, S.2.2.2) else S
/-- a rule more changes no cost of a row that uses those that were -/
theorem okT_ix {nr : Nat} {t : T3} (h : okT nr t) (hr : nr ≤ 40) (h1 : t.1 ≠ -1) : t.1.toNatClampNeg ≠ nr := by
  rcases h with ⟨h0, -⟩ | ⟨r, q, w, h2, -, -, -, rfl⟩
  · exact absurd h0 h1
  · show (nI r).toNatClampNeg ≠ nr
    rw [nI_clamp (by omega)]; omega
theorem cst_upd {W E : Nat → Int32} {r : Nat → T3} {nr k : Nat} {w x : Int32} (h : okT nr (r k)) (hr : nr ≤ 40) : cst (upd W nr w) (upd E nr x) r k = cst W E r k := by
  unfold cst
  by_cases h1 : (r k).1 = -1
  · rw [if_pos h1, if_pos h1]
  · rw [if_neg h1, if_neg h1, upd_n (okT_ix h hr h1), upd_n (okT_ix h hr h1)]
theorem sm_upd {W E : Nat → Int32} {r : Nat → T3} {nr : Nat} {w x : Int32} (hr : nr ≤ 40) : ∀ n, (∀ k, k < n → okT nr (r k)) → sm (upd W nr w) (upd E nr x) r n = sm W E r n := by
  intro n
  induction n with
  | zero => intro _; rfl
  | succ n ih =>
    intro h
    show sm _ _ r n + cst _ _ r n = sm _ _ r n + cst _ _ r n
    rw [ih (fun k hk => h k (by omega)), cst_upd (h n (by omega)) hr]
theorem SD_congr {f g g' : Nat → Int64} {n : Nat} (h : SD f g n) (hg : ∀ k, k < n → g k = g' k) : SD f g' n :=
  ⟨h.1, fun v => (h.2 v).trans (cnt_congr n (fun k hk => by rw [hg k hk]))⟩
theorem kpt_upd {dA : Nat → ClassId} {W E : Nat → Int32} {n nr : Nat} {r : Nat → T3} {a : Nat} {L : va_W} {w x : Int32} (h : kpt dA W E n r a L) (hr : nr ≤ 40) (ho : ∀ k, k < n → okT nr (r k)) : kpt dA (upd W nr w) (upd E nr x) n r a L := by
  obtain ⟨c, d, f, g, h1, h2, h3, h4, h5⟩ := h
  exact ⟨c, d, f, g, by rw [sm_upd hr n ho]; exact h1, h2, h3, SD_congr h4 (fun k hk => (cst_upd (ho k hk) hr).symm), h5⟩
theorem stp.mono {t : T3} {a : Nat} {L M : va_W} (h : stp t a L) : stp t a (L ++ M) := by
  rcases h with ⟨h1, h2⟩ | ⟨h1, h2⟩
  · exact Or.inl ⟨h1, List.mem_append_left _ h2⟩
  · exact Or.inr ⟨h1, List.mem_append_left _ h2⟩
theorem kpt.mono {dA : Nat → ClassId} {W E : Nat → Int32} {n : Nat} {r : Nat → T3} {a : Nat} {L M : va_W} (h : kpt dA W E n r a L) : kpt dA W E n r a (L ++ M) := by
  obtain ⟨c, d, f, g, h1, h2, h3, h4⟩ := h
  exact ⟨c, d, f, g, List.mem_append_left _ h1, List.mem_append_left _ h2, List.mem_append_left _ h3, h4⟩
theorem GX.more {D : va_G} {dA : Nat → ClassId} {A : Nat → Prop} {ad : Nat → Nat} {S : St} {sf kf : Nat → Option Nat} {L M : va_W} {H H1 : Heap} (hG : GX D dA A ad S sf kf L H) (hP : va_P D classes (gx dA ad S sf kf ++ (L ++ M)) H1) (hD : va_D A (gx dA ad S sf kf ++ (L ++ M))) : GX D dA A ad S sf kf (L ++ M) H1 :=
  ⟨hP, hD, fun k hk => by obtain ⟨a, h1, h2⟩ := hG.2.2.1 k hk; exact ⟨a, h1, h2.mono⟩, fun k hk => by obtain ⟨a, h1, h2⟩ := hG.2.2.2 k hk; exact ⟨a, h1, h2.mono⟩⟩
theorem set_at {α : Type} {l : List α} {i : Nat} {x y : α} (h : l[i]? = some x) : (l.set i y)[i]? = some y := List.getElem?_set_self (List.getElem?_eq_some_iff.mp h).1
theorem at_last {α : Type} {l : List α} {x : α} : (l ++ [x])[l.length]? = some x := by simp
theorem set_last {α : Type} {l : List α} {x y : α} : (l ++ [x]).set l.length y = l ++ [y] := by simp
theorem lt10 {x : Int32} (h : ¬ x < 0) (h2 : ¬ 10000 < x) : ∃ w : Nat, w ≤ 10000 ∧ x = nI w := nI_of2 (M := 10000) (by decide) h (Int32.not_lt.mp h2)
/-- a new object -/
theorem newo {a : Nat} {ws : va_W} {ci N idx : Nat} {C : String} {T : u_T} {ty : Nat → FieldType} {fs : List Value} (hC : CX p m c cc nL s args own D dA) (hin : ∀ w ∈ u_ws C T N, w ∈ lw_T) (hty : ∀ k, k < N → parseFieldDescriptor (T k).2.2.1 = some (ty k)) (hcl : Cond.classLink own idx C ∈ lw_T) (hinst : Cond.instantiable C N ∈ lw_T) (hini : Cond.initialized C ∈ lw_T) (hc : classes[ci]? = some (C, T, N)) (hfs : ∀ j, j < N → defaultValue (ty j) = vp_V fs j)
    (hP : va_P D classes ws H) (hD : va_D A ws) (hS : va_S A H0 H locs) (hA : ∀ q, H0.size ≤ q → A q) (hcells : cells + 1 ≤ R.cells) (hslots : slots + N ≤ R.slots) (hdg : decode cc pc = .ok (.new idx, 3))
    (kk : ∀ (q : Nat) (H1 : Heap), va_P D classes (ws ++ [(q, .inr (ci, fs))]) H1 → va_D A (ws ++ [(q, .inr (ci, fs))]) → va_S A H0 H1 locs → W p l e R s m args below meth c H1 locs (cells + 1) (slots + N) Q (F0 m (pc + 3) ls (.ref q :: rest))) : W p l e R s m args below meth c H locs cells slots Q (F0 m pc ls rest) :=
  va_new hC.x hC.b hC.t hin ty hty hC.o (hC.t _ hcl) (hC.t _ hinst) (hC.t _ hini) hC.K hP hD hS hA hc hfs hcells hslots hdg kk
/-- Object() -/
theorem obj0 {a idx : Nat} (hC : CX p m c cc nL s args own D dA) (hl : Cond.methodLink own idx Lib.objectInit ∈ lw_T) (hsz : ls.size = nL) (hdg : decode cc pc = .ok (.invokespecial idx, 3)) (hR : 1 ≤ R.frames) (hR2 : (rest.map fun v => v.category).sum + 12 ≤ R.locals) (kk : W p l e R s m args below meth c H locs cells slots Q (F0 m (pc + 3) ls rest)) : W p l e R s m args below meth c H locs cells slots Q (F0 m pc ls (.ref a :: rest)) := by
  refine W.objInit hC.x hC.b hC.o (hC.t _ hl) (hC.t _ tw_16) (hC.t _ tw_17) rfl (by rw [hC.ml]; exact hsz) rfl hdg hR (by show 2 * 0 + _ + 12 ≤ _; omega) ?_
  exact kk
/-- a step goes into the array of steps -/
theorem ast_s {a b k n : Nat} {t : T3} {sf : Nat → Option Nat} {X Lw : va_W} (hC : CX p m c cc nL s args own D dA) (hP : va_P D classes (X ++ Lw) H) (hD : va_D A (X ++ Lw)) (hS : va_S A H0 H locs) (q0 : Nat) (he : (X ++ Lw)[q0]? = some (a, .inl (dA 3, n, .inr (.inr (.inr (.inr sf)))))) (hk : k < n) (hn : n < 2 ^ 31) (hb : stp t b Lw) (hdg : decode cc pc = .ok (.aastore, 1))
    (kk : ∀ (H1 : Heap) (locs1 : List Loc), va_P D classes ((X ++ Lw).set q0 (a, .inl (dA 3, n, .inr (.inr (.inr (.inr (va_up sf k (some b)))))))) H1 → va_D A ((X ++ Lw).set q0 (a, .inl (dA 3, n, .inr (.inr (.inr (.inr (va_up sf k (some b)))))))) → va_S A H0 H1 locs1 → W p l e R s m args below meth c H1 locs1 cells slots Q (F0 m (pc + 1) ls rest)) : W p l e R s m args below meth c H locs cells slots Q (F0 m pc ls (.ref b :: .int (nI k) :: .ref a :: rest)) := by
  have hc := nI_clamp (n := k) (Nat.lt_trans hk hn)
  rcases hb with ⟨-, h2⟩ | ⟨-, h2⟩
  · obtain ⟨qk, hq⟩ := List.getElem?_of_mem (List.mem_append_right X h2)
    refine va_astqO (r := (R_GG, F_GG, 1)) hC.x hC.b hC.K hP hD hS q0 3 qk 2 he rfl (hC.n nw_452 rfl) hq rfl (vp_in_nI hk hn) hdg ?_
    rw [hc]; exact kk
  · obtain ⟨qk, hq⟩ := List.getElem?_of_mem (List.mem_append_right X h2)
    refine va_astqO (r := (R_GU, F_GU, 3)) hC.x hC.b hC.K hP hD hS q0 3 qk 1 he rfl (hC.n nw_453 rfl) hq rfl (vp_in_nI hk hn) hdg ?_
    rw [hc]; exact kk
set_option maxHeartbeats 4000000 in
set_option maxRecDepth 100000 in
theorem c_GS_init (l : Launch) {a : Nat} {D : va_G} {dA : Nat → ClassId} {H : Heap} : Met l y_GS_init (wd y_GS_init b_GS_init 1 none) ({ frames := 1, cells := 0, slots := 0, locals := 12 } : Room) (va_Pc [.ref a] (PX D dA H)) (va_Sv (fun _ => True)) 0 0 (fun _ => False) := by
  refine mkMet (by decide) (Nat.le_of_ble_eq_true rfl) ?_
  intro p e s m below meth c ls hC hr hlk hnm hl hH
  have hl : lv_has ls 1 [(0, .ref a)] := hl
  refine lv_aload_n (pc := 0) hC.x hC.b d_GS_init_0 rfl (lv_at hl 0 rfl) ?_
  refine obj0 (pc := 1) hC tw_79 hl.1 d_GS_init_1 (Nat.le_of_ble_eq_true rfl) (Nat.le_of_ble_eq_true rfl) ?_
  exact W.vret hC.x hC.b hr (fun _ ht _ => ⟨rfl, trivial, ht.trans hH.symm⟩) (fun _ h => by cases h) d_GS_init_4 hlk
set_option maxHeartbeats 4000000 in
set_option maxRecDepth 100000 in
theorem k_GU_3_GS_init {a : Nat} (hC : CX p m c cc nL s args R_GU D dA) (hsz : ls.size = nL) (hW : (rest.map fun v => v.category).sum ≤ 8) (hR : 1 + 1 ≤ R.frames ∧ 8 + (1 + 11) + 12 ≤ R.locals) (hf : cells + 0 ≤ R.cells ∧ slots + 0 ≤ R.slots) (hdg : decode cc pc = .ok (.invokespecial 3, 3)) (kk : W p l e R s m args below meth c H locs cells slots Q (F0 m (pc + 3) ls rest)) : W p l e R s m args below meth c H locs cells slots Q (F0 m pc ls (.ref a :: rest)) :=
  va_csv (va_Run.run (runIN hC (c_GS_init l) tw_78 nw_76 tw_77 tw_3 rfl ⟨by decide +kernel, by decide +kernel, rfl⟩ rfl rfl hsz rfl hW hR hf hdg)) (fun _ => kk)
set_option maxHeartbeats 4000000 in
set_option maxRecDepth 100000 in
theorem k_GG_3_GS_init {a : Nat} (hC : CX p m c cc nL s args R_GG D dA) (hsz : ls.size = nL) (hW : (rest.map fun v => v.category).sum ≤ 8) (hR : 1 + 1 ≤ R.frames ∧ 8 + (1 + 11) + 12 ≤ R.locals) (hf : cells + 0 ≤ R.cells ∧ slots + 0 ≤ R.slots) (hdg : decode cc pc = .ok (.invokespecial 3, 3)) (kk : W p l e R s m args below meth c H locs cells slots Q (F0 m (pc + 3) ls rest)) : W p l e R s m args below meth c H locs cells slots Q (F0 m pc ls (.ref a :: rest)) :=
  va_csv (va_Run.run (runIN hC (c_GS_init l) tw_78 nw_103 tw_77 tw_3 rfl ⟨by decide +kernel, by decide +kernel, rfl⟩ rfl rfl hsz rfl hW hR hf hdg)) (fun _ => kk)
set_option maxHeartbeats 4000000 in
set_option maxRecDepth 100000 in
theorem c_GU_init (l : Launch) {A : Nat → Prop} {D : va_G} {dA : Nat → ClassId} {H : Heap} {ws : va_W} {q0 a : Nat} (hP : va_P D classes ws H) (hD : va_D A ws) (he : ws[q0]? = some (a, .inr (1, [.int 0, .int 0, .int 0]))) {x : Int32} {y : Int32} {z : Int32} : Met l y_GU_init (wd y_GU_init b_GU_init 4 none) ({ frames := 2, cells := 0, slots := 0, locals := 32 } : Room) (va_Pc [.ref a, .int x, .int y, .int z] (PX D dA H)) (QV (fun H1 => va_P D classes (ws.set q0 (a, .inr (1, [.int x, .int y, .int z]))) H1) A) 0 0 A := by
  refine mkMet (by decide) (Nat.le_of_ble_eq_true rfl) ?_
  intro p e s m below meth c ls hC hr hlk hnm hl hH
  have hl : lv_has ls 4 [(0, .ref a), (1, .int x), (2, .int y), (3, .int z)] := hl
  have hS : va_S A H H [] := va_S.rf
  have he0 := he
  refine lv_aload_n (pc := 0) hC.x hC.b d_GU_init_0 rfl (lv_at hl 0 rfl) ?_
  refine k_GU_3_GS_init (pc := 1) hC hl.1 (Nat.le_of_ble_eq_true rfl) ⟨Nat.le_of_ble_eq_true rfl, Nat.le_of_ble_eq_true rfl⟩ ⟨Nat.zero_le _, Nat.zero_le _⟩ d_GU_init_1 ?_
  refine lv_aload_n (pc := 4) hC.x hC.b d_GU_init_4 rfl (lv_at hl 0 rfl) ?_
  refine lv_iload_n (pc := 5) hC.x hC.b d_GU_init_5 rfl (lv_at hl 1 rfl) ?_
  refine fp_GU_9 (pc := 6) hC hnm hP hD hS q0 he (Nat.le_of_ble_eq_true rfl) d_GU_init_6 (fun H1 locs hP hD hS => ?_)
  have he := set_at (y := (a, Sum.inr (1, [Value.int x, Value.int 0, Value.int 0]))) he0
  refine lv_aload_n (pc := 9) hC.x hC.b d_GU_init_9 rfl (lv_at hl 0 rfl) ?_
  refine lv_iload_n (pc := 10) hC.x hC.b d_GU_init_10 rfl (lv_at hl 2 rfl) ?_
  refine fp_GU_15 (pc := 11) hC hnm hP hD hS q0 he (Nat.le_of_ble_eq_true rfl) d_GU_init_11 (fun H2 locs hP hD hS => ?_)
  have he := set_at (y := (a, Sum.inr (1, [Value.int x, Value.int y, Value.int 0]))) he0
  rw [List.set_set] at hP hD
  refine lv_aload_n (pc := 14) hC.x hC.b d_GU_init_14 rfl (lv_at hl 0 rfl) ?_
  refine lv_iload_n (pc := 15) hC.x hC.b d_GU_init_15 rfl (lv_at hl 3 rfl) ?_
  refine fp_GU_18 (pc := 16) hC hnm hP hD hS q0 he (Nat.le_of_ble_eq_true rfl) d_GU_init_16 (fun H3 locs hP hD hS => ?_)
  have he := set_at (y := (a, Sum.inr (1, [Value.int x, Value.int y, Value.int z]))) he0
  rw [List.set_set] at hP hD
  exact wr_v (pc := 19) hC hr hlk (by rw [hH]; exact hS) d_GU_init_19 hP
set_option maxHeartbeats 4000000 in
set_option maxRecDepth 100000 in
theorem k_GR_45_GU_init {a : Nat} {ws : va_W} (hC : CX p m c cc nL s args R_GR D dA) (hP : va_P D classes (ws ++ [(a, .inr (1, [.int 0, .int 0, .int 0]))]) H) (hD : va_D A (ws ++ [(a, .inr (1, [.int 0, .int 0, .int 0]))])) (hS : va_S A H0 H locs) {x : Int32} {y : Int32} {z : Int32} (hsz : ls.size = nL) (hW : (rest.map fun v => v.category).sum ≤ 8) (hR : 2 + 1 ≤ R.frames ∧ 8 + (4 + 11) + 32 ≤ R.locals) (hf : cells + 0 ≤ R.cells ∧ slots + 0 ≤ R.slots) (hdg : decode cc pc = .ok (.invokespecial 45, 3)) (kk : ∀ (H1 : Heap) (locs1 : List Loc), va_P D classes (ws ++ [(a, .inr (1, [.int x, .int y, .int z]))]) H1 → va_D A (ws ++ [(a, .inr (1, [.int x, .int y, .int z]))]) → va_S A H0 H1 locs1 → W p l e R s m args below meth c H1 locs1 (cells + 0) (slots + 0) Q (F0 m (pc + 3) ls rest)) : W p l e R s m args below meth c H locs cells slots Q (F0 m pc ls (.int z :: .int y :: .int x :: .ref a :: rest)) :=
  va_callv (runI hC (c_GU_init l hP hD at_last) tw_75 tw_73 tw_74 tw_4 rfl ⟨by decide +kernel, by decide +kernel, rfl⟩ rfl rfl hsz rfl hW hR hf hdg) hS (fun _ _ h => h) (fun _ h => h) (fun u t H1 locs1 ht _ _ hB _ _ hS1 => by
    have h1 := hD.set (e := .inr (1, [.int x, .int y, .int z])) at_last
    rw [set_last] at h1
    have h2 : va_P D classes _ t.heap := hB
    rw [set_last, ht] at h2
    exact kk H1 locs1 h2 h1 hS1)
set_option maxHeartbeats 4000000 in
set_option maxRecDepth 100000 in
theorem c_GG_init (l : Launch) {A : Nat → Prop} {D : va_G} {dA : Nat → ClassId} {H : Heap} {ws : va_W} {q0 a : Nat} (hP : va_P D classes ws H) (hD : va_D A ws) (he : ws[q0]? = some (a, .inr (2, [.int 0]))) {x : Int32} : Met l y_GG_init (wd y_GG_init b_GG_init 2 none) ({ frames := 2, cells := 0, slots := 0, locals := 32 } : Room) (va_Pc [.ref a, .int x] (PX D dA H)) (QV (fun H1 => va_P D classes (ws.set q0 (a, .inr (2, [.int x]))) H1) A) 0 0 A := by
  refine mkMet (by decide) (Nat.le_of_ble_eq_true rfl) ?_
  intro p e s m below meth c ls hC hr hlk hnm hl hH
  have hl : lv_has ls 2 [(0, .ref a), (1, .int x)] := hl
  have hS : va_S A H H [] := va_S.rf
  have he0 := he
  refine lv_aload_n (pc := 0) hC.x hC.b d_GG_init_0 rfl (lv_at hl 0 rfl) ?_
  refine k_GG_3_GS_init (pc := 1) hC hl.1 (Nat.le_of_ble_eq_true rfl) ⟨Nat.le_of_ble_eq_true rfl, Nat.le_of_ble_eq_true rfl⟩ ⟨Nat.zero_le _, Nat.zero_le _⟩ d_GG_init_1 ?_
  refine lv_aload_n (pc := 4) hC.x hC.b d_GG_init_4 rfl (lv_at hl 0 rfl) ?_
  refine lv_iload_n (pc := 5) hC.x hC.b d_GG_init_5 rfl (lv_at hl 1 rfl) ?_
  refine fp_GG_9 (pc := 6) hC hnm hP hD hS q0 he (Nat.le_of_ble_eq_true rfl) d_GG_init_6 (fun H1 locs hP hD hS => ?_)
  have he := set_at (y := (a, Sum.inr (2, [Value.int x]))) he0
  exact wr_v (pc := 9) hC hr hlk (by rw [hH]; exact hS) d_GG_init_9 hP
set_option maxHeartbeats 4000000 in
set_option maxRecDepth 100000 in
theorem k_GR_54_GG_init {a : Nat} {ws : va_W} (hC : CX p m c cc nL s args R_GR D dA) (hP : va_P D classes (ws ++ [(a, .inr (2, [.int 0]))]) H) (hD : va_D A (ws ++ [(a, .inr (2, [.int 0]))])) (hS : va_S A H0 H locs) {x : Int32} (hsz : ls.size = nL) (hW : (rest.map fun v => v.category).sum ≤ 8) (hR : 2 + 1 ≤ R.frames ∧ 8 + (2 + 11) + 32 ≤ R.locals) (hf : cells + 0 ≤ R.cells ∧ slots + 0 ≤ R.slots) (hdg : decode cc pc = .ok (.invokespecial 54, 3)) (kk : ∀ (H1 : Heap) (locs1 : List Loc), va_P D classes (ws ++ [(a, .inr (2, [.int x]))]) H1 → va_D A (ws ++ [(a, .inr (2, [.int x]))]) → va_S A H0 H1 locs1 → W p l e R s m args below meth c H1 locs1 (cells + 0) (slots + 0) Q (F0 m (pc + 3) ls rest)) : W p l e R s m args below meth c H locs cells slots Q (F0 m pc ls (.int x :: .ref a :: rest)) :=
  va_callv (runI hC (c_GG_init l hP hD at_last) tw_102 tw_100 tw_101 tw_5 rfl ⟨by decide +kernel, by decide +kernel, rfl⟩ rfl rfl hsz rfl hW hR hf hdg) hS (fun _ _ h => h) (fun _ h => h) (fun u t H1 locs1 ht _ _ hB _ _ hS1 => by
    have h1 := hD.set (e := .inr (2, [.int x])) at_last
    rw [set_last] at h1
    have h2 : va_P D classes _ t.heap := hB
    rw [set_last, ht] at h2
    exact kk H1 locs1 h2 h1 hS1)
set_option maxHeartbeats 4000000 in
set_option maxRecDepth 100000 in
theorem c_GR_rule (l : Launch) {A : Nat → Prop} {ad : Nat → Nat} {S : St} {D : va_G} {dA : Nat → ClassId} {H : Heap} (hG : GW D dA A ad S H) (hI : Inv S) {w x : Int32} : Met l y_GR_rule (wd y_GR_rule b_GR_rule 3 (some .int)) ({ frames := 0, cells := 0, slots := 0, locals := 0 } : Room) (va_Pc [.ref (ad 0), .int w, .int x] (PX D dA H)) (QI (fun rr => rr = S.ruleV w x) (fun H1 => GW D dA A ad (S.ruleS w x) H1) A) 0 0 A := by
  refine mkMet (by decide) (Nat.le_of_ble_eq_true rfl) ?_
  intro p e s m below meth c ls hC hr hlk hnm hl hH
  have hl : lv_has ls 3 [(0, .ref (ad 0)), (1, .int w), (2, .int x)] := hl
  have hGW := hG
  obtain ⟨sf, kf, L, hG⟩ := hG
  obtain ⟨hP, hD, hst, hkp⟩ := id hG
  obtain ⟨hnr, hn, hcur, hnc, hnk, hWE, hrow, hkr, hcl, hdj⟩ := id hI
  have hS : va_S A H H [] := va_S.rf
  refine lv_iload_n (pc := 0) hC.x hC.b d_GR_rule_0 rfl (lv_at hl 1 rfl) ?_
  refine lv_if_lt (pc := 1) (tgt := 30) hC.x hC.b d_GR_rule_1 (by decide) (fun c_1 => ?_) (fun c_1 => ?_)
  · refine lv_iconst (pc := 30) (v := (-1)) hC.x hC.b d_GR_rule_30 (by decide) ?_
    exact wr_i (pc := 31) hC hr hlk (by rw [hH]; exact hS) d_GR_rule_31 (if_pos (Or.inl c_1)).symm (by rw [show S.ruleS w x = S from if_pos (Or.inl c_1)]; exact hGW)
  refine lv_iload_n (pc := 4) hC.x hC.b d_GR_rule_4 rfl (lv_at hl 1 rfl) ?_
  refine lv_sipush (pc := 5) (v := 10000) hC.x hC.b d_GR_rule_5 (by decide) ?_
  refine lv_icmp_gt (pc := 8) (tgt := 30) hC.x hC.b d_GR_rule_8 (by decide) (fun c_8 => ?_) (fun c_8 => ?_)
  · refine lv_iconst (pc := 30) (v := (-1)) hC.x hC.b d_GR_rule_30 (by decide) ?_
    exact wr_i (pc := 31) hC hr hlk (by rw [hH]; exact hS) d_GR_rule_31 (if_pos (Or.inr (Or.inl c_8))).symm (by rw [show S.ruleS w x = S from if_pos (Or.inr (Or.inl c_8))]; exact hGW)
  refine lv_iload_n (pc := 11) hC.x hC.b d_GR_rule_11 rfl (lv_at hl 2 rfl) ?_
  refine lv_if_lt (pc := 12) (tgt := 30) hC.x hC.b d_GR_rule_12 (by decide) (fun c_12 => ?_) (fun c_12 => ?_)
  · refine lv_iconst (pc := 30) (v := (-1)) hC.x hC.b d_GR_rule_30 (by decide) ?_
    exact wr_i (pc := 31) hC hr hlk (by rw [hH]; exact hS) d_GR_rule_31 (if_pos (Or.inr (Or.inr (Or.inl c_12)))).symm (by rw [show S.ruleS w x = S from if_pos (Or.inr (Or.inr (Or.inl c_12)))]; exact hGW)
  refine lv_iload_n (pc := 15) hC.x hC.b d_GR_rule_15 rfl (lv_at hl 2 rfl) ?_
  refine lv_ldc (pc := 16) hC.x hC.b hC.o (hC.t _ tw_66) d_GR_rule_16 ?_
  refine lv_icmp_gt (pc := 18) (tgt := 30) hC.x hC.b d_GR_rule_18 (by decide) (fun c_18 => ?_) (fun c_18 => ?_)
  · refine lv_iconst (pc := 30) (v := (-1)) hC.x hC.b d_GR_rule_30 (by decide) ?_
    exact wr_i (pc := 31) hC hr hlk (by rw [hH]; exact hS) d_GR_rule_31 (if_pos (Or.inr (Or.inr (Or.inr (Or.inl c_18))))).symm (by rw [show S.ruleS w x = S from if_pos (Or.inr (Or.inr (Or.inr (Or.inl c_18))))]; exact hGW)
  refine lv_aload_n (pc := 21) hC.x hC.b d_GR_rule_21 rfl (lv_at hl 0 rfl) ?_
  refine fg_GR_36 (pc := 22) hC hP 0 rfl rfl d_GR_rule_22 ?_
  refine lv_bipush (pc := 25) (v := nI 40) hC.x hC.b d_GR_rule_25 (by decide) ?_
  refine ni_ne (pc := 27) (tgt := 32) hC d_GR_rule_27 (by decide) (by omega) (by omega) (fun c_27 => ?_) (fun c_27 => ?_)
  · have hno : ¬ S.ruleC w x := (fun h => h.elim c_1 (fun h => h.elim c_8 (fun h => h.elim c_12 (fun h => h.elim c_18 c_27))))
    refine lv_aload_n (pc := 32) hC.x hC.b d_GR_rule_32 rfl (lv_at hl 0 rfl) ?_
    refine fg_GR_9 (pc := 33) hC hP 0 rfl rfl d_GR_rule_33 ?_
    refine lv_aload_n (pc := 36) hC.x hC.b d_GR_rule_36 rfl (lv_at hl 0 rfl) ?_
    refine fg_GR_36 (pc := 37) hC hP 0 rfl rfl d_GR_rule_37 ?_
    refine lv_iload_n (pc := 40) hC.x hC.b d_GR_rule_40 rfl (lv_at hl 1 rfl) ?_
    refine ast_i (pc := 41) hC hP hD hS 1 (S.nr) rfl rfl (by omega) (by decide) d_GR_rule_41 (fun H1 locs hP hD hS => ?_)
    refine lv_aload_n (pc := 42) hC.x hC.b d_GR_rule_42 rfl (lv_at hl 0 rfl) ?_
    refine fg_GR_13 (pc := 43) hC hP 0 rfl rfl d_GR_rule_43 ?_
    refine lv_aload_n (pc := 46) hC.x hC.b d_GR_rule_46 rfl (lv_at hl 0 rfl) ?_
    refine fg_GR_36 (pc := 47) hC hP 0 rfl rfl d_GR_rule_47 ?_
    refine lv_iload_n (pc := 50) hC.x hC.b d_GR_rule_50 rfl (lv_at hl 2 rfl) ?_
    refine ast_i (pc := 51) hC hP hD hS 2 (S.nr) rfl rfl (by omega) (by decide) d_GR_rule_51 (fun H2 locs hP hD hS => ?_)
    refine lv_aload_n (pc := 52) hC.x hC.b d_GR_rule_52 rfl (lv_at hl 0 rfl) ?_
    refine lv_dup (pc := 53) hC.x hC.b d_GR_rule_53 rfl ?_
    refine fg_GR_36 (pc := 54) hC hP 0 rfl rfl d_GR_rule_54 ?_
    refine lv_iconst (pc := 57) (v := 1) hC.x hC.b d_GR_rule_57 (by decide) ?_
    refine lv_iadd (pc := 58) hC.x hC.b d_GR_rule_58 ?_
    refine tp_i (y := nI (S.nr + 1)) (nI_1 _) ?_
    refine fp_GR_36 (pc := 59) hC hP hD hS 0 rfl (Nat.le_of_ble_eq_true rfl) d_GR_rule_59 (fun H3 locs hP hD hS => ?_)
    refine lv_aload_n (pc := 62) hC.x hC.b d_GR_rule_62 rfl (lv_at hl 0 rfl) ?_
    refine fg_GR_36 (pc := 63) hC hP 0 rfl rfl d_GR_rule_63 ?_
    refine lv_iconst (pc := 66) (v := 1) hC.x hC.b d_GR_rule_66 (by decide) ?_
    refine lv_isub (pc := 67) hC.x hC.b d_GR_rule_67 ?_
    refine tp_i (y := nI S.nr) (nI_pred _) ?_
    have hP : va_P D classes (gx dA ad (((S.nr + 1, upd S.W S.nr w, upd S.E S.nr x), S.2)) sf kf ++ L) H3 := hP
    have hD : va_D A (gx dA ad (((S.nr + 1, upd S.W S.nr w, upd S.E S.nr x), S.2)) sf kf ++ L) := hD
    exact wr_i (pc := 68) hC hr hlk (by rw [hH]; exact hS) d_GR_rule_68 (if_neg hno).symm (by rw [show S.ruleS w x = ((S.nr + 1, upd S.W S.nr w, upd S.E S.nr x), S.2) from if_neg hno]; exact ⟨sf, kf, L, hP, hD, hst, fun j hj => by obtain ⟨a, h1, h2⟩ := hkp j hj; exact ⟨a, h1, kpt_upd h2 hnr (hkr j hj).2⟩⟩)
  refine lv_iconst (pc := 30) (v := (-1)) hC.x hC.b d_GR_rule_30 (by decide) ?_
  exact wr_i (pc := 31) hC hr hlk (by rw [hH]; exact hS) d_GR_rule_31 (if_pos (Or.inr (Or.inr (Or.inr (Or.inr c_27))))).symm (by rw [show S.ruleS w x = S from if_pos (Or.inr (Or.inr (Or.inr (Or.inr c_27))))]; exact hGW)
set_option maxHeartbeats 4000000 in
set_option maxRecDepth 100000 in
theorem c_GR_add (l : Launch) {A : Nat → Prop} {ad : Nat → Nat} {S : St} {sf kf : Nat → Option Nat} {L : va_W} {D : va_G} {dA : Nat → ClassId} {H : Heap} (hG : GX D dA A ad S sf kf L H) (hI : Inv S) {t : T3} {b : Nat} (hlt : S.n < 200) (hb : stp t b L) : Met l y_GR_add (wd y_GR_add b_GR_add 2 (some .int)) ({ frames := 0, cells := 0, slots := 0, locals := 0 } : Room) (va_Pc [.ref (ad 0), .ref b] (PX D dA H)) (QI (fun rr => rr = nI S.n) (fun H1 => GW D dA A ad (S.addS t) H1) A) 0 0 A := by
  refine mkMet (by decide) (Nat.le_of_ble_eq_true rfl) ?_
  intro p e s m below meth c ls hC hr hlk hnm hl hH
  have hl : lv_has ls 2 [(0, .ref (ad 0)), (1, .ref b)] := hl
  obtain ⟨hP, hD, hst, hkp⟩ := id hG
  obtain ⟨hnr, hn, hcur, hnc, hnk, hWE, hrow, hkr, hcl, hdj⟩ := id hI
  have hS : va_S A H H [] := va_S.rf
  refine lv_aload_n (pc := 0) hC.x hC.b d_GR_add_0 rfl (lv_at hl 0 rfl) ?_
  refine fg_GR_18 (pc := 1) hC hP 0 rfl rfl d_GR_add_1 ?_
  refine lv_aload_n (pc := 4) hC.x hC.b d_GR_add_4 rfl (lv_at hl 0 rfl) ?_
  refine fg_GR_40 (pc := 5) hC hP 0 rfl rfl d_GR_add_5 ?_
  refine lv_aload_n (pc := 8) hC.x hC.b d_GR_add_8 rfl (lv_at hl 1 rfl) ?_
  refine ast_s (pc := 9) hC hP hD hS 3 rfl (k := S.n) hlt (by decide) hb d_GR_add_9 (fun H0 locs hP hD hS => ?_)
  refine lv_aload_n (pc := 10) hC.x hC.b d_GR_add_10 rfl (lv_at hl 0 rfl) ?_
  refine lv_dup (pc := 11) hC.x hC.b d_GR_add_11 rfl ?_
  refine fg_GR_40 (pc := 12) hC hP 0 rfl rfl d_GR_add_12 ?_
  refine lv_iconst (pc := 15) (v := 1) hC.x hC.b d_GR_add_15 (by decide) ?_
  refine lv_iadd (pc := 16) hC.x hC.b d_GR_add_16 ?_
  refine tp_i (y := nI (S.n + 1)) (nI_1 _) ?_
  refine fp_GR_40 (pc := 17) hC hP hD hS 0 rfl (Nat.le_of_ble_eq_true rfl) d_GR_add_17 (fun H1 locs hP hD hS => ?_)
  refine lv_aload_n (pc := 20) hC.x hC.b d_GR_add_20 rfl (lv_at hl 0 rfl) ?_
  refine fg_GR_40 (pc := 21) hC hP 0 rfl rfl d_GR_add_21 ?_
  refine lv_iconst (pc := 24) (v := 1) hC.x hC.b d_GR_add_24 (by decide) ?_
  refine lv_isub (pc := 25) hC.x hC.b d_GR_add_25 ?_
  refine tp_i (y := nI S.n) (nI_pred _) ?_
  have hP : va_P D classes (gx dA ad (S.addS t) (va_up sf S.n (some b)) kf ++ L) H1 := hP
  have hD : va_D A (gx dA ad (S.addS t) (va_up sf S.n (some b)) kf ++ L) := hD
  have hst1 : ∀ k, k < S.n + 1 → ∃ a, va_up sf S.n (some b) k = some a ∧ stp (updT S.row S.n t k) a L := by
    intro k hk
    by_cases hz : k = S.n
    · subst hz; exact ⟨b, va_up_self _ _ _, by rw [updT_s]; exact hb⟩
    · obtain ⟨a, h1, h2⟩ := hst k (by omega)
      exact ⟨a, by rw [va_up_ne _ _ hz]; exact h1, by rw [updT_n hz]; exact h2⟩
  exact wr_i (pc := 26) hC hr hlk (by rw [hH]; exact hS) d_GR_add_26 rfl ⟨va_up sf S.n (some b), kf, L, hP, hD, hst1, hkp⟩
set_option maxHeartbeats 4000000 in
set_option maxRecDepth 100000 in
theorem k_GR_48_GR_add (hC : CX p m c cc nL s args R_GR D dA) {sf kf : Nat → Option Nat} {L : va_W} (hG : GX D dA A ad S sf kf L H) (hI : Inv S) {t : T3} {b : Nat} (hlt : S.n < 200) (hb : stp t b L) (hS : va_S A H0 H locs) (hsz : ls.size = nL) (hW : (rest.map fun v => v.category).sum ≤ 8) (hR : 0 + 1 ≤ R.frames ∧ 8 + (2 + 11) + 0 ≤ R.locals) (hf : cells + 0 ≤ R.cells ∧ slots + 0 ≤ R.slots) (hdg : decode cc pc = .ok (.invokevirtual 48, 3)) (kk : ∀ (H1 : Heap) (locs1 : List Loc), GW D dA A ad (S.addS t) H1 → va_S A H0 H1 locs1 → W p l e R s m args below meth c H1 locs1 (cells + 0) (slots + 0) Q (F0 m (pc + 3) ls (.int (nI S.n) :: rest))) : W p l e R s m args below meth c H locs cells slots Q (F0 m pc ls (.ref b :: .ref (ad 0) :: rest)) :=
  va_calli (runV hC (c_GR_add l hG hI hlt hb) tw_93 tw_90 tw_92 ts_0 tw_1 ⟨by decide +kernel, by decide +kernel, rfl⟩ rfl rfl (ci := 0) rfl rfl (hG.1 0 _ rfl) hsz rfl hW hR hf hdg) hS (fun _ _ h => h) (fun _ h => h) (fun r u t H1 locs1 ht _ hp hB _ _ hS1 => by
    rw [show r = _ from hp]
    exact kk H1 locs1 (by rw [← ht]; exact hB) hS1)
set_option maxHeartbeats 4000000 in
set_option maxRecDepth 100000 in
theorem c_GR_used (l : Launch) {A : Nat → Prop} {ad : Nat → Nat} {S : St} {D : va_G} {dA : Nat → ClassId} {H : Heap} (hG : GW D dA A ad S H) (hI : Inv S) (hA : ∀ q, H.size ≤ q → A q) {r x w : Int32} : Met l y_GR_used (wd y_GR_used b_GR_used 4 (some .int)) ({ frames := 3, cells := 1, slots := 3, locals := 55 } : Room) (va_Pc [.ref (ad 0), .int r, .int x, .int w] (PX D dA H)) (QI (fun rr => rr = S.usedV r x w) (fun H1 => GW D dA A ad (S.usedS r x w) H1) A) 1 3 A := by
  refine mkMet (by decide) (Nat.le_of_ble_eq_true rfl) ?_
  intro p e s m below meth c ls hC hr hlk hnm hl hH
  have hl : lv_has ls 4 [(0, .ref (ad 0)), (1, .int r), (2, .int x), (3, .int w)] := hl
  have hGW := hG
  obtain ⟨sf, kf, L, hG⟩ := hG
  obtain ⟨hP, hD, hst, hkp⟩ := id hG
  obtain ⟨hnr, hn, hcur, hnc, hnk, hWE, hrow, hkr, hcl, hdj⟩ := id hI
  have hS : va_S A H H [] := va_S.rf
  refine lv_iload_n (pc := 0) hC.x hC.b d_GR_used_0 rfl (lv_at hl 1 rfl) ?_
  refine lv_if_lt (pc := 1) (tgt := 44) hC.x hC.b d_GR_used_1 (by decide) (fun c_1 => ?_) (fun c_1 => ?_)
  · refine lv_iconst (pc := 44) (v := (-1)) hC.x hC.b d_GR_used_44 (by decide) ?_
    refine W.widen (k := 1) (n := 3) (by omega) (by omega) ?_
    exact wr_i (pc := 45) hC hr hlk (by rw [hH]; exact hS) d_GR_used_45 (if_pos (Or.inl c_1)).symm (by rw [show S.usedS r x w = S from if_pos (Or.inl c_1)]; exact hGW)
  refine lv_iload_n (pc := 4) hC.x hC.b d_GR_used_4 rfl (lv_at hl 1 rfl) ?_
  refine lv_aload_n (pc := 5) hC.x hC.b d_GR_used_5 rfl (lv_at hl 0 rfl) ?_
  refine fg_GR_36 (pc := 6) hC hP 0 rfl rfl d_GR_used_6 ?_
  refine lv_icmp_ge (pc := 9) (tgt := 44) hC.x hC.b d_GR_used_9 (by decide) (fun c_9 => ?_) (fun c_9 => ?_)
  · refine lv_iconst (pc := 44) (v := (-1)) hC.x hC.b d_GR_used_44 (by decide) ?_
    refine W.widen (k := 1) (n := 3) (by omega) (by omega) ?_
    exact wr_i (pc := 45) hC hr hlk (by rw [hH]; exact hS) d_GR_used_45 (if_pos (Or.inr (Or.inl c_9))).symm (by rw [show S.usedS r x w = S from if_pos (Or.inr (Or.inl c_9))]; exact hGW)
  refine lv_iload_n (pc := 12) hC.x hC.b d_GR_used_12 rfl (lv_at hl 2 rfl) ?_
  refine lv_if_lt (pc := 13) (tgt := 44) hC.x hC.b d_GR_used_13 (by decide) (fun c_13 => ?_) (fun c_13 => ?_)
  · refine lv_iconst (pc := 44) (v := (-1)) hC.x hC.b d_GR_used_44 (by decide) ?_
    refine W.widen (k := 1) (n := 3) (by omega) (by omega) ?_
    exact wr_i (pc := 45) hC hr hlk (by rw [hH]; exact hS) d_GR_used_45 (if_pos (Or.inr (Or.inr (Or.inl c_13)))).symm (by rw [show S.usedS r x w = S from if_pos (Or.inr (Or.inr (Or.inl c_13)))]; exact hGW)
  refine lv_iload_n (pc := 16) hC.x hC.b d_GR_used_16 rfl (lv_at hl 2 rfl) ?_
  refine lv_sipush (pc := 17) (v := 256) hC.x hC.b d_GR_used_17 (by decide) ?_
  refine lv_icmp_ge (pc := 20) (tgt := 44) hC.x hC.b d_GR_used_20 (by decide) (fun c_20 => ?_) (fun c_20 => ?_)
  · refine lv_iconst (pc := 44) (v := (-1)) hC.x hC.b d_GR_used_44 (by decide) ?_
    refine W.widen (k := 1) (n := 3) (by omega) (by omega) ?_
    exact wr_i (pc := 45) hC hr hlk (by rw [hH]; exact hS) d_GR_used_45 (if_pos (Or.inr (Or.inr (Or.inr (Or.inl c_20))))).symm (by rw [show S.usedS r x w = S from if_pos (Or.inr (Or.inr (Or.inr (Or.inl c_20))))]; exact hGW)
  refine lv_iload_n (pc := 23) hC.x hC.b d_GR_used_23 rfl (lv_at hl 3 rfl) ?_
  refine lv_iconst (pc := 24) (v := 1) hC.x hC.b d_GR_used_24 (by decide) ?_
  refine lv_icmp_lt (pc := 25) (tgt := 44) hC.x hC.b d_GR_used_25 (by decide) (fun c_25 => ?_) (fun c_25 => ?_)
  · refine lv_iconst (pc := 44) (v := (-1)) hC.x hC.b d_GR_used_44 (by decide) ?_
    refine W.widen (k := 1) (n := 3) (by omega) (by omega) ?_
    exact wr_i (pc := 45) hC hr hlk (by rw [hH]; exact hS) d_GR_used_45 (if_pos (Or.inr (Or.inr (Or.inr (Or.inr (Or.inl c_25)))))).symm (by rw [show S.usedS r x w = S from if_pos (Or.inr (Or.inr (Or.inr (Or.inr (Or.inl c_25)))))]; exact hGW)
  refine lv_iload_n (pc := 28) hC.x hC.b d_GR_used_28 rfl (lv_at hl 3 rfl) ?_
  refine lv_bipush (pc := 29) (v := 9) hC.x hC.b d_GR_used_29 (by decide) ?_
  refine lv_icmp_gt (pc := 31) (tgt := 44) hC.x hC.b d_GR_used_31 (by decide) (fun c_31 => ?_) (fun c_31 => ?_)
  · refine lv_iconst (pc := 44) (v := (-1)) hC.x hC.b d_GR_used_44 (by decide) ?_
    refine W.widen (k := 1) (n := 3) (by omega) (by omega) ?_
    exact wr_i (pc := 45) hC hr hlk (by rw [hH]; exact hS) d_GR_used_45 (if_pos (Or.inr (Or.inr (Or.inr (Or.inr (Or.inr (Or.inl c_31))))))).symm (by rw [show S.usedS r x w = S from if_pos (Or.inr (Or.inr (Or.inr (Or.inr (Or.inr (Or.inl c_31))))))]; exact hGW)
  refine lv_aload_n (pc := 34) hC.x hC.b d_GR_used_34 rfl (lv_at hl 0 rfl) ?_
  refine fg_GR_40 (pc := 35) hC hP 0 rfl rfl d_GR_used_35 ?_
  refine lv_sipush (pc := 38) (v := nI 200) hC.x hC.b d_GR_used_38 (by decide) ?_
  refine ni_ne (pc := 41) (tgt := 46) hC d_GR_used_41 (by decide) (by omega) (by omega) (fun c_41 => ?_) (fun c_41 => ?_)
  · have hno : ¬ S.usedC r x w := (fun h => h.elim c_1 (fun h => h.elim c_9 (fun h => h.elim c_13 (fun h => h.elim c_20 (fun h => h.elim c_25 (fun h => h.elim c_31 c_41))))))
    have hlt : S.n < 200 := by omega
    have hne : ((r, x, w) : T3).1 ≠ -1 := fun z => c_1 (by rw [show r = -1 from z]; decide)
    refine lv_aload_n (pc := 46) hC.x hC.b d_GR_used_46 rfl (lv_at hl 0 rfl) ?_
    refine newo (pc := 47) (ci := 1) (fs := [.int 0, .int 0, .int 0]) (a := 0) hC i_GU t_GU_ok tw_71 tw_72 tw_4 rfl (fun j hj => by rcases (show j = 0 ∨ j = 1 ∨ j = 2 by omega) with rfl | rfl | rfl <;> rfl) hP hD hS hA (Nat.le_of_ble_eq_true rfl) (Nat.le_of_ble_eq_true rfl) d_GR_used_47 (fun q H1 hP hD hS => ?_)
    refine lv_dup (pc := 50) hC.x hC.b d_GR_used_50 rfl ?_
    refine lv_iload_n (pc := 51) hC.x hC.b d_GR_used_51 rfl (lv_at hl 1 rfl) ?_
    refine lv_iload_n (pc := 52) hC.x hC.b d_GR_used_52 rfl (lv_at hl 2 rfl) ?_
    refine lv_iload_n (pc := 53) hC.x hC.b d_GR_used_53 rfl (lv_at hl 3 rfl) ?_
    refine k_GR_45_GU_init (pc := 54) hC hP hD hS hl.1 (Nat.le_of_ble_eq_true rfl) ⟨Nat.le_of_ble_eq_true rfl, Nat.le_of_ble_eq_true rfl⟩ ⟨Nat.le_of_ble_eq_true rfl, Nat.le_of_ble_eq_true rfl⟩ d_GR_used_54 (fun H2 locs hP hD hS => ?_)
    rw [List.append_assoc] at hP hD
    have hb : stp (r, x, w) q (L ++ [(q, .inr (1, [.int r, .int x, .int w]))]) := Or.inr ⟨hne, List.mem_append_right _ List.mem_cons_self⟩
    refine k_GR_48_GR_add (pc := 57) hC (hG.more hP hD) hI hlt hb hS hl.1 (Nat.le_of_ble_eq_true rfl) ⟨Nat.le_of_ble_eq_true rfl, Nat.le_of_ble_eq_true rfl⟩ ⟨Nat.le_of_ble_eq_true rfl, Nat.le_of_ble_eq_true rfl⟩ d_GR_used_57 (fun H3 locs hB hS => ?_)
    exact wr_i (pc := 60) hC hr hlk (by rw [hH]; exact hS) d_GR_used_60 (if_neg hno).symm (by rw [show S.usedS r x w = S.addS (r, x, w) from if_neg hno]; exact hB)
  refine lv_iconst (pc := 44) (v := (-1)) hC.x hC.b d_GR_used_44 (by decide) ?_
  refine W.widen (k := 1) (n := 3) (by omega) (by omega) ?_
  exact wr_i (pc := 45) hC hr hlk (by rw [hH]; exact hS) d_GR_used_45 (if_pos (Or.inr (Or.inr (Or.inr (Or.inr (Or.inr (Or.inr (c_41)))))))).symm (by rw [show S.usedS r x w = S from if_pos (Or.inr (Or.inr (Or.inr (Or.inr (Or.inr (Or.inr (c_41)))))))]; exact hGW)
set_option maxHeartbeats 4000000 in
set_option maxRecDepth 100000 in
theorem c_GR_guess (l : Launch) {A : Nat → Prop} {ad : Nat → Nat} {S : St} {D : va_G} {dA : Nat → ClassId} {H : Heap} (hG : GW D dA A ad S H) (hI : Inv S) (hA : ∀ q, H.size ≤ q → A q) {d : Int32} : Met l y_GR_guess (wd y_GR_guess b_GR_guess 2 (some .int)) ({ frames := 3, cells := 1, slots := 1, locals := 53 } : Room) (va_Pc [.ref (ad 0), .int d] (PX D dA H)) (QI (fun rr => rr = S.guessV d) (fun H1 => GW D dA A ad (S.guessS d) H1) A) 1 1 A := by
  refine mkMet (by decide) (Nat.le_of_ble_eq_true rfl) ?_
  intro p e s m below meth c ls hC hr hlk hnm hl hH
  have hl : lv_has ls 2 [(0, .ref (ad 0)), (1, .int d)] := hl
  have hGW := hG
  obtain ⟨sf, kf, L, hG⟩ := hG
  obtain ⟨hP, hD, hst, hkp⟩ := id hG
  obtain ⟨hnr, hn, hcur, hnc, hnk, hWE, hrow, hkr, hcl, hdj⟩ := id hI
  have hS : va_S A H H [] := va_S.rf
  refine lv_iload_n (pc := 0) hC.x hC.b d_GR_guess_0 rfl (lv_at hl 1 rfl) ?_
  refine lv_iconst (pc := 1) (v := 1) hC.x hC.b d_GR_guess_1 (by decide) ?_
  refine lv_icmp_lt (pc := 2) (tgt := 21) hC.x hC.b d_GR_guess_2 (by decide) (fun c_2 => ?_) (fun c_2 => ?_)
  · refine lv_iconst (pc := 21) (v := (-1)) hC.x hC.b d_GR_guess_21 (by decide) ?_
    refine lv_goto (pc := 22) (tgt := 37) hC.x hC.b d_GR_guess_22 (by decide) ?_
    refine W.widen (k := 1) (n := 1) (by omega) (by omega) ?_
    exact wr_i (pc := 37) hC hr hlk (by rw [hH]; exact hS) d_GR_guess_37 (if_pos (Or.inl c_2)).symm (by rw [show S.guessS d = S from if_pos (Or.inl c_2)]; exact hGW)
  refine lv_iload_n (pc := 5) hC.x hC.b d_GR_guess_5 rfl (lv_at hl 1 rfl) ?_
  refine lv_bipush (pc := 6) (v := 20) hC.x hC.b d_GR_guess_6 (by decide) ?_
  refine lv_icmp_gt (pc := 8) (tgt := 21) hC.x hC.b d_GR_guess_8 (by decide) (fun c_8 => ?_) (fun c_8 => ?_)
  · refine lv_iconst (pc := 21) (v := (-1)) hC.x hC.b d_GR_guess_21 (by decide) ?_
    refine lv_goto (pc := 22) (tgt := 37) hC.x hC.b d_GR_guess_22 (by decide) ?_
    refine W.widen (k := 1) (n := 1) (by omega) (by omega) ?_
    exact wr_i (pc := 37) hC hr hlk (by rw [hH]; exact hS) d_GR_guess_37 (if_pos (Or.inr (Or.inl c_8))).symm (by rw [show S.guessS d = S from if_pos (Or.inr (Or.inl c_8))]; exact hGW)
  refine lv_aload_n (pc := 11) hC.x hC.b d_GR_guess_11 rfl (lv_at hl 0 rfl) ?_
  refine fg_GR_40 (pc := 12) hC hP 0 rfl rfl d_GR_guess_12 ?_
  refine lv_sipush (pc := 15) (v := nI 200) hC.x hC.b d_GR_guess_15 (by decide) ?_
  refine ni_ne (pc := 18) (tgt := 25) hC d_GR_guess_18 (by decide) (by omega) (by omega) (fun c_18 => ?_) (fun c_18 => ?_)
  · have hno : ¬ S.guessC d := (fun h => h.elim c_2 (fun h => h.elim c_8 c_18))
    have hlt : S.n < 200 := by omega
    refine lv_aload_n (pc := 25) hC.x hC.b d_GR_guess_25 rfl (lv_at hl 0 rfl) ?_
    refine newo (pc := 26) (ci := 2) (fs := [.int 0]) (a := 0) hC i_GG t_GG_ok tw_98 tw_99 tw_5 rfl (fun j hj => by rcases (show j = 0 by omega) with rfl <;> rfl) hP hD hS hA (Nat.le_of_ble_eq_true rfl) (Nat.le_of_ble_eq_true rfl) d_GR_guess_26 (fun q H1 hP hD hS => ?_)
    refine lv_dup (pc := 29) hC.x hC.b d_GR_guess_29 rfl ?_
    refine lv_iload_n (pc := 30) hC.x hC.b d_GR_guess_30 rfl (lv_at hl 1 rfl) ?_
    refine k_GR_54_GG_init (pc := 31) hC hP hD hS hl.1 (Nat.le_of_ble_eq_true rfl) ⟨Nat.le_of_ble_eq_true rfl, Nat.le_of_ble_eq_true rfl⟩ ⟨Nat.le_of_ble_eq_true rfl, Nat.le_of_ble_eq_true rfl⟩ d_GR_guess_31 (fun H2 locs hP hD hS => ?_)
    rw [List.append_assoc] at hP hD
    have hb : stp (-1, d, 0) q (L ++ [(q, .inr (2, [.int d]))]) := Or.inl ⟨rfl, List.mem_append_right _ List.mem_cons_self⟩
    refine k_GR_48_GR_add (pc := 34) hC (hG.more hP hD) hI hlt hb hS hl.1 (Nat.le_of_ble_eq_true rfl) ⟨Nat.le_of_ble_eq_true rfl, Nat.le_of_ble_eq_true rfl⟩ ⟨Nat.le_of_ble_eq_true rfl, Nat.le_of_ble_eq_true rfl⟩ d_GR_guess_34 (fun H3 locs hB hS => ?_)
    exact wr_i (pc := 37) hC hr hlk (by rw [hH]; exact hS) d_GR_guess_37 (if_neg hno).symm (by rw [show S.guessS d = S.addS (-1, d, 0) from if_neg hno]; exact hB)
  refine lv_iconst (pc := 21) (v := (-1)) hC.x hC.b d_GR_guess_21 (by decide) ?_
  refine lv_goto (pc := 22) (tgt := 37) hC.x hC.b d_GR_guess_22 (by decide) ?_
  refine W.widen (k := 1) (n := 1) (by omega) (by omega) ?_
  exact wr_i (pc := 37) hC hr hlk (by rw [hH]; exact hS) d_GR_guess_37 (if_pos (Or.inr (Or.inr c_18))).symm (by rw [show S.guessS d = S from if_pos (Or.inr (Or.inr c_18))]; exact hGW)
set_option maxHeartbeats 4000000 in
set_option maxRecDepth 100000 in
theorem c_GR_drop (l : Launch) {A : Nat → Prop} {ad : Nat → Nat} {S : St} {D : va_G} {dA : Nat → ClassId} {H : Heap} (hG : GW D dA A ad S H) (hI : Inv S) : Met l y_GR_drop (wd y_GR_drop b_GR_drop 1 (some .boolean)) ({ frames := 1, cells := 0, slots := 0, locals := 14 } : Room) (va_Pc [.ref (ad 0)] (PX D dA H)) (QI (fun rr => rr = S.dropV) (fun H1 => GW D dA A ad S.dropS H1) A) 0 0 A := by
  refine mkMet (by decide) (Nat.le_of_ble_eq_true rfl) ?_
  intro p e s m below meth c ls hC hr hlk hnm hl hH
  have hl : lv_has ls 1 [(0, .ref (ad 0))] := hl
  have hGW := hG
  obtain ⟨sf, kf, L, hG⟩ := hG
  obtain ⟨hP, hD, hst, hkp⟩ := id hG
  obtain ⟨hnr, hn, hcur, hnc, hnk, hWE, hrow, hkr, hcl, hdj⟩ := id hI
  have hS : va_S A H H [] := va_S.rf
  refine lv_aload_n (pc := 0) hC.x hC.b d_GR_drop_0 rfl (lv_at hl 0 rfl) ?_
  refine fg_GR_40 (pc := 1) hC hP 0 rfl rfl d_GR_drop_1 ?_
  refine nz_ne (pc := 4) (tgt := 9) hC d_GR_drop_4 (by decide) (by omega) (fun c_4 => ?_) (fun c_4 => ?_)
  · refine lv_aload_n (pc := 9) hC.x hC.b d_GR_drop_9 rfl (lv_at hl 0 rfl) ?_
    refine lv_dup (pc := 10) hC.x hC.b d_GR_drop_10 rfl ?_
    refine fg_GR_40 (pc := 11) hC hP 0 rfl rfl d_GR_drop_11 ?_
    refine lv_iconst (pc := 14) (v := 1) hC.x hC.b d_GR_drop_14 (by decide) ?_
    refine lv_isub (pc := 15) hC.x hC.b d_GR_drop_15 ?_
    refine tp_i (y := nI (S.n - 1)) (nI_sub1 c_4) ?_
    refine fp_GR_40 (pc := 16) hC hP hD hS 0 rfl (Nat.le_of_ble_eq_true rfl) d_GR_drop_16 (fun H1 locs hP hD hS => ?_)
    refine lv_aload_n (pc := 19) hC.x hC.b d_GR_drop_19 rfl (lv_at hl 0 rfl) ?_
    refine lv_aload_n (pc := 20) hC.x hC.b d_GR_drop_20 rfl (lv_at hl 0 rfl) ?_
    refine fg_GR_57 (pc := 21) hC hP 0 rfl rfl d_GR_drop_21 ?_
    refine lv_aload_n (pc := 24) hC.x hC.b d_GR_drop_24 rfl (lv_at hl 0 rfl) ?_
    refine fg_GR_40 (pc := 25) hC hP 0 rfl rfl d_GR_drop_25 ?_
    refine va_mmin (pc := 28) hC.x hC.b (hC.ml.trans hl.1.symm) hC.o (hC.t _ tw_112) (hC.t _ tw_113) (hC.t _ tw_6) (hC.t _ tw_114) (Nat.le_of_ble_eq_true rfl) (Nat.le_of_ble_eq_true rfl) (Nat.zero_le _) (Nat.zero_le _) d_GR_drop_28 ?_
    refine tp_i (y := nI (min S.cur (S.n - 1))) ?_ ?_
    · by_cases hz : S.n - 1 < S.cur
      · rw [if_pos (nI_lt hz (by omega)), Nat.min_eq_right (by omega)]
      · rw [if_neg (nI_nlt (by omega) (by omega)), Nat.min_eq_left (by omega)]
    refine fp_GR_57 (pc := 31) hC hP hD hS 0 rfl (Nat.le_of_ble_eq_true rfl) d_GR_drop_31 (fun H2 locs hP hD hS => ?_)
    refine lv_iconst (pc := 34) (v := 1) hC.x hC.b d_GR_drop_34 (by decide) ?_
    have hP : va_P D classes (gx dA ad ((S.1, (S.n - 1, S.row), min S.cur (S.n - 1), S.2.2.2)) sf kf ++ L) H2 := hP
    have hD : va_D A (gx dA ad ((S.1, (S.n - 1, S.row), min S.cur (S.n - 1), S.2.2.2)) sf kf ++ L) := hD
    exact wr_z (pc := 35) hC hr hlk (by rw [hH]; exact hS) d_GR_drop_35 (by decide) (if_neg (by omega)).symm (by rw [show S.dropS = (S.1, (S.n - 1, S.row), min S.cur (S.n - 1), S.2.2.2) from if_neg (by omega)]; exact ⟨sf, kf, L, hP, hD, fun k hk => hst k (by have hk : k < S.n - 1 := hk; omega), hkp⟩)
  refine lv_iconst (pc := 7) (v := 0) hC.x hC.b d_GR_drop_7 (by decide) ?_
  exact wr_z (pc := 8) hC hr hlk (by rw [hH]; exact hS) d_GR_drop_8 (by decide) (if_pos c_4).symm (by rw [show S.dropS = S from if_pos c_4]; exact hGW)
set_option maxHeartbeats 4000000 in
set_option maxRecDepth 100000 in
theorem c_GR_go (l : Launch) {A : Nat → Prop} {ad : Nat → Nat} {S : St} {D : va_G} {dA : Nat → ClassId} {H : Heap} (hG : GW D dA A ad S H) (hI : Inv S) {x : Int32} : Met l y_GR_go (wd y_GR_go b_GR_go 2 (some .boolean)) ({ frames := 0, cells := 0, slots := 0, locals := 0 } : Room) (va_Pc [.ref (ad 0), .int x] (PX D dA H)) (QI (fun rr => rr = S.goV x) (fun H1 => GW D dA A ad (S.goS x) H1) A) 0 0 A := by
  refine mkMet (by decide) (Nat.le_of_ble_eq_true rfl) ?_
  intro p e s m below meth c ls hC hr hlk hnm hl hH
  have hl : lv_has ls 2 [(0, .ref (ad 0)), (1, .int x)] := hl
  have hGW := hG
  obtain ⟨sf, kf, L, hG⟩ := hG
  obtain ⟨hP, hD, hst, hkp⟩ := id hG
  obtain ⟨hnr, hn, hcur, hnc, hnk, hWE, hrow, hkr, hcl, hdj⟩ := id hI
  have hS : va_S A H H [] := va_S.rf
  refine lv_iload_n (pc := 0) hC.x hC.b d_GR_go_0 rfl (lv_at hl 1 rfl) ?_
  refine lv_if_lt (pc := 1) (tgt := 12) hC.x hC.b d_GR_go_1 (by decide) (fun c_1 => ?_) (fun c_1 => ?_)
  · refine lv_iconst (pc := 12) (v := 0) hC.x hC.b d_GR_go_12 (by decide) ?_
    exact wr_z (pc := 13) hC hr hlk (by rw [hH]; exact hS) d_GR_go_13 (by decide) (if_pos (Or.inl c_1)).symm (by rw [show S.goS x = S from if_pos (Or.inl c_1)]; exact hGW)
  refine lv_iload_n (pc := 4) hC.x hC.b d_GR_go_4 rfl (lv_at hl 1 rfl) ?_
  refine lv_aload_n (pc := 5) hC.x hC.b d_GR_go_5 rfl (lv_at hl 0 rfl) ?_
  refine fg_GR_40 (pc := 6) hC hP 0 rfl rfl d_GR_go_6 ?_
  refine lv_icmp_le (pc := 9) (tgt := 14) hC.x hC.b d_GR_go_9 (by decide) (fun c_9 => ?_) (fun c_9 => ?_)
  · have hno : ¬ S.goC x := (fun h => h.elim c_1 (Int32.not_lt.mpr c_9))
    obtain ⟨k, hk, hxk⟩ := nI_of c_1
    have hix : x = nI x.toNatClampNeg := by rw [hxk, nI_clamp hk]
    refine lv_aload_n (pc := 14) hC.x hC.b d_GR_go_14 rfl (lv_at hl 0 rfl) ?_
    refine lv_iload_n (pc := 15) hC.x hC.b d_GR_go_15 rfl (lv_at hl 1 rfl) ?_
    refine tp_i (y := nI x.toNatClampNeg) hix ?_
    refine fp_GR_57 (pc := 16) hC hP hD hS 0 rfl (Nat.le_of_ble_eq_true rfl) d_GR_go_16 (fun H1 locs hP hD hS => ?_)
    refine lv_iconst (pc := 19) (v := 1) hC.x hC.b d_GR_go_19 (by decide) ?_
    have hP : va_P D classes (gx dA ad ((S.1, S.2.1, x.toNatClampNeg, S.2.2.2)) sf kf ++ L) H1 := hP
    have hD : va_D A (gx dA ad ((S.1, S.2.1, x.toNatClampNeg, S.2.2.2)) sf kf ++ L) := hD
    exact wr_z (pc := 20) hC hr hlk (by rw [hH]; exact hS) d_GR_go_20 (by decide) (if_neg hno).symm (by rw [show S.goS x = (S.1, S.2.1, x.toNatClampNeg, S.2.2.2) from if_neg hno]; exact ⟨sf, kf, L, hP, hD, hst, hkp⟩)
  refine lv_iconst (pc := 12) (v := 0) hC.x hC.b d_GR_go_12 (by decide) ?_
  exact wr_z (pc := 13) hC hr hlk (by rw [hH]; exact hS) d_GR_go_13 (by decide) (if_pos (Or.inr (Int32.not_le.mp c_9))).symm (by rw [show S.goS x = S from if_pos (Or.inr (Int32.not_le.mp c_9))]; exact hGW)
set_option maxHeartbeats 4000000 in
set_option maxRecDepth 100000 in
theorem c_GR_hint (l : Launch) {A : Nat → Prop} {ad : Nat → Nat} {S : St} {D : va_G} {dA : Nat → ClassId} {H : Heap} (hG : GW D dA A ad S H) (hI : Inv S) {d : Int32} : Met l y_GR_hint (wd y_GR_hint b_GR_hint 3 (some .int)) ({ frames := 1, cells := 0, slots := 0, locals := 21 } : Room) (va_Pc [.ref (ad 0), .int d] (PX D dA H)) (QI (fun rr => rr = S.hintV d) (fun H1 => GW D dA A ad (S.hintS d) H1) A) 0 0 A := by
  refine mkMet (by decide) (Nat.le_of_ble_eq_true rfl) ?_
  intro p e s m below meth c ls hC hr hlk hnm hl hH
  have hl : lv_has ls 3 [(0, .ref (ad 0)), (1, .int d)] := hl
  have hGW := hG
  obtain ⟨sf, kf, L, hG⟩ := hG
  obtain ⟨hP, hD, hst, hkp⟩ := id hG
  obtain ⟨hnr, hn, hcur, hnc, hnk, hWE, hrow, hkr, hcl, hdj⟩ := id hI
  have hS : va_S A H H [] := va_S.rf
  refine lv_aload_n (pc := 0) hC.x hC.b d_GR_hint_0 rfl (lv_at hl 0 rfl) ?_
  refine fg_GR_57 (pc := 1) hC hP 0 rfl rfl d_GR_hint_1 ?_
  refine lv_aload_n (pc := 4) hC.x hC.b d_GR_hint_4 rfl (lv_at hl 0 rfl) ?_
  refine fg_GR_40 (pc := 5) hC hP 0 rfl rfl d_GR_hint_5 ?_
  refine ni_eq (pc := 8) (tgt := 21) hC d_GR_hint_8 (by decide) (by omega) (by omega) (fun c_8 => ?_) (fun c_8 => ?_)
  · refine lv_iconst (pc := 21) (v := (-1)) hC.x hC.b d_GR_hint_21 (by decide) ?_
    exact wr_i (pc := 22) hC hr hlk (by rw [hH]; exact hS) d_GR_hint_22 (if_pos (Or.inl c_8)).symm (by rw [show S.hintS d = S from if_pos (Or.inl c_8)]; exact hGW)
  refine lv_iload_n (pc := 11) hC.x hC.b d_GR_hint_11 rfl (lv_at hl 1 rfl) ?_
  refine lv_iconst (pc := 12) (v := 1) hC.x hC.b d_GR_hint_12 (by decide) ?_
  refine lv_icmp_lt (pc := 13) (tgt := 21) hC.x hC.b d_GR_hint_13 (by decide) (fun c_13 => ?_) (fun c_13 => ?_)
  · refine lv_iconst (pc := 21) (v := (-1)) hC.x hC.b d_GR_hint_21 (by decide) ?_
    exact wr_i (pc := 22) hC hr hlk (by rw [hH]; exact hS) d_GR_hint_22 (if_pos (Or.inr (Or.inl c_13))).symm (by rw [show S.hintS d = S from if_pos (Or.inr (Or.inl c_13))]; exact hGW)
  refine lv_iload_n (pc := 16) hC.x hC.b d_GR_hint_16 rfl (lv_at hl 1 rfl) ?_
  refine lv_iconst (pc := 17) (v := 4) hC.x hC.b d_GR_hint_17 (by decide) ?_
  refine lv_icmp_le (pc := 18) (tgt := 23) hC.x hC.b d_GR_hint_18 (by decide) (fun c_18 => ?_) (fun c_18 => ?_)
  · have hno : ¬ S.hintC d := (fun h => h.elim c_8 (fun h => h.elim c_13 (Int32.not_lt.mpr c_18)))
    have hd : d = 1 ∨ d = 2 ∨ d = 3 ∨ d = 4 := by
      have h1 := Int32.not_lt.mp c_13
      have h4 := c_18
      rw [Int32.le_iff_toInt_le] at h1 h4
      have e1 : (1 : Int32).toInt = 1 := by decide
      have e4 : (4 : Int32).toInt = 4 := by decide
      have e2 : (2 : Int32).toInt = 2 := by decide
      have e3 : (3 : Int32).toInt = 3 := by decide
      simp only [← Int32.toInt_inj]
      omega
    refine lv_aload_n (pc := 23) hC.x hC.b d_GR_hint_23 rfl (lv_at hl 0 rfl) ?_
    refine fg_GR_18 (pc := 24) hC hP 0 rfl rfl d_GR_hint_24 ?_
    refine lv_aload_n (pc := 27) hC.x hC.b d_GR_hint_27 rfl (lv_at hl 0 rfl) ?_
    refine fg_GR_57 (pc := 28) hC hP 0 rfl rfl d_GR_hint_28 ?_
    obtain ⟨a, ha, hs⟩ := hst (S.cur) (by omega)
    refine ald_q (pc := 31) (t0 := 3) hC hP 3 (S.cur) rfl rfl rfl (by omega) (by decide) ha d_GR_hint_31 ?_
    refine lv_iload_n (pc := 32) hC.x hC.b d_GR_hint_32 rfl (lv_at hl 1 rfl) ?_
    refine k_GR_111_GS_hint (pc := 33) hC hP hs hd hl.1 (Nat.le_of_ble_eq_true rfl) ⟨Nat.le_of_ble_eq_true rfl, Nat.le_of_ble_eq_true rfl⟩ ⟨Nat.zero_le _, Nat.zero_le _⟩ d_GR_hint_33 ?_
    refine lv_istore_n (pc := 36) (lv' := [(2, .int (hnt (S.row S.cur) d)), (0, .ref (ad 0)), (1, .int d)]) hC.x hC.b d_GR_hint_36 rfl hl (by decide) rfl (fun ls hl => ?_)
    refine lv_iload_n (pc := 37) hC.x hC.b d_GR_hint_37 rfl (lv_at hl 2 rfl) ?_
    refine lv_iconst (pc := 38) (v := 4) hC.x hC.b d_GR_hint_38 (by decide) ?_
    refine lv_icmp_ne (pc := 39) (tgt := 52) hC.x hC.b d_GR_hint_39 (by decide) (fun c_39 => ?_) (fun c_39 => ?_)
    · refine lv_iload_n (pc := 52) hC.x hC.b d_GR_hint_52 rfl (lv_at hl 0 rfl) ?_
      exact wr_i (pc := 53) hC hr hlk (by rw [hH]; exact hS) d_GR_hint_53 (if_neg hno).symm (by rw [show S.hintS d = S from (if_neg hno).trans (if_neg c_39)]; exact hGW)
    refine lv_aload_n (pc := 42) hC.x hC.b d_GR_hint_42 rfl (lv_at hl 1 rfl) ?_
    refine lv_dup (pc := 43) hC.x hC.b d_GR_hint_43 rfl ?_
    refine fg_GR_57 (pc := 44) hC hP 0 rfl rfl d_GR_hint_44 ?_
    refine lv_iconst (pc := 47) (v := 1) hC.x hC.b d_GR_hint_47 (by decide) ?_
    refine lv_iadd (pc := 48) hC.x hC.b d_GR_hint_48 ?_
    refine tp_i (y := nI (S.cur + 1)) (nI_1 _) ?_
    refine fp_GR_57 (pc := 49) hC hP hD hS 0 rfl (Nat.le_of_ble_eq_true rfl) d_GR_hint_49 (fun H1 locs hP hD hS => ?_)
    refine lv_iload_n (pc := 52) hC.x hC.b d_GR_hint_52 rfl (lv_at hl 0 rfl) ?_
    have hP : va_P D classes (gx dA ad ((S.1, S.2.1, S.cur + 1, S.2.2.2)) sf kf ++ L) H1 := hP
    have hD : va_D A (gx dA ad ((S.1, S.2.1, S.cur + 1, S.2.2.2)) sf kf ++ L) := hD
    exact wr_i (pc := 53) hC hr hlk (by rw [hH]; exact hS) d_GR_hint_53 (if_neg hno).symm (by rw [show S.hintS d = (S.1, S.2.1, S.cur + 1, S.2.2.2) from (if_neg hno).trans (if_pos c_39)]; exact ⟨sf, kf, L, hP, hD, hst, hkp⟩)
  refine lv_iconst (pc := 21) (v := (-1)) hC.x hC.b d_GR_hint_21 (by decide) ?_
  exact wr_i (pc := 22) hC hr hlk (by rw [hH]; exact hS) d_GR_hint_22 (if_pos (Or.inr (Or.inr (Int32.not_le.mp c_18)))).symm (by rw [show S.hintS d = S from if_pos (Or.inr (Or.inr (Int32.not_le.mp c_18)))]; exact hGW)
set_option maxHeartbeats 4000000 in
set_option maxRecDepth 100000 in
theorem c_GR_cls (l : Launch) {A : Nat → Prop} {ad : Nat → Nat} {S : St} {D : va_G} {dA : Nat → ClassId} {H : Heap} (hG : GW D dA A ad S H) (hI : Inv S) {v z : Int64} : Met l y_GR_cls (wd y_GR_cls b_GR_cls 6 (some .int)) ({ frames := 0, cells := 0, slots := 0, locals := 0 } : Room) (va_Pc [.ref (ad 0), .long v, .long z] (PX D dA H)) (QI (fun rr => rr = S.clsV v z) (fun H1 => GW D dA A ad (S.clsS v z) H1) A) 0 0 A := by
  refine mkMet (by decide) (Nat.le_of_ble_eq_true rfl) ?_
  intro p e s m below meth c ls hC hr hlk hnm hl hH
  have hl : lv_has ls 6 [(0, .ref (ad 0)), (1, .long v), (3, .long z)] := hl
  have hGW := hG
  obtain ⟨sf, kf, L, hG⟩ := hG
  obtain ⟨hP, hD, hst, hkp⟩ := id hG
  obtain ⟨hnr, hn, hcur, hnc, hnk, hWE, hrow, hkr, hcl, hdj⟩ := id hI
  have hS : va_S A H H [] := va_S.rf
  refine lv_lload_n (pc := 0) hC.x hC.b d_GR_cls_0 rfl (lv_at hl 1 rfl) ?_
  refine lv_lconst (pc := 1) (v := 0) hC.x hC.b d_GR_cls_1 (by decide) ?_
  refine lc_lt (pc := 2) (tgt := 29) hC d_GR_cls_2 d_GR_cls_3 (by decide) (fun c_2 => ?_) (fun c_2 => ?_)
  · refine lv_iconst (pc := 29) (v := (-1)) hC.x hC.b d_GR_cls_29 (by decide) ?_
    exact wr_i (pc := 30) hC hr hlk (by rw [hH]; exact hS) d_GR_cls_30 (if_pos (Or.inl c_2)).symm (by rw [show S.clsS v z = S from if_pos (Or.inl c_2)]; exact hGW)
  refine lv_lload_n (pc := 6) hC.x hC.b d_GR_cls_6 rfl (lv_at hl 2 rfl) ?_
  refine lv_lload_n (pc := 7) hC.x hC.b d_GR_cls_7 rfl (lv_at hl 1 rfl) ?_
  refine lc_lt (pc := 8) (tgt := 29) hC d_GR_cls_8 d_GR_cls_9 (by decide) (fun c_8 => ?_) (fun c_8 => ?_)
  · refine lv_iconst (pc := 29) (v := (-1)) hC.x hC.b d_GR_cls_29 (by decide) ?_
    exact wr_i (pc := 30) hC hr hlk (by rw [hH]; exact hS) d_GR_cls_30 (if_pos (Or.inr (Or.inl c_8))).symm (by rw [show S.clsS v z = S from if_pos (Or.inr (Or.inl c_8))]; exact hGW)
  refine lv_lload_n (pc := 12) hC.x hC.b d_GR_cls_12 rfl (lv_at hl 2 rfl) ?_
  refine lv_ldc2 (pc := 13) hC.x hC.b hC.o (hC.t _ tw_152) d_GR_cls_13 ?_
  refine lc_gt (pc := 16) (tgt := 29) hC d_GR_cls_16 d_GR_cls_17 (by decide) (fun c_16 => ?_) (fun c_16 => ?_)
  · refine lv_iconst (pc := 29) (v := (-1)) hC.x hC.b d_GR_cls_29 (by decide) ?_
    exact wr_i (pc := 30) hC hr hlk (by rw [hH]; exact hS) d_GR_cls_30 (if_pos (Or.inr (Or.inr (Or.inl c_16)))).symm (by rw [show S.clsS v z = S from if_pos (Or.inr (Or.inr (Or.inl c_16)))]; exact hGW)
  refine lv_aload_n (pc := 20) hC.x hC.b d_GR_cls_20 rfl (lv_at hl 0 rfl) ?_
  refine fg_GR_78 (pc := 21) hC hP 0 rfl rfl d_GR_cls_21 ?_
  refine lv_bipush (pc := 24) (v := nI 20) hC.x hC.b d_GR_cls_24 (by decide) ?_
  refine ni_ne (pc := 26) (tgt := 31) hC d_GR_cls_26 (by decide) (by omega) (by omega) (fun c_26 => ?_) (fun c_26 => ?_)
  · refine lv_iconst (pc := 31) (v := nI 0) hC.x hC.b d_GR_cls_31 (by decide) ?_
    refine lv_istore (pc := 32) (lv' := [(5, .int (nI 0)), (0, .ref (ad 0)), (1, .long v), (3, .long z)]) hC.x hC.b d_GR_cls_32 hl (by decide) rfl (fun ls hl => ?_)
    refine lpW (pc := 34) (I := fun j ls => lv_has ls 6 [(5, .int (nI j)), (0, .ref (ad 0)), (1, .long v), (3, .long z)] ∧ (∀ i, i < j → ¬ (v ≤ S.hi i ∧ S.lo i ≤ z))) (S.nc) ?_ ?_ (0) (Nat.zero_le _) ⟨(lv_sub hl [0, 1, 2, 3] rfl), fun _ h => absurd h (Nat.not_lt_zero _)⟩
    · intro ls hI
      obtain ⟨hl, hv⟩ := hI
      refine lv_iload (pc := 34) hC.x hC.b d_GR_cls_34 (lv_at hl 0 rfl) ?_
      refine lv_aload_n (pc := 36) hC.x hC.b d_GR_cls_36 rfl (lv_at hl 1 rfl) ?_
      refine fg_GR_78 (pc := 37) hC hP 0 rfl rfl d_GR_cls_37 ?_
      refine ni_ge (pc := 40) (tgt := 75) hC d_GR_cls_40 (by decide) (by omega) (by omega) (fun c_40 => ?_) (fun c_40 => ?_)
      · have hno : ¬ S.clsC v z := (fun h => h.elim c_2 (fun h => h.elim c_8 (fun h => h.elim c_16 (fun h => h.elim c_26 (absurd hv)))))
        refine lv_aload_n (pc := 75) hC.x hC.b d_GR_cls_75 rfl (lv_at hl 1 rfl) ?_
        refine fg_GR_22 (pc := 76) hC hP 0 rfl rfl d_GR_cls_76 ?_
        refine lv_aload_n (pc := 79) hC.x hC.b d_GR_cls_79 rfl (lv_at hl 1 rfl) ?_
        refine fg_GR_78 (pc := 80) hC hP 0 rfl rfl d_GR_cls_80 ?_
        refine lv_lload_n (pc := 83) hC.x hC.b d_GR_cls_83 rfl (lv_at hl 2 rfl) ?_
        refine ast_l (pc := 84) hC hP hD hS 4 (S.nc) rfl rfl (by omega) (by decide) d_GR_cls_84 (fun H1 locs hP hD hS => ?_)
        refine lv_aload_n (pc := 85) hC.x hC.b d_GR_cls_85 rfl (lv_at hl 1 rfl) ?_
        refine fg_GR_26 (pc := 86) hC hP 0 rfl rfl d_GR_cls_86 ?_
        refine lv_aload_n (pc := 89) hC.x hC.b d_GR_cls_89 rfl (lv_at hl 1 rfl) ?_
        refine fg_GR_78 (pc := 90) hC hP 0 rfl rfl d_GR_cls_90 ?_
        refine lv_lload_n (pc := 93) hC.x hC.b d_GR_cls_93 rfl (lv_at hl 3 rfl) ?_
        refine ast_l (pc := 94) hC hP hD hS 5 (S.nc) rfl rfl (by omega) (by decide) d_GR_cls_94 (fun H2 locs hP hD hS => ?_)
        refine lv_aload_n (pc := 95) hC.x hC.b d_GR_cls_95 rfl (lv_at hl 1 rfl) ?_
        refine lv_dup (pc := 96) hC.x hC.b d_GR_cls_96 rfl ?_
        refine fg_GR_78 (pc := 97) hC hP 0 rfl rfl d_GR_cls_97 ?_
        refine lv_iconst (pc := 100) (v := 1) hC.x hC.b d_GR_cls_100 (by decide) ?_
        refine lv_iadd (pc := 101) hC.x hC.b d_GR_cls_101 ?_
        refine tp_i (y := nI (S.nc + 1)) (nI_1 _) ?_
        refine fp_GR_78 (pc := 102) hC hP hD hS 0 rfl (Nat.le_of_ble_eq_true rfl) d_GR_cls_102 (fun H3 locs hP hD hS => ?_)
        refine lv_aload_n (pc := 105) hC.x hC.b d_GR_cls_105 rfl (lv_at hl 1 rfl) ?_
        refine fg_GR_78 (pc := 106) hC hP 0 rfl rfl d_GR_cls_106 ?_
        refine lv_iconst (pc := 109) (v := 1) hC.x hC.b d_GR_cls_109 (by decide) ?_
        refine lv_isub (pc := 110) hC.x hC.b d_GR_cls_110 ?_
        refine tp_i (y := nI S.nc) (nI_pred _) ?_
        have hP : va_P D classes (gx dA ad ((S.1, S.2.1, S.cur, (S.nc + 1, vp_updL S.lo S.nc v, vp_updL S.hi S.nc z), S.2.2.2.2)) sf kf ++ L) H3 := hP
        have hD : va_D A (gx dA ad ((S.1, S.2.1, S.cur, (S.nc + 1, vp_updL S.lo S.nc v, vp_updL S.hi S.nc z), S.2.2.2.2)) sf kf ++ L) := hD
        exact wr_i (pc := 111) hC hr hlk (by rw [hH]; exact hS) d_GR_cls_111 (if_neg hno).symm (by rw [show S.clsS v z = (S.1, S.2.1, S.cur, (S.nc + 1, vp_updL S.lo S.nc v, vp_updL S.hi S.nc z), S.2.2.2.2) from if_neg hno]; exact ⟨sf, kf, L, hP, hD, hst, hkp⟩)
      · exact absurd c_40 (Nat.lt_irrefl _)
    · intro j ls hj hI ih
      obtain ⟨hl, hv⟩ := hI
      refine lv_iload (pc := 34) hC.x hC.b d_GR_cls_34 (lv_at hl 0 rfl) ?_
      refine lv_aload_n (pc := 36) hC.x hC.b d_GR_cls_36 rfl (lv_at hl 1 rfl) ?_
      refine fg_GR_78 (pc := 37) hC hP 0 rfl rfl d_GR_cls_37 ?_
      refine ni_ge (pc := 40) (tgt := 75) hC d_GR_cls_40 (by decide) (by omega) (by omega) (fun c_40 => ?_) (fun c_40 => ?_)
      · exact absurd c_40 (by omega)
      refine lv_lload_n (pc := 43) hC.x hC.b d_GR_cls_43 rfl (lv_at hl 2 rfl) ?_
      refine lv_aload_n (pc := 44) hC.x hC.b d_GR_cls_44 rfl (lv_at hl 1 rfl) ?_
      refine fg_GR_26 (pc := 45) hC hP 0 rfl rfl d_GR_cls_45 ?_
      refine lv_iload (pc := 48) hC.x hC.b d_GR_cls_48 (lv_at hl 0 rfl) ?_
      refine ald_l (pc := 50) hC hP 5 (j) rfl rfl (by omega) (by decide) d_GR_cls_50 ?_
      refine lc_gt (pc := 51) (tgt := 69) hC d_GR_cls_51 d_GR_cls_52 (by decide) (fun c_51 => ?_) (fun c_51 => ?_)
      · refine lv_iinc (pc := 69) (v := nI (j + 1)) (lv' := [(5, .int (nI (j + 1))), (0, .ref (ad 0)), (1, .long v), (3, .long z)]) hC.x hC.b d_GR_cls_69 hl (k := 0) rfl (nI_1 _) (by decide) rfl (fun ls hl => ?_)
        refine lv_goto (pc := 72) (tgt := 34) hC.x hC.b d_GR_cls_72 (by decide) ?_
        exact ih ls ⟨(lv_sub hl [0, 1, 2, 3] rfl), fun i hi => if e1 : i = j then e1 ▸ (fun y => Int64.not_le.mpr c_51 y.1) else hv i (by omega)⟩
      refine lv_lload_n (pc := 55) hC.x hC.b d_GR_cls_55 rfl (lv_at hl 3 rfl) ?_
      refine lv_aload_n (pc := 56) hC.x hC.b d_GR_cls_56 rfl (lv_at hl 1 rfl) ?_
      refine fg_GR_22 (pc := 57) hC hP 0 rfl rfl d_GR_cls_57 ?_
      refine lv_iload (pc := 60) hC.x hC.b d_GR_cls_60 (lv_at hl 0 rfl) ?_
      refine ald_l (pc := 62) hC hP 4 (j) rfl rfl (by omega) (by decide) d_GR_cls_62 ?_
      refine lc_lt (pc := 63) (tgt := 69) hC d_GR_cls_63 d_GR_cls_64 (by decide) (fun c_63 => ?_) (fun c_63 => ?_)
      · refine lv_iinc (pc := 69) (v := nI (j + 1)) (lv' := [(5, .int (nI (j + 1))), (0, .ref (ad 0)), (1, .long v), (3, .long z)]) hC.x hC.b d_GR_cls_69 hl (k := 0) rfl (nI_1 _) (by decide) rfl (fun ls hl => ?_)
        refine lv_goto (pc := 72) (tgt := 34) hC.x hC.b d_GR_cls_72 (by decide) ?_
        exact ih ls ⟨(lv_sub hl [0, 1, 2, 3] rfl), fun i hi => if e1 : i = j then e1 ▸ (fun y => Int64.not_le.mpr c_63 y.2) else hv i (by omega)⟩
      refine lv_iconst (pc := 67) (v := (-1)) hC.x hC.b d_GR_cls_67 (by decide) ?_
      exact wr_i (pc := 68) hC hr hlk (by rw [hH]; exact hS) d_GR_cls_68 (if_pos (Or.inr (Or.inr (Or.inr (Or.inr (fun y => y j hj ⟨Int64.not_lt.mp c_51, Int64.not_lt.mp c_63⟩)))))).symm (by rw [show S.clsS v z = S from if_pos (Or.inr (Or.inr (Or.inr (Or.inr (fun y => y j hj ⟨Int64.not_lt.mp c_51, Int64.not_lt.mp c_63⟩)))))]; exact hGW)
  refine lv_iconst (pc := 29) (v := (-1)) hC.x hC.b d_GR_cls_29 (by decide) ?_
  exact wr_i (pc := 30) hC hr hlk (by rw [hH]; exact hS) d_GR_cls_30 (if_pos (Or.inr (Or.inr (Or.inr (Or.inl c_26))))).symm (by rw [show S.clsS v z = S from if_pos (Or.inr (Or.inr (Or.inr (Or.inl c_26))))]; exact hGW)
end GRWR
end
section
section GRROWS
variable {p : Program} {e : Env} {R : Room} {s : State} {m : MethodId} {args : Array Value} {below : List Frame} {meth : Method} {c : Code} {locs : List Loc} {cells slots : Nat} {Q : State → Prop}
variable {cc : ByteArray} {pc nL : Nat} {ls : Array Slot} {rest : List Value} {own : String} {l : Launch} {D : va_G} {dA : Nat → ClassId} {A : Nat → Prop} {H H0 : Heap} {S : St} {ad md : Nat → Nat}
/-- c is put at place i of f0's first k places -/
def InsAt {α : Type} (f f0 : Nat → α) (c : α) (i k : Nat) : Prop := (∀ j, j < i → f j = f0 j) ∧ f i = c ∧ ∀ j, i ≤ j → j < k → f (j + 1) = f0 j
theorem ins_cnt {α : Type} [DecidableEq α] {f f0 : Nat → α} {c v : α} {i : Nat} : ∀ k, i ≤ k → InsAt f f0 c i k → cnt (fun j => f j = v) (k + 1) = cnt (fun j => f0 j = v) k + (if c = v then 1 else 0) := by
  have base : ∀ k, InsAt f f0 c k k → cnt (fun j => f j = v) (k + 1) = cnt (fun j => f0 j = v) k + (if c = v then 1 else 0) := by
    intro k h
    show cnt (fun j => f j = v) k + (if f k = v then 1 else 0) = _
    rw [h.2.1, cnt_congr (P' := fun j => f0 j = v) k (fun j hj => by rw [h.1 j hj])]
  intro k
  induction k with
  | zero => intro hi h; have : i = 0 := by omega
            subst this; exact base 0 h
  | succ k ih =>
    intro hi h
    by_cases hz : i = k + 1
    · subst hz; exact base (k + 1) h
    · have h2 := ih (by omega) ⟨h.1, h.2.1, fun j a b => h.2.2 j a (by omega)⟩
      show cnt (fun j => f j = v) (k + 1) + (if f (k + 1) = v then 1 else 0) = cnt (fun j => f0 j = v) k + (if f0 k = v then 1 else 0) + _
      rw [h2, h.2.2 k (by omega) (by omega)]
      omega
theorem ins_ord {α : Type} {le : α → α → Prop} (tr : ∀ a b c, le a b → le b c → le a c) {f f0 : Nat → α} {c : α} {i k : Nat} (hs : ∀ a b, a < b → b < k → le (f0 a) (f0 b)) (hi : i ≤ k) (hf : InsAt f f0 c i k) (hgt : ∀ j, i ≤ j → j < k → le c (f0 j)) (hle : 0 < i → le (f0 (i - 1)) c) : ∀ a b, a < b → b < k + 1 → le (f a) (f b) := by
  have hle2 : ∀ j, j < i → le (f0 j) c := by
    intro j hj
    by_cases hz : j = i - 1
    · subst hz; exact hle (by omega)
    · exact tr _ _ _ (hs j (i - 1) (by omega) (by omega)) (hle (by omega))
  intro a b hab hb
  obtain ⟨h1, h2, h3⟩ := hf
  by_cases a1 : a < i
  · rw [h1 a a1]
    by_cases b1 : b < i
    · rw [h1 b b1]; exact hs a b hab (by omega)
    · by_cases b2 : b = i
      · subst b2; rw [h2]; exact hle2 a a1
      · obtain ⟨q, rfl⟩ : ∃ q, b = q + 1 := ⟨b - 1, by omega⟩
        rw [h3 q (by omega) (by omega)]; exact hs a q (by omega) (by omega)
  · by_cases a2 : a = i
    · subst a2
      obtain ⟨q, rfl⟩ : ∃ q, b = q + 1 := ⟨b - 1, by omega⟩
      rw [h2, h3 q (by omega) (by omega)]; exact hgt q (by omega) (by omega)
    · obtain ⟨q, rfl⟩ : ∃ q, b = q + 1 := ⟨b - 1, by omega⟩
      obtain ⟨u, rfl⟩ : ∃ u, a = u + 1 := ⟨a - 1, by omega⟩
      rw [h3 q (by omega) (by omega), h3 u (by omega) (by omega)]; exact hs u q (by omega) (by omega)
theorem ins_SD {f f0 C : Nat → Int64} {c : Int64} {i k : Nat} (h : SD f0 C k) (hi : i ≤ k) (hf : InsAt f f0 c i k) (hgt : ∀ j, i ≤ j → j < k → f0 j < c) (hle : 0 < i → c ≤ f0 (i - 1)) (hc : C k = c) : SD f C (k + 1) :=
  ⟨ins_ord (le := fun a b => b ≤ a) (fun _ _ _ h1 h2 => Int64.le_trans h2 h1) h.1 hi hf (fun j a b => Int64.le_of_lt (hgt j a b)) hle, fun v => by rw [ins_cnt k hi hf, h.2 v]; show _ = cnt _ k + (if C k = v then 1 else 0); rw [hc]⟩
theorem ins_SU {f f0 C : Nat → Int32} {c : Int32} {i k : Nat} (h : SU f0 C k) (hi : i ≤ k) (hf : InsAt f f0 c i k) (hgt : ∀ j, i ≤ j → j < k → c < f0 j) (hle : 0 < i → f0 (i - 1) ≤ c) (hc : C k = c) : SU f C (k + 1) :=
  ⟨ins_ord (le := fun a b => a ≤ b) (fun _ _ _ h1 h2 => Int32.le_trans h1 h2) h.1 hi hf (fun j a b => Int32.le_of_lt (hgt j a b)) hle, fun v => by rw [ins_cnt k hi hf, h.2 v]; show _ = cnt _ k + (if C k = v then 1 else 0); rw [hc]⟩
theorem SD_0 (f C : Nat → Int64) : SD f C 0 := ⟨fun _ _ _ h => absurd h (Nat.not_lt_zero _), fun _ => rfl⟩
theorem SU_0 (f C : Nat → Int32) : SU f C 0 := ⟨fun _ _ _ h => absurd h (Nat.not_lt_zero _), fun _ => rfl⟩
theorem uL_s {f : Nat → Int64} {k : Nat} {x : Int64} : vp_updL f k x k = x := if_pos rfl
theorem uL_n {f : Nat → Int64} {k j : Nat} {x : Int64} (h : j ≠ k) : vp_updL f k x j = f j := if_neg h
/-- the inner loop's picture: f is f0 with a place free at i -/
def Gap1 {α : Type} (f f0 : Nat → α) (i k : Nat) : Prop := (∀ j, j < i → f j = f0 j) ∧ ∀ j, i ≤ j → j < k → f (j + 1) = f0 j
theorem gap_insL {f f0 : Nat → Int64} {c : Int64} {i k : Nat} (h : Gap1 f f0 i k) : InsAt (vp_updL f i c) f0 c i k :=
  ⟨fun j hj => by rw [uL_n (by omega)]; exact h.1 j hj, uL_s, fun j a b => by rw [uL_n (by omega)]; exact h.2 j a b⟩
theorem gap_insI {f f0 : Nat → Int32} {c : Int32} {i k : Nat} (h : Gap1 f f0 i k) : InsAt (upd f i c) f0 c i k :=
  ⟨fun j hj => by rw [upd_n (by omega)]; exact h.1 j hj, upd_s, fun j a b => by rw [upd_n (by omega)]; exact h.2 j a b⟩
theorem gap_dnL {f f0 : Nat → Int64} {i k : Nat} (h : Gap1 f f0 i k) (hi : 0 < i) : Gap1 (vp_updL f i (f (i - 1))) f0 (i - 1) k :=
  ⟨fun j hj => by rw [uL_n (by omega)]; exact h.1 j (by omega), fun j a b => by
    by_cases hz : j = i - 1
    · subst hz; rw [show i - 1 + 1 = i by omega, uL_s]; exact h.1 _ (by omega)
    · rw [uL_n (by omega)]; exact h.2 j (by omega) b⟩
theorem gap_dnI {f f0 : Nat → Int32} {i k : Nat} (h : Gap1 f f0 i k) (hi : 0 < i) : Gap1 (upd f i (f (i - 1))) f0 (i - 1) k :=
  ⟨fun j hj => by rw [upd_n (by omega)]; exact h.1 j (by omega), fun j a b => by
    by_cases hz : j = i - 1
    · subst hz; rw [show i - 1 + 1 = i by omega, upd_s]; exact h.1 _ (by omega)
    · rw [upd_n (by omega)]; exact h.2 j (by omega) b⟩
theorem nI_m1 {i : Nat} (h : 0 < i) : nI i + Int32.ofInt (-1) = nI (i - 1) := by
  obtain ⟨j, rfl⟩ : ∃ j, i = j + 1 := ⟨i - 1, by omega⟩
  exact pk_m1 j
theorem at_m {α : Type} {X L M : List α} {x : α} : (X ++ ((L ++ [x]) ++ M))[X.length + L.length]? = some x := by
  rw [List.getElem?_append_right (by omega), show X.length + L.length - X.length = L.length by omega, List.append_assoc, List.getElem?_append_right (Nat.le_refl _), Nat.sub_self]
  rfl
theorem set_m {α : Type} {X L M : List α} {x y : α} : (X ++ ((L ++ [x]) ++ M)).set (X.length + L.length) y = X ++ ((L ++ [y]) ++ M) := by
  rw [List.set_append_right _ _ (by omega), show X.length + L.length - X.length = L.length by omega, List.append_assoc, List.set_append_right _ _ (Nat.le_refl _), Nat.sub_self, List.append_assoc]
  rfl
theorem at_e {α : Type} {X L : List α} {x : α} : (X ++ (L ++ [x]))[X.length + L.length]? = some x := by
  have h := at_m (X := X) (L := L) (M := []) (x := x)
  rwa [List.append_nil] at h
theorem set_e {α : Type} {X L : List α} {x y : α} : (X ++ (L ++ [x])).set (X.length + L.length) y = X ++ (L ++ [y]) := by
  have h := set_m (X := X) (L := L) (M := []) (x := x) (y := y)
  rwa [List.append_nil, List.append_nil] at h
/-- what a compare of longs, of ints answers -/
def l3 (a b : Int64) : Int32 := if a < b then -1 else if b < a then 1 else 0
def i3 (a b : Nat) : Int32 := if a < b then -1 else if b < a then 1 else 0
theorem l3_0 {a b : Int64} (h : l3 a b = 0) : a = b := by
  unfold l3 at h
  by_cases h1 : a < b
  · rw [if_pos h1] at h; exact absurd h (by decide)
  · rw [if_neg h1] at h
    by_cases h2 : b < a
    · rw [if_pos h2] at h; exact absurd h (by decide)
    · exact Int64.le_antisymm (Int64.not_lt.mp h2) (Int64.not_lt.mp h1)
theorem i3_0 {a b : Nat} (h : i3 a b = 0) : a = b := by
  unfold i3 at h
  by_cases h1 : a < b
  · rw [if_pos h1] at h; exact absurd h (by decide)
  · rw [if_neg h1] at h
    by_cases h2 : b < a
    · rw [if_pos h2] at h; exact absurd h (by decide)
    · omega
def cl (f g : Nat → Int64) : Nat → Nat → Int32 → Int32
  | 0, _, c => c
  | d + 1, k, c => if c = 0 then cl f g d (k + 1) (l3 (f k) (g k)) else c
theorem cl_go {f g : Nat → Int64} {d k : Nat} : cl f g (d + 1) k 0 = cl f g d (k + 1) (l3 (f k) (g k)) := if_pos rfl
theorem cl_ne {f g : Nat → Int64} {d k : Nat} {c : Int32} (h : c ≠ 0) : cl f g d k c = c := by
  cases d with
  | zero => rfl
  | succ d => exact if_neg h
def cm1 (u v : Int64) (n n' : Nat) : Int32 := if l3 u v = 0 then i3 n n' else l3 u v
def St.cmpX (S : St) (x r : Int32) : Prop := ((x < 0 ∨ nI S.nk ≤ x) ∧ r = -2) ∨ ∃ j, j < S.nk ∧ x = nI j ∧ ∃ f g : Nat → Int64, SD f S.cost S.n ∧ SD g (cst S.W S.E (S.kr j)) (S.ks j) ∧ r = cl f g S.n 0 (cm1 (S.sum S.n) (sm S.W S.E (S.kr j) (S.ks j)) S.n (S.ks j))
def St.sameX (S : St) (x r : Int32) : Prop := ((x < 0 ∨ nI S.nk ≤ x) ∧ r = 0) ∨ ∃ j, j < S.nk ∧ x = nI j ∧ ((S.ks j ≠ S.n ∧ r = 0) ∨ (S.ks j = S.n ∧ ∃ f g : Nat → Int32, SU f (fun k => cde (S.row k)) S.n ∧ SU g (fun k => cde (S.kr j k)) (S.ks j) ∧ r = if ∀ k, k < S.n → f k = g k then 1 else 0))
def updN (f : Nat → Nat) (k x : Nat) : Nat → Nat := fun j => if j = k then x else f j
def updR (f : Nat → Nat → T3) (k : Nat) (x : Nat → T3) : Nat → Nat → T3 := fun j => if j = k then x else f j
def St.keepV (S : St) : Int32 := if S.nk = 10 then -1 else nI S.nk
def St.keepS (S : St) : St := if S.nk = 10 then S else (S.1, S.2.1, S.cur, S.2.2.2.1, (S.nk + 1, updN S.ks S.nk S.n, updR S.kr S.nk S.row))
def S0 : St := ((0, fun _ => 0, fun _ => 0), (0, fun _ => (0, 0, 0)), 0, (0, fun _ => 0, fun _ => 0), (0, fun _ => 0, fun _ _ => (0, 0, 0)))
theorem newa_i {N : Nat} {ws : va_W} (hC : CX p m c cc nL s args own D dA) (hP : va_P D classes ws H) (hD : va_D A ws) (hS : va_S A H0 H locs) (hA : ∀ q, H0.size ≤ q → A q) (hN : N ≤ 100000) (hcells : cells + 1 ≤ R.cells) (hslots : slots + N ≤ R.slots) (hdg : decode cc pc = .ok (.newarray .int, 2))
    (kk : ∀ (q : Nat) (H1 : Heap), va_P D classes (ws ++ [(q, .inl (dA 0, N, .inl (fun _ => 0)))]) H1 → va_D A (ws ++ [(q, .inl (dA 0, N, .inl (fun _ => 0)))]) → va_S A H0 H1 locs → W p l e R s m args below meth c H1 locs (cells + 1) (slots + N) Q (F0 m (pc + 2) ls (.ref q :: rest))) : W p l e R s m args below meth c H locs cells slots Q (F0 m pc ls (.int (nI N) :: rest)) := by
  refine va_newa (atype := .int) (a0 := (N, .inl (fun _ => 0))) hC.x hC.b (hC.t _ tw_60) rfl hC.K hP hD hS hA (fun _ => rfl) (nI_pos (by omega)) (nI_clamp (by omega)) (by show N * 4 ≤ _; omega) hcells hslots hdg (fun q cA H1 hK hP hD hS => ?_)
  have e : cA = dA 0 := Option.some.inj ((hK.2 5 _ rfl).2.symm.trans (hC.K.2 0 _ rfl).2)
  subst e
  exact kk q H1 hP hD hS
theorem newa_l {N : Nat} {ws : va_W} (hC : CX p m c cc nL s args own D dA) (hP : va_P D classes ws H) (hD : va_D A ws) (hS : va_S A H0 H locs) (hA : ∀ q, H0.size ≤ q → A q) (hN : N ≤ 100000) (hcells : cells + 1 ≤ R.cells) (hslots : slots + N ≤ R.slots) (hdg : decode cc pc = .ok (.newarray .long, 2))
    (kk : ∀ (q : Nat) (H1 : Heap), va_P D classes (ws ++ [(q, .inl (dA 1, N, .inr (.inl (fun _ => 0))))]) H1 → va_D A (ws ++ [(q, .inl (dA 1, N, .inr (.inl (fun _ => 0))))]) → va_S A H0 H1 locs → W p l e R s m args below meth c H1 locs (cells + 1) (slots + N) Q (F0 m (pc + 2) ls (.ref q :: rest))) : W p l e R s m args below meth c H locs cells slots Q (F0 m pc ls (.int (nI N) :: rest)) := by
  refine va_newa (atype := .long) (a0 := (N, .inr (.inl (fun _ => 0)))) hC.x hC.b (hC.t _ tw_61) rfl hC.K hP hD hS hA (fun _ => rfl) (nI_pos (by omega)) (nI_clamp (by omega)) (by show N * 8 ≤ _; omega) hcells hslots hdg (fun q cA H1 hK hP hD hS => ?_)
  have e : cA = dA 1 := Option.some.inj ((hK.2 5 _ rfl).2.symm.trans (hC.K.2 1 _ rfl).2)
  subst e
  exact kk q H1 hP hD hS
theorem newa_z {N : Nat} {ws : va_W} (hC : CX p m c cc nL s args own D dA) (hP : va_P D classes ws H) (hD : va_D A ws) (hS : va_S A H0 H locs) (hA : ∀ q, H0.size ≤ q → A q) (hN : N ≤ 100000) (hcells : cells + 1 ≤ R.cells) (hslots : slots + N ≤ R.slots) (hdg : decode cc pc = .ok (.newarray .boolean, 2))
    (kk : ∀ (q : Nat) (H1 : Heap), va_P D classes (ws ++ [(q, .inl (dA 2, N, .inl (fun _ => 0)))]) H1 → va_D A (ws ++ [(q, .inl (dA 2, N, .inl (fun _ => 0)))]) → va_S A H0 H1 locs → W p l e R s m args below meth c H1 locs (cells + 1) (slots + N) Q (F0 m (pc + 2) ls (.ref q :: rest))) : W p l e R s m args below meth c H locs cells slots Q (F0 m pc ls (.int (nI N) :: rest)) := by
  refine va_newa (atype := .boolean) (a0 := (N, .inl (fun _ => 0))) hC.x hC.b (hC.t _ tw_342) rfl hC.K hP hD hS hA (fun _ => rfl) (nI_pos (by omega)) (nI_clamp (by omega)) (by show N * 1 ≤ _; omega) hcells hslots hdg (fun q cA H1 hK hP hD hS => ?_)
  have e : cA = dA 2 := Option.some.inj ((hK.2 5 _ rfl).2.symm.trans (hC.K.2 2 _ rfl).2)
  subst e
  exact kk q H1 hP hD hS
theorem newa_s {N idx : Nat} {ws : va_W} (hC : CX p m c cc nL s args own D dA) (hcl : Cond.classLink own idx "GradeRows$Step" ∈ lw_T) (hP : va_P D classes ws H) (hD : va_D A ws) (hS : va_S A H0 H locs) (hA : ∀ q, H0.size ≤ q → A q) (hN : N ≤ 100000) (hcells : cells + 1 ≤ R.cells) (hslots : slots + N ≤ R.slots) (hdg : decode cc pc = .ok (.anewarray idx, 3))
    (kk : ∀ (q : Nat) (H1 : Heap), va_P D classes (ws ++ [(q, .inl (dA 3, N, .inr (.inr (.inr (.inr (fun _ => none))))))]) H1 → va_D A (ws ++ [(q, .inl (dA 3, N, .inr (.inr (.inr (.inr (fun _ => none))))))]) → va_S A H0 H1 locs → W p l e R s m args below meth c H1 locs (cells + 1) (slots + N) Q (F0 m (pc + 3) ls (.ref q :: rest))) : W p l e R s m args below meth c H locs cells slots Q (F0 m pc ls (.int (nI N) :: rest)) := by
  refine va_newq hC.x hC.b hC.o (hC.t _ hcl) hC.2.2.2.1 hC.K hP hD hS hA (nI_pos (by omega)) (nI_clamp (by omega)) (by omega) hcells hslots hdg (fun q cA H1 hK hP hD hS => ?_)
  obtain ⟨_, _, _, _, _, e1⟩ := (hK.2 5 _ rfl).2
  obtain ⟨_, _, _, _, _, e2⟩ := (hC.K.2 3 _ rfl).2
  have e : cA = dA 3 := Option.some.inj (e1.symm.trans e2)
  subst e
  exact kk q H1 hP hD hS
theorem newa_k {N idx : Nat} {ws : va_W} (hC : CX p m c cc nL s args own D dA) (hcl : Cond.classLink own idx "GradeRows$Kept" ∈ lw_T) (hP : va_P D classes ws H) (hD : va_D A ws) (hS : va_S A H0 H locs) (hA : ∀ q, H0.size ≤ q → A q) (hN : N ≤ 100000) (hcells : cells + 1 ≤ R.cells) (hslots : slots + N ≤ R.slots) (hdg : decode cc pc = .ok (.anewarray idx, 3))
    (kk : ∀ (q : Nat) (H1 : Heap), va_P D classes (ws ++ [(q, .inl (dA 4, N, .inr (.inr (.inr (.inr (fun _ => none))))))]) H1 → va_D A (ws ++ [(q, .inl (dA 4, N, .inr (.inr (.inr (.inr (fun _ => none))))))]) → va_S A H0 H1 locs → W p l e R s m args below meth c H1 locs (cells + 1) (slots + N) Q (F0 m (pc + 3) ls (.ref q :: rest))) : W p l e R s m args below meth c H locs cells slots Q (F0 m pc ls (.int (nI N) :: rest)) := by
  refine va_newq hC.x hC.b hC.o (hC.t _ hcl) hC.2.2.2.2 hC.K hP hD hS hA (nI_pos (by omega)) (nI_clamp (by omega)) (by omega) hcells hslots hdg (fun q cA H1 hK hP hD hS => ?_)
  obtain ⟨_, _, _, _, _, e1⟩ := (hK.2 5 _ rfl).2
  obtain ⟨_, _, _, _, _, e2⟩ := (hC.K.2 4 _ rfl).2
  have e : cA = dA 4 := Option.some.inj (e1.symm.trans e2)
  subst e
  exact kk q H1 hP hD hS
theorem alen {a : Nat} {ws : va_W} {cA : ClassId} {x : vp_A} {ty : FieldType} {n : Nat} (hC : CX p m c cc nL s args own D dA) (hP : va_P D classes ws H) (q0 t0 : Nat) (he : ws[q0]? = some (a, .inl (cA, x))) (ht : (tys dA)[t0]? = some (cA, ty)) (hn : x.1 = n) (hdg : decode cc pc = .ok (.arraylength, 1)) (kk : W p l e R s m args below meth c H locs cells slots Q (F0 m (pc + 1) ls (.int (nI n) :: rest))) : W p l e R s m args below meth c H locs cells slots Q (F0 m pc ls (.ref a :: rest)) :=
  va_alen hC.x hC.b hC.K hP q0 t0 he ht (v := nI n) (by rw [hn]; rfl) hdg kk
/-- a kept row goes into the array of kept rows -/
theorem ast_k {a b k n : Nat} {vs : List Value} {kf : Nat → Option Nat} {X Lw : va_W} (hC : CX p m c cc nL s args own D dA) (hP : va_P D classes (X ++ Lw) H) (hD : va_D A (X ++ Lw)) (hS : va_S A H0 H locs) (q0 : Nat) (he : (X ++ Lw)[q0]? = some (a, .inl (dA 4, n, .inr (.inr (.inr (.inr kf)))))) (hk : k < n) (hn : n < 2 ^ 31) (hb : (b, .inr (3, vs)) ∈ Lw) (hdg : decode cc pc = .ok (.aastore, 1))
    (kk : ∀ (H1 : Heap) (locs1 : List Loc), va_P D classes ((X ++ Lw).set q0 (a, .inl (dA 4, n, .inr (.inr (.inr (.inr (va_up kf k (some b)))))))) H1 → va_D A ((X ++ Lw).set q0 (a, .inl (dA 4, n, .inr (.inr (.inr (.inr (va_up kf k (some b)))))))) → va_S A H0 H1 locs1 → W p l e R s m args below meth c H1 locs1 cells slots Q (F0 m (pc + 1) ls rest)) : W p l e R s m args below meth c H locs cells slots Q (F0 m pc ls (.ref b :: .int (nI k) :: .ref a :: rest)) := by
  have hc := nI_clamp (n := k) (Nat.lt_trans hk hn)
  obtain ⟨qk, hq⟩ := List.getElem?_of_mem (List.mem_append_right X hb)
  refine va_astq (r := (R_GK, F_GK, 3)) hC.x hC.b hC.K hP hD hS q0 4 qk 3 he rfl hq rfl (vp_in_nI hk hn) hdg ?_
  rw [hc]; exact kk
set_option maxHeartbeats 4000000 in
set_option maxRecDepth 100000 in
theorem c_GR_sortedCosts (l : Launch) {A : Nat → Prop} {ad : Nat → Nat} {S : St} {sf kf : Nat → Option Nat} {L : va_W} {D : va_G} {dA : Nat → ClassId} {H : Heap} (hG : GX D dA A ad S sf kf L H) (hI : Inv S) (hA : ∀ q, H.size ≤ q → A q) : Met l y_GR_sortedCosts (wd y_GR_sortedCosts b_GR_sortedCosts 6 (some (.array .long))) ({ frames := 4, cells := 1, slots := 200, locals := 88 } : Room) (va_Pc [.ref (ad 0)] (PX D dA H)) (QR (fun r H1 => ∃ f : Nat → Int64, SD f S.cost S.n ∧ va_P D classes (gx dA ad S sf kf ++ (L ++ [(r, .inl (dA 1, S.n, .inr (.inl f)))])) H1 ∧ va_D A (gx dA ad S sf kf ++ (L ++ [(r, .inl (dA 1, S.n, .inr (.inl f)))]))) A) 1 200 A := by
  refine mkMet (by decide) (Nat.le_of_ble_eq_true rfl) ?_
  intro p e s m below meth c ls hC hr hlk hnm hl hH
  have hl : lv_has ls 6 [(0, .ref (ad 0))] := hl
  obtain ⟨hP, hD, hst, hkp⟩ := id hG
  obtain ⟨hnr, hn, hcur, hnc, hnk, hWE, hrow, hkr, hcl, hdj⟩ := id hI
  have hS : va_S A H H [] := va_S.rf
  refine lv_aload_n (pc := 0) hC.x hC.b d_GR_sortedCosts_0 rfl (lv_at hl 0 rfl) ?_
  refine fg_GR_40 (pc := 1) hC hP 0 rfl rfl d_GR_sortedCosts_1 ?_
  refine newa_l (pc := 4) hC hP hD hS hA (by omega) (Nat.le_of_ble_eq_true rfl) (by show 0 + S.n ≤ 200; omega) d_GR_sortedCosts_4 (fun r H1 hP hD hS => ?_)
  refine W.widen (k := 1) (n := 200) (by omega) (by omega) ?_
  rw [List.append_assoc] at hP hD
  refine lv_astore_n (pc := 6) (lv' := [(1, .ref r), (0, .ref (ad 0))]) hC.x hC.b d_GR_sortedCosts_6 rfl hl (by decide) rfl (fun ls hl => ?_)
  refine lv_iconst (pc := 7) (v := nI 0) hC.x hC.b d_GR_sortedCosts_7 (by decide) ?_
  refine lv_istore_n (pc := 8) (lv' := [(2, .int (nI 0)), (1, .ref r), (0, .ref (ad 0))]) hC.x hC.b d_GR_sortedCosts_8 rfl hl (by decide) rfl (fun ls hl => ?_)
  refine lpH (pc := 9) (I := fun k H1 locs ls => ∃ f : Nat → Int64, lv_has ls 6 [(2, .int (nI k)), (0, .ref (ad 0)), (1, .ref r)] ∧ va_P D classes (gx dA ad S sf kf ++ (L ++ [(r, .inl (dA 1, S.n, .inr (.inl f)))])) H1 ∧ va_D A (gx dA ad S sf kf ++ (L ++ [(r, .inl (dA 1, S.n, .inr (.inl f)))])) ∧ va_S A H H1 locs ∧ SD f S.cost k) (S.n) ?_ ?_ 0 (Nat.zero_le _) ⟨(fun _ => 0), (lv_sub hl [0, 2, 1] rfl), hP, hD, hS, SD_0 _ _⟩
  · intro H2 locs ls hI2
    obtain ⟨f, hl, hP, hD, hS, hsd⟩ := hI2
    refine lv_iload_n (pc := 9) hC.x hC.b d_GR_sortedCosts_9 rfl (lv_at hl 0 rfl) ?_
    refine lv_aload_n (pc := 10) hC.x hC.b d_GR_sortedCosts_10 rfl (lv_at hl 1 rfl) ?_
    refine fg_GR_40 (pc := 11) hC hP 0 rfl rfl d_GR_sortedCosts_11 ?_
    refine ni_ge (pc := 14) (tgt := 69) hC d_GR_sortedCosts_14 (by decide) (by omega) (by omega) (fun c_14 => ?_) (fun c_14 => ?_)
    · refine lv_aload_n (pc := 69) hC.x hC.b d_GR_sortedCosts_69 rfl (lv_at hl 2 rfl) ?_
      exact wr_r (pc := 70) hC hr ⟨_, rfl⟩ hlk (by rw [hH]; exact hS) d_GR_sortedCosts_70 ⟨f, hsd, hP, hD⟩
    · exact absurd c_14 (Nat.lt_irrefl _)
  · intro k H2 locs ls hk hI2 ih
    obtain ⟨f0, hl, hP, hD, hS, hsd⟩ := hI2
    have hG2 := hG.more hP hD
    refine lv_iload_n (pc := 9) hC.x hC.b d_GR_sortedCosts_9 rfl (lv_at hl 0 rfl) ?_
    refine lv_aload_n (pc := 10) hC.x hC.b d_GR_sortedCosts_10 rfl (lv_at hl 1 rfl) ?_
    refine fg_GR_40 (pc := 11) hC hP 0 rfl rfl d_GR_sortedCosts_11 ?_
    refine ni_ge (pc := 14) (tgt := 69) hC d_GR_sortedCosts_14 (by decide) (by omega) (by omega) (fun c_14 => ?_) (fun c_14 => ?_)
    · exact absurd c_14 (by omega)
    refine lv_aload_n (pc := 17) hC.x hC.b d_GR_sortedCosts_17 rfl (lv_at hl 1 rfl) ?_
    refine lv_iload_n (pc := 18) hC.x hC.b d_GR_sortedCosts_18 rfl (lv_at hl 0 rfl) ?_
    refine k_GR_103_GR_cost (pc := 19) hC hG2 hI hl.1 (Nat.le_of_ble_eq_true rfl) ⟨Nat.le_of_ble_eq_true rfl, Nat.le_of_ble_eq_true rfl⟩ ⟨Nat.le_of_ble_eq_true rfl, Nat.le_of_ble_eq_true rfl⟩ d_GR_sortedCosts_19 ?_
    refine tp_l (y := S.cost k) (costA_in hk hn) ?_
    refine lv_lstore_n (pc := 22) (lv' := [(3, .long (S.cost k)), (2, .int (nI k)), (0, .ref (ad 0)), (1, .ref r)]) hC.x hC.b d_GR_sortedCosts_22 rfl hl (by decide) rfl (fun ls hl => ?_)
    refine lv_iload_n (pc := 23) hC.x hC.b d_GR_sortedCosts_23 rfl (lv_at hl 1 rfl) ?_
    refine lv_istore (pc := 24) (lv' := [(5, .int (nI k)), (3, .long (S.cost k)), (2, .int (nI k)), (0, .ref (ad 0)), (1, .ref r)]) hC.x hC.b d_GR_sortedCosts_24 hl (by decide) rfl (fun ls hl => ?_)
    refine lpD (pc := 26) (I := fun i H1 locs ls => ∃ f : Nat → Int64, lv_has ls 6 [(5, .int (nI i)), (3, .long (S.cost k)), (2, .int (nI k)), (0, .ref (ad 0)), (1, .ref r)] ∧ i ≤ k ∧ va_P D classes (gx dA ad S sf kf ++ (L ++ [(r, .inl (dA 1, S.n, .inr (.inl f)))])) H1 ∧ va_D A (gx dA ad S sf kf ++ (L ++ [(r, .inl (dA 1, S.n, .inr (.inl f)))])) ∧ va_S A H H1 locs ∧ Gap1 f f0 i k ∧ ∀ j, i ≤ j → j < k → f0 j < S.cost k) ?_ k ⟨f0, (lv_sub hl [0, 1, 2, 3, 4] rfl), Nat.le_refl _, hP, hD, hS, ⟨fun _ _ => rfl, fun j a b => by omega⟩, fun j a b => by omega⟩
    intro i H3 locs ls hI3 ih2
    obtain ⟨f, hl, hik, hP, hD, hS, hgap, hgt⟩ := hI3
    refine lv_iload (pc := 26) hC.x hC.b d_GR_sortedCosts_26 (lv_at hl 0 rfl) ?_
    refine nz_le (pc := 28) (tgt := 58) hC d_GR_sortedCosts_28 (by decide) (by omega) (fun c_28 => ?_) (fun c_28 => ?_)
    · refine lv_aload_n (pc := 58) hC.x hC.b d_GR_sortedCosts_58 rfl (lv_at hl 4 rfl) ?_
      refine lv_iload (pc := 59) hC.x hC.b d_GR_sortedCosts_59 (lv_at hl 0 rfl) ?_
      refine lv_lload_n (pc := 61) hC.x hC.b d_GR_sortedCosts_61 rfl (lv_at hl 1 rfl) ?_
      refine ast_l (pc := 62) hC hP hD hS ((gx dA ad S sf kf).length + L.length) (i) at_e rfl (by omega) (by omega) d_GR_sortedCosts_62 (fun H1 locs hP hD hS => ?_)
      rw [set_e] at hP hD
      refine lv_iinc (pc := 63) (v := nI (k + 1)) (lv' := [(2, .int (nI (k + 1))), (5, .int (nI i)), (3, .long (S.cost k)), (0, .ref (ad 0)), (1, .ref r)]) hC.x hC.b d_GR_sortedCosts_63 hl (k := 2) rfl (nI_1 _) (by decide) rfl (fun ls hl => ?_)
      refine lv_goto (pc := 66) (tgt := 9) hC.x hC.b d_GR_sortedCosts_66 (by decide) ?_
      exact ih _ _ ls ⟨_, (lv_sub hl [0, 3, 4] rfl), hP, hD, hS, ins_SD hsd hik (gap_insL hgap) hgt (fun z => by omega) rfl⟩
    refine lv_aload_n (pc := 31) hC.x hC.b d_GR_sortedCosts_31 rfl (lv_at hl 4 rfl) ?_
    refine lv_iload (pc := 32) hC.x hC.b d_GR_sortedCosts_32 (lv_at hl 0 rfl) ?_
    refine lv_iconst (pc := 34) (v := 1) hC.x hC.b d_GR_sortedCosts_34 (by decide) ?_
    refine lv_isub (pc := 35) hC.x hC.b d_GR_sortedCosts_35 ?_
    refine tp_i (y := nI (i - 1)) (nI_sub1 c_28) ?_
    refine ald_l (pc := 36) hC hP ((gx dA ad S sf kf).length + L.length) (i - 1) at_e rfl (by omega) (by omega) d_GR_sortedCosts_36 ?_
    refine lv_lload_n (pc := 37) hC.x hC.b d_GR_sortedCosts_37 rfl (lv_at hl 1 rfl) ?_
    refine lc_ge (pc := 38) (tgt := 58) hC d_GR_sortedCosts_38 d_GR_sortedCosts_39 (by decide) (fun c_38 => ?_) (fun c_38 => ?_)
    · refine lv_aload_n (pc := 58) hC.x hC.b d_GR_sortedCosts_58 rfl (lv_at hl 4 rfl) ?_
      refine lv_iload (pc := 59) hC.x hC.b d_GR_sortedCosts_59 (lv_at hl 0 rfl) ?_
      refine lv_lload_n (pc := 61) hC.x hC.b d_GR_sortedCosts_61 rfl (lv_at hl 1 rfl) ?_
      refine ast_l (pc := 62) hC hP hD hS ((gx dA ad S sf kf).length + L.length) (i) at_e rfl (by omega) (by omega) d_GR_sortedCosts_62 (fun H1 locs hP hD hS => ?_)
      rw [set_e] at hP hD
      refine lv_iinc (pc := 63) (v := nI (k + 1)) (lv' := [(2, .int (nI (k + 1))), (5, .int (nI i)), (3, .long (S.cost k)), (0, .ref (ad 0)), (1, .ref r)]) hC.x hC.b d_GR_sortedCosts_63 hl (k := 2) rfl (nI_1 _) (by decide) rfl (fun ls hl => ?_)
      refine lv_goto (pc := 66) (tgt := 9) hC.x hC.b d_GR_sortedCosts_66 (by decide) ?_
      exact ih _ _ ls ⟨_, (lv_sub hl [0, 3, 4] rfl), hP, hD, hS, ins_SD hsd hik (gap_insL hgap) hgt (fun _ => by rw [← hgap.1 (i - 1) (by omega)]; exact c_38) rfl⟩
    refine lv_aload_n (pc := 42) hC.x hC.b d_GR_sortedCosts_42 rfl (lv_at hl 4 rfl) ?_
    refine lv_iload (pc := 43) hC.x hC.b d_GR_sortedCosts_43 (lv_at hl 0 rfl) ?_
    refine lv_aload_n (pc := 45) hC.x hC.b d_GR_sortedCosts_45 rfl (lv_at hl 4 rfl) ?_
    refine lv_iload (pc := 46) hC.x hC.b d_GR_sortedCosts_46 (lv_at hl 0 rfl) ?_
    refine lv_iconst (pc := 48) (v := 1) hC.x hC.b d_GR_sortedCosts_48 (by decide) ?_
    refine lv_isub (pc := 49) hC.x hC.b d_GR_sortedCosts_49 ?_
    refine tp_i (y := nI (i - 1)) (nI_sub1 c_28) ?_
    refine ald_l (pc := 50) hC hP ((gx dA ad S sf kf).length + L.length) (i - 1) at_e rfl (by omega) (by omega) d_GR_sortedCosts_50 ?_
    refine ast_l (pc := 51) hC hP hD hS ((gx dA ad S sf kf).length + L.length) (i) at_e rfl (by omega) (by omega) d_GR_sortedCosts_51 (fun H1 locs hP hD hS => ?_)
    rw [set_e] at hP hD
    refine lv_iinc (pc := 52) (v := nI (i - 1)) (lv' := [(5, .int (nI (i - 1))), (3, .long (S.cost k)), (2, .int (nI k)), (0, .ref (ad 0)), (1, .ref r)]) hC.x hC.b d_GR_sortedCosts_52 hl (k := 0) rfl (nI_m1 c_28) (by decide) rfl (fun ls hl => ?_)
    refine lv_goto (pc := 55) (tgt := 26) hC.x hC.b d_GR_sortedCosts_55 (by decide) ?_
    exact ih2 (i - 1) _ _ ls (by omega) ⟨_, (lv_sub hl [0, 1, 2, 3, 4] rfl), by omega, hP, hD, hS, gap_dnL hgap c_28, fun j a b => if z : j = i - 1 then z ▸ (by rw [← hgap.1 (i - 1) (by omega)]; exact Int64.not_le.mp c_38) else hgt j (by omega) b⟩
set_option maxHeartbeats 4000000 in
set_option maxRecDepth 100000 in
theorem k_GR_144_GR_sortedCosts {sf kf : Nat → Option Nat} {L : va_W} (hC : CX p m c cc nL s args R_GR D dA) (hG : GX D dA A ad S sf kf L H) (hI : Inv S) (hA : ∀ q, H0.size ≤ q → A q) (hS : va_S A H0 H locs) (hsz : ls.size = nL) (hW : (rest.map fun v => v.category).sum ≤ 8) (hR : 4 + 1 ≤ R.frames ∧ 8 + (6 + 11) + 88 ≤ R.locals) (hf : cells + 1 ≤ R.cells ∧ slots + 200 ≤ R.slots) (hdg : decode cc pc = .ok (.invokevirtual 144, 3)) (kk : ∀ (r : Nat) (f : Nat → Int64) (H1 : Heap) (locs1 : List Loc), SD f S.cost S.n → va_P D classes (gx dA ad S sf kf ++ (L ++ [(r, .inl (dA 1, S.n, .inr (.inl f)))])) H1 → va_D A (gx dA ad S sf kf ++ (L ++ [(r, .inl (dA 1, S.n, .inr (.inl f)))])) → va_S A H0 H1 locs1 → W p l e R s m args below meth c H1 locs1 (cells + 1) (slots + 200) Q (F0 m (pc + 3) ls (.ref r :: rest))) : W p l e R s m args below meth c H locs cells slots Q (F0 m pc ls (.ref (ad 0) :: rest)) := by
  have hA1 : ∀ q, H.size ≤ q → A q := fun q h => hA q (Nat.le_trans hS.1 h)
  exact va_callr (runV hC (c_GR_sortedCosts l hG hI hA1) tw_240 tw_281 tw_239 ts_4 tw_1 ⟨by decide +kernel, by decide +kernel, rfl⟩ rfl rfl (ci := 0) rfl rfl (hG.1 0 _ rfl) hsz rfl hW hR hf hdg) hS (fun _ _ h => h) (fun _ h => h) (fun u r t H1 locs1 ht _ _ hB _ _ hS1 => by
    obtain ⟨f, h1, h2, h3⟩ := hB
    rw [ht] at h2
    exact kk r f H1 locs1 h1 h2 h3 hS1)
set_option maxHeartbeats 4000000 in
set_option maxRecDepth 100000 in
theorem k_GK_22_GR_sortedCosts {sf kf : Nat → Option Nat} {L : va_W} (hC : CX p m c cc nL s args R_GK D dA) (hG : GX D dA A ad S sf kf L H) (hI : Inv S) (hA : ∀ q, H0.size ≤ q → A q) (hS : va_S A H0 H locs) (hsz : ls.size = nL) (hW : (rest.map fun v => v.category).sum ≤ 8) (hR : 4 + 1 ≤ R.frames ∧ 8 + (6 + 11) + 88 ≤ R.locals) (hf : cells + 1 ≤ R.cells ∧ slots + 200 ≤ R.slots) (hdg : decode cc pc = .ok (.invokevirtual 22, 3)) (kk : ∀ (r : Nat) (f : Nat → Int64) (H1 : Heap) (locs1 : List Loc), SD f S.cost S.n → va_P D classes (gx dA ad S sf kf ++ (L ++ [(r, .inl (dA 1, S.n, .inr (.inl f)))])) H1 → va_D A (gx dA ad S sf kf ++ (L ++ [(r, .inl (dA 1, S.n, .inr (.inl f)))])) → va_S A H0 H1 locs1 → W p l e R s m args below meth c H1 locs1 (cells + 1) (slots + 200) Q (F0 m (pc + 3) ls (.ref r :: rest))) : W p l e R s m args below meth c H locs cells slots Q (F0 m pc ls (.ref (ad 0) :: rest)) := by
  have hA1 : ∀ q, H.size ≤ q → A q := fun q h => hA q (Nat.le_trans hS.1 h)
  exact va_callr (runVN hC (c_GR_sortedCosts l hG hI hA1) tw_240 nw_237 tw_239 ts_4 tw_1 ⟨by decide +kernel, by decide +kernel, rfl⟩ rfl rfl (ci := 0) rfl rfl (hG.1 0 _ rfl) hsz rfl hW hR hf hdg) hS (fun _ _ h => h) (fun _ h => h) (fun u r t H1 locs1 ht _ _ hB _ _ hS1 => by
    obtain ⟨f, h1, h2, h3⟩ := hB
    rw [ht] at h2
    exact kk r f H1 locs1 h1 h2 h3 hS1)
set_option maxHeartbeats 4000000 in
set_option maxRecDepth 100000 in
theorem c_GR_sortedCodes (l : Launch) {A : Nat → Prop} {ad : Nat → Nat} {S : St} {sf kf : Nat → Option Nat} {L : va_W} {D : va_G} {dA : Nat → ClassId} {H : Heap} (hG : GX D dA A ad S sf kf L H) (hI : Inv S) (hA : ∀ q, H.size ≤ q → A q) : Met l y_GR_sortedCodes (wd y_GR_sortedCodes b_GR_sortedCodes 5 (some (.array .int))) ({ frames := 1, cells := 1, slots := 200, locals := 20 } : Room) (va_Pc [.ref (ad 0)] (PX D dA H)) (QR (fun r H1 => ∃ f : Nat → Int32, SU f (fun k => cde (S.row k)) S.n ∧ va_P D classes (gx dA ad S sf kf ++ (L ++ [(r, .inl (dA 0, S.n, .inl f))])) H1 ∧ va_D A (gx dA ad S sf kf ++ (L ++ [(r, .inl (dA 0, S.n, .inl f))]))) A) 1 200 A := by
  refine mkMet (by decide) (Nat.le_of_ble_eq_true rfl) ?_
  intro p e s m below meth c ls hC hr hlk hnm hl hH
  have hl : lv_has ls 5 [(0, .ref (ad 0))] := hl
  obtain ⟨hP, hD, hst, hkp⟩ := id hG
  obtain ⟨hnr, hn, hcur, hnc, hnk, hWE, hrow, hkr, hcl, hdj⟩ := id hI
  have hS : va_S A H H [] := va_S.rf
  refine lv_aload_n (pc := 0) hC.x hC.b d_GR_sortedCodes_0 rfl (lv_at hl 0 rfl) ?_
  refine fg_GR_40 (pc := 1) hC hP 0 rfl rfl d_GR_sortedCodes_1 ?_
  refine newa_i (pc := 4) hC hP hD hS hA (by omega) (Nat.le_of_ble_eq_true rfl) (by show 0 + S.n ≤ 200; omega) d_GR_sortedCodes_4 (fun r H1 hP hD hS => ?_)
  refine W.widen (k := 1) (n := 200) (by omega) (by omega) ?_
  rw [List.append_assoc] at hP hD
  refine lv_astore_n (pc := 6) (lv' := [(1, .ref r), (0, .ref (ad 0))]) hC.x hC.b d_GR_sortedCodes_6 rfl hl (by decide) rfl (fun ls hl => ?_)
  refine lv_iconst (pc := 7) (v := nI 0) hC.x hC.b d_GR_sortedCodes_7 (by decide) ?_
  refine lv_istore_n (pc := 8) (lv' := [(2, .int (nI 0)), (1, .ref r), (0, .ref (ad 0))]) hC.x hC.b d_GR_sortedCodes_8 rfl hl (by decide) rfl (fun ls hl => ?_)
  refine lpH (pc := 9) (I := fun k H1 locs ls => ∃ f : Nat → Int32, lv_has ls 5 [(2, .int (nI k)), (0, .ref (ad 0)), (1, .ref r)] ∧ va_P D classes (gx dA ad S sf kf ++ (L ++ [(r, .inl (dA 0, S.n, .inl f))])) H1 ∧ va_D A (gx dA ad S sf kf ++ (L ++ [(r, .inl (dA 0, S.n, .inl f))])) ∧ va_S A H H1 locs ∧ SU f (fun k => cde (S.row k)) k) (S.n) ?_ ?_ 0 (Nat.zero_le _) ⟨(fun _ => 0), (lv_sub hl [0, 2, 1] rfl), hP, hD, hS, SU_0 _ _⟩
  · intro H2 locs ls hI2
    obtain ⟨f, hl, hP, hD, hS, hsd⟩ := hI2
    refine lv_iload_n (pc := 9) hC.x hC.b d_GR_sortedCodes_9 rfl (lv_at hl 0 rfl) ?_
    refine lv_aload_n (pc := 10) hC.x hC.b d_GR_sortedCodes_10 rfl (lv_at hl 1 rfl) ?_
    refine fg_GR_40 (pc := 11) hC hP 0 rfl rfl d_GR_sortedCodes_11 ?_
    refine ni_ge (pc := 14) (tgt := 72) hC d_GR_sortedCodes_14 (by decide) (by omega) (by omega) (fun c_14 => ?_) (fun c_14 => ?_)
    · refine lv_aload_n (pc := 72) hC.x hC.b d_GR_sortedCodes_72 rfl (lv_at hl 2 rfl) ?_
      exact wr_r (pc := 73) hC hr ⟨_, rfl⟩ hlk (by rw [hH]; exact hS) d_GR_sortedCodes_73 ⟨f, hsd, hP, hD⟩
    · exact absurd c_14 (Nat.lt_irrefl _)
  · intro k H2 locs ls hk hI2 ih
    obtain ⟨f0, hl, hP, hD, hS, hsd⟩ := hI2
    have hG2 := hG.more hP hD
    refine lv_iload_n (pc := 9) hC.x hC.b d_GR_sortedCodes_9 rfl (lv_at hl 0 rfl) ?_
    refine lv_aload_n (pc := 10) hC.x hC.b d_GR_sortedCodes_10 rfl (lv_at hl 1 rfl) ?_
    refine fg_GR_40 (pc := 11) hC hP 0 rfl rfl d_GR_sortedCodes_11 ?_
    refine ni_ge (pc := 14) (tgt := 72) hC d_GR_sortedCodes_14 (by decide) (by omega) (by omega) (fun c_14 => ?_) (fun c_14 => ?_)
    · exact absurd c_14 (by omega)
    refine lv_aload_n (pc := 17) hC.x hC.b d_GR_sortedCodes_17 rfl (lv_at hl 1 rfl) ?_
    refine fg_GR_18 (pc := 18) hC hP 0 rfl rfl d_GR_sortedCodes_18 ?_
    refine lv_iload_n (pc := 21) hC.x hC.b d_GR_sortedCodes_21 rfl (lv_at hl 0 rfl) ?_
    obtain ⟨b, hb1, hb2⟩ := hG2.2.2.1 k hk
    refine ald_q (pc := 22) (t0 := 3) hC hP 3 k rfl rfl rfl (by omega) (by decide) hb1 d_GR_sortedCodes_22 ?_
    refine k_GR_115_GS_code (pc := 23) hC hP hb2 hl.1 (Nat.le_of_ble_eq_true rfl) ⟨Nat.le_of_ble_eq_true rfl, Nat.le_of_ble_eq_true rfl⟩ ⟨Nat.le_of_ble_eq_true rfl, Nat.le_of_ble_eq_true rfl⟩ d_GR_sortedCodes_23 ?_
    refine lv_istore_n (pc := 26) (lv' := [(3, .int (cde (S.row k))), (2, .int (nI k)), (0, .ref (ad 0)), (1, .ref r)]) hC.x hC.b d_GR_sortedCodes_26 rfl hl (by decide) rfl (fun ls hl => ?_)
    refine lv_iload_n (pc := 27) hC.x hC.b d_GR_sortedCodes_27 rfl (lv_at hl 1 rfl) ?_
    refine lv_istore (pc := 28) (lv' := [(4, .int (nI k)), (3, .int (cde (S.row k))), (2, .int (nI k)), (0, .ref (ad 0)), (1, .ref r)]) hC.x hC.b d_GR_sortedCodes_28 hl (by decide) rfl (fun ls hl => ?_)
    refine lpD (pc := 30) (I := fun i H1 locs ls => ∃ f : Nat → Int32, lv_has ls 5 [(4, .int (nI i)), (3, .int (cde (S.row k))), (2, .int (nI k)), (0, .ref (ad 0)), (1, .ref r)] ∧ i ≤ k ∧ va_P D classes (gx dA ad S sf kf ++ (L ++ [(r, .inl (dA 0, S.n, .inl f))])) H1 ∧ va_D A (gx dA ad S sf kf ++ (L ++ [(r, .inl (dA 0, S.n, .inl f))])) ∧ va_S A H H1 locs ∧ Gap1 f f0 i k ∧ ∀ j, i ≤ j → j < k → cde (S.row k) < f0 j) ?_ k ⟨f0, (lv_sub hl [0, 1, 2, 3, 4] rfl), Nat.le_refl _, hP, hD, hS, ⟨fun _ _ => rfl, fun j a b => by omega⟩, fun j a b => by omega⟩
    intro i H3 locs ls hI3 ih2
    obtain ⟨f, hl, hik, hP, hD, hS, hgap, hgt⟩ := hI3
    refine lv_iload (pc := 30) hC.x hC.b d_GR_sortedCodes_30 (lv_at hl 0 rfl) ?_
    refine nz_le (pc := 32) (tgt := 61) hC d_GR_sortedCodes_32 (by decide) (by omega) (fun c_32 => ?_) (fun c_32 => ?_)
    · refine lv_aload_n (pc := 61) hC.x hC.b d_GR_sortedCodes_61 rfl (lv_at hl 4 rfl) ?_
      refine lv_iload (pc := 62) hC.x hC.b d_GR_sortedCodes_62 (lv_at hl 0 rfl) ?_
      refine lv_iload_n (pc := 64) hC.x hC.b d_GR_sortedCodes_64 rfl (lv_at hl 1 rfl) ?_
      refine ast_i (pc := 65) hC hP hD hS ((gx dA ad S sf kf).length + L.length) (i) at_e rfl (by omega) (by omega) d_GR_sortedCodes_65 (fun H1 locs hP hD hS => ?_)
      rw [set_e] at hP hD
      refine lv_iinc (pc := 66) (v := nI (k + 1)) (lv' := [(2, .int (nI (k + 1))), (4, .int (nI i)), (3, .int (cde (S.row k))), (0, .ref (ad 0)), (1, .ref r)]) hC.x hC.b d_GR_sortedCodes_66 hl (k := 2) rfl (nI_1 _) (by decide) rfl (fun ls hl => ?_)
      refine lv_goto (pc := 69) (tgt := 9) hC.x hC.b d_GR_sortedCodes_69 (by decide) ?_
      exact ih _ _ ls ⟨_, (lv_sub hl [0, 3, 4] rfl), hP, hD, hS, ins_SU hsd hik (gap_insI hgap) hgt (fun z => by omega) rfl⟩
    refine lv_aload_n (pc := 35) hC.x hC.b d_GR_sortedCodes_35 rfl (lv_at hl 4 rfl) ?_
    refine lv_iload (pc := 36) hC.x hC.b d_GR_sortedCodes_36 (lv_at hl 0 rfl) ?_
    refine lv_iconst (pc := 38) (v := 1) hC.x hC.b d_GR_sortedCodes_38 (by decide) ?_
    refine lv_isub (pc := 39) hC.x hC.b d_GR_sortedCodes_39 ?_
    refine tp_i (y := nI (i - 1)) (nI_sub1 c_32) ?_
    refine ald_i (pc := 40) hC hP ((gx dA ad S sf kf).length + L.length) (i - 1) at_e rfl (by omega) (by omega) d_GR_sortedCodes_40 ?_
    refine lv_iload_n (pc := 41) hC.x hC.b d_GR_sortedCodes_41 rfl (lv_at hl 1 rfl) ?_
    refine lv_icmp_le (pc := 42) (tgt := 61) hC.x hC.b d_GR_sortedCodes_42 (by decide) (fun c_42 => ?_) (fun c_42 => ?_)
    · refine lv_aload_n (pc := 61) hC.x hC.b d_GR_sortedCodes_61 rfl (lv_at hl 4 rfl) ?_
      refine lv_iload (pc := 62) hC.x hC.b d_GR_sortedCodes_62 (lv_at hl 0 rfl) ?_
      refine lv_iload_n (pc := 64) hC.x hC.b d_GR_sortedCodes_64 rfl (lv_at hl 1 rfl) ?_
      refine ast_i (pc := 65) hC hP hD hS ((gx dA ad S sf kf).length + L.length) (i) at_e rfl (by omega) (by omega) d_GR_sortedCodes_65 (fun H1 locs hP hD hS => ?_)
      rw [set_e] at hP hD
      refine lv_iinc (pc := 66) (v := nI (k + 1)) (lv' := [(2, .int (nI (k + 1))), (4, .int (nI i)), (3, .int (cde (S.row k))), (0, .ref (ad 0)), (1, .ref r)]) hC.x hC.b d_GR_sortedCodes_66 hl (k := 2) rfl (nI_1 _) (by decide) rfl (fun ls hl => ?_)
      refine lv_goto (pc := 69) (tgt := 9) hC.x hC.b d_GR_sortedCodes_69 (by decide) ?_
      exact ih _ _ ls ⟨_, (lv_sub hl [0, 3, 4] rfl), hP, hD, hS, ins_SU hsd hik (gap_insI hgap) hgt (fun _ => by rw [← hgap.1 (i - 1) (by omega)]; exact c_42) rfl⟩
    refine lv_aload_n (pc := 45) hC.x hC.b d_GR_sortedCodes_45 rfl (lv_at hl 4 rfl) ?_
    refine lv_iload (pc := 46) hC.x hC.b d_GR_sortedCodes_46 (lv_at hl 0 rfl) ?_
    refine lv_aload_n (pc := 48) hC.x hC.b d_GR_sortedCodes_48 rfl (lv_at hl 4 rfl) ?_
    refine lv_iload (pc := 49) hC.x hC.b d_GR_sortedCodes_49 (lv_at hl 0 rfl) ?_
    refine lv_iconst (pc := 51) (v := 1) hC.x hC.b d_GR_sortedCodes_51 (by decide) ?_
    refine lv_isub (pc := 52) hC.x hC.b d_GR_sortedCodes_52 ?_
    refine tp_i (y := nI (i - 1)) (nI_sub1 c_32) ?_
    refine ald_i (pc := 53) hC hP ((gx dA ad S sf kf).length + L.length) (i - 1) at_e rfl (by omega) (by omega) d_GR_sortedCodes_53 ?_
    refine ast_i (pc := 54) hC hP hD hS ((gx dA ad S sf kf).length + L.length) (i) at_e rfl (by omega) (by omega) d_GR_sortedCodes_54 (fun H1 locs hP hD hS => ?_)
    rw [set_e] at hP hD
    refine lv_iinc (pc := 55) (v := nI (i - 1)) (lv' := [(4, .int (nI (i - 1))), (3, .int (cde (S.row k))), (2, .int (nI k)), (0, .ref (ad 0)), (1, .ref r)]) hC.x hC.b d_GR_sortedCodes_55 hl (k := 0) rfl (nI_m1 c_32) (by decide) rfl (fun ls hl => ?_)
    refine lv_goto (pc := 58) (tgt := 30) hC.x hC.b d_GR_sortedCodes_58 (by decide) ?_
    exact ih2 (i - 1) _ _ ls (by omega) ⟨_, (lv_sub hl [0, 1, 2, 3, 4] rfl), by omega, hP, hD, hS, gap_dnI hgap c_32, fun j a b => if z : j = i - 1 then z ▸ (by rw [← hgap.1 (i - 1) (by omega)]; exact Int32.not_le.mp c_42) else hgt j (by omega) b⟩
set_option maxHeartbeats 4000000 in
set_option maxRecDepth 100000 in
theorem k_GR_151_GR_sortedCodes {sf kf : Nat → Option Nat} {L : va_W} (hC : CX p m c cc nL s args R_GR D dA) (hG : GX D dA A ad S sf kf L H) (hI : Inv S) (hA : ∀ q, H0.size ≤ q → A q) (hS : va_S A H0 H locs) (hsz : ls.size = nL) (hW : (rest.map fun v => v.category).sum ≤ 8) (hR : 1 + 1 ≤ R.frames ∧ 8 + (5 + 11) + 20 ≤ R.locals) (hf : cells + 1 ≤ R.cells ∧ slots + 200 ≤ R.slots) (hdg : decode cc pc = .ok (.invokevirtual 151, 3)) (kk : ∀ (r : Nat) (f : Nat → Int32) (H1 : Heap) (locs1 : List Loc), SU f (fun k => cde (S.row k)) S.n → va_P D classes (gx dA ad S sf kf ++ (L ++ [(r, .inl (dA 0, S.n, .inl f))])) H1 → va_D A (gx dA ad S sf kf ++ (L ++ [(r, .inl (dA 0, S.n, .inl f))])) → va_S A H0 H1 locs1 → W p l e R s m args below meth c H1 locs1 (cells + 1) (slots + 200) Q (F0 m (pc + 3) ls (.ref r :: rest))) : W p l e R s m args below meth c H locs cells slots Q (F0 m pc ls (.ref (ad 0) :: rest)) := by
  have hA1 : ∀ q, H.size ≤ q → A q := fun q h => hA q (Nat.le_trans hS.1 h)
  exact va_callr (runV hC (c_GR_sortedCodes l hG hI hA1) tw_244 tw_286 tw_243 ts_5 tw_1 ⟨by decide +kernel, by decide +kernel, rfl⟩ rfl rfl (ci := 0) rfl rfl (hG.1 0 _ rfl) hsz rfl hW hR hf hdg) hS (fun _ _ h => h) (fun _ h => h) (fun u r t H1 locs1 ht _ _ hB _ _ hS1 => by
    obtain ⟨f, h1, h2, h3⟩ := hB
    rw [ht] at h2
    exact kk r f H1 locs1 h1 h2 h3 hS1)
set_option maxHeartbeats 4000000 in
set_option maxRecDepth 100000 in
theorem k_GK_30_GR_sortedCodes {sf kf : Nat → Option Nat} {L : va_W} (hC : CX p m c cc nL s args R_GK D dA) (hG : GX D dA A ad S sf kf L H) (hI : Inv S) (hA : ∀ q, H0.size ≤ q → A q) (hS : va_S A H0 H locs) (hsz : ls.size = nL) (hW : (rest.map fun v => v.category).sum ≤ 8) (hR : 1 + 1 ≤ R.frames ∧ 8 + (5 + 11) + 20 ≤ R.locals) (hf : cells + 1 ≤ R.cells ∧ slots + 200 ≤ R.slots) (hdg : decode cc pc = .ok (.invokevirtual 30, 3)) (kk : ∀ (r : Nat) (f : Nat → Int32) (H1 : Heap) (locs1 : List Loc), SU f (fun k => cde (S.row k)) S.n → va_P D classes (gx dA ad S sf kf ++ (L ++ [(r, .inl (dA 0, S.n, .inl f))])) H1 → va_D A (gx dA ad S sf kf ++ (L ++ [(r, .inl (dA 0, S.n, .inl f))])) → va_S A H0 H1 locs1 → W p l e R s m args below meth c H1 locs1 (cells + 1) (slots + 200) Q (F0 m (pc + 3) ls (.ref r :: rest))) : W p l e R s m args below meth c H locs cells slots Q (F0 m pc ls (.ref (ad 0) :: rest)) := by
  have hA1 : ∀ q, H.size ≤ q → A q := fun q h => hA q (Nat.le_trans hS.1 h)
  exact va_callr (runVN hC (c_GR_sortedCodes l hG hI hA1) tw_244 nw_241 tw_243 ts_5 tw_1 ⟨by decide +kernel, by decide +kernel, rfl⟩ rfl rfl (ci := 0) rfl rfl (hG.1 0 _ rfl) hsz rfl hW hR hf hdg) hS (fun _ _ h => h) (fun _ h => h) (fun u r t H1 locs1 ht _ _ hB _ _ hS1 => by
    obtain ⟨f, h1, h2, h3⟩ := hB
    rw [ht] at h2
    exact kk r f H1 locs1 h1 h2 h3 hS1)
set_option maxHeartbeats 4000000 in
set_option maxRecDepth 100000 in
theorem c_LO_compare (l : Launch) {x y : Int64} {D : va_G} {dA : Nat → ClassId} {H : Heap} : Met l y_LO_compare (wd y_LO_compare b_LO_compare 4 (some .int)) ({ frames := 0, cells := 0, slots := 0, locals := 0 } : Room) (va_Pc [.long x, .long y] (PX D dA H)) (vp_Si (fun r => r = l3 x y)) 0 0 (fun _ => False) := by
  refine mkMet (by decide) (Nat.le_of_ble_eq_true rfl) ?_
  intro p e s m below meth c ls hC hr hlk hnm hl hH
  have hl : lv_has ls 4 [(0, .long x), (2, .long y)] := hl
  refine lv_lload_n (pc := 0) hC.x hC.b d_LO_compare_0 rfl (lv_at hl 0 rfl) ?_
  refine lv_lload_n (pc := 1) hC.x hC.b d_LO_compare_1 rfl (lv_at hl 1 rfl) ?_
  refine lc_ge (pc := 2) (tgt := 10) hC d_LO_compare_2 d_LO_compare_3 (by decide) (fun c_2 => ?_) (fun c_2 => ?_)
  · refine lv_lload_n (pc := 10) hC.x hC.b d_LO_compare_10 rfl (lv_at hl 0 rfl) ?_
    refine lv_lload_n (pc := 11) hC.x hC.b d_LO_compare_11 rfl (lv_at hl 1 rfl) ?_
    refine lc_ne (pc := 12) (tgt := 20) hC d_LO_compare_12 d_LO_compare_13 (by decide) (fun c_12 => ?_) (fun c_12 => ?_)
    · refine lv_iconst (pc := 20) (v := 1) hC.x hC.b d_LO_compare_20 (by decide) ?_
      exact ro_i (pc := 21) hC hr hlk hH d_LO_compare_21 (by unfold l3; rw [if_neg (Int64.not_lt.mpr c_2), if_pos (Int64.lt_of_le_of_ne c_2 (fun z => c_12 z.symm))])
    refine lv_iconst (pc := 16) (v := 0) hC.x hC.b d_LO_compare_16 (by decide) ?_
    refine lv_goto (pc := 17) (tgt := 21) hC.x hC.b d_LO_compare_17 (by decide) ?_
    exact ro_i (pc := 21) hC hr hlk hH d_LO_compare_21 (by unfold l3; rw [if_neg (Int64.not_lt.mpr c_2), if_neg (by rw [c_12]; exact Int64.lt_irrefl)])
  refine lv_iconst (pc := 6) (v := (-1)) hC.x hC.b d_LO_compare_6 (by decide) ?_
  refine lv_goto (pc := 7) (tgt := 21) hC.x hC.b d_LO_compare_7 (by decide) ?_
  exact ro_i (pc := 21) hC hr hlk hH d_LO_compare_21 (by unfold l3; rw [if_pos (Int64.not_le.mp c_2)])
set_option maxHeartbeats 4000000 in
set_option maxRecDepth 100000 in
theorem k_GR_131_LO_compare (hC : CX p m c cc nL s args R_GR D dA) {x y : Int64} (hsz : ls.size = nL) (hW : (rest.map fun v => v.category).sum ≤ 8) (hR : 0 + 1 ≤ R.frames ∧ 8 + (4 + 11) + 0 ≤ R.locals) (hf : cells + 0 ≤ R.cells ∧ slots + 0 ≤ R.slots) (hdg : decode cc pc = .ok (.invokestatic 131, 3)) (kk : W p l e R s m args below meth c H locs cells slots Q (F0 m (pc + 3) ls (.int (l3 x y) :: rest))) : W p l e R s m args below meth c H locs cells slots Q (F0 m pc ls (.long y :: .long x :: rest)) :=
  vp_callSi (va_Run.run (runS hC (c_LO_compare l) tw_277 tw_275 tw_276 tw_8 ⟨by decide +kernel, by decide +kernel, rfl⟩ rfl rfl hsz rfl hW hR hf hdg)) (fun r hr => by rw [hr]; exact kk)
set_option maxHeartbeats 4000000 in
set_option maxRecDepth 100000 in
theorem c_IN_compare (l : Launch) {x y : Nat} (hx : x < 2 ^ 31) (hy : y < 2 ^ 31) {D : va_G} {dA : Nat → ClassId} {H : Heap} : Met l y_IN_compare (wd y_IN_compare b_IN_compare 2 (some .int)) ({ frames := 0, cells := 0, slots := 0, locals := 0 } : Room) (va_Pc [.int (nI x), .int (nI y)] (PX D dA H)) (vp_Si (fun r => r = i3 x y)) 0 0 (fun _ => False) := by
  refine mkMet (by decide) (Nat.le_of_ble_eq_true rfl) ?_
  intro p e s m below meth c ls hC hr hlk hnm hl hH
  have hl : lv_has ls 2 [(0, .int (nI x)), (1, .int (nI y))] := hl
  refine lv_iload_n (pc := 0) hC.x hC.b d_IN_compare_0 rfl (lv_at hl 0 rfl) ?_
  refine lv_iload_n (pc := 1) hC.x hC.b d_IN_compare_1 rfl (lv_at hl 1 rfl) ?_
  refine ni_ge (pc := 2) (tgt := 9) hC d_IN_compare_2 (by decide) (by omega) (by omega) (fun c_2 => ?_) (fun c_2 => ?_)
  · refine lv_iload_n (pc := 9) hC.x hC.b d_IN_compare_9 rfl (lv_at hl 0 rfl) ?_
    refine lv_iload_n (pc := 10) hC.x hC.b d_IN_compare_10 rfl (lv_at hl 1 rfl) ?_
    refine ni_ne (pc := 11) (tgt := 18) hC d_IN_compare_11 (by decide) (by omega) (by omega) (fun c_11 => ?_) (fun c_11 => ?_)
    · refine lv_iconst (pc := 18) (v := 1) hC.x hC.b d_IN_compare_18 (by decide) ?_
      exact ro_i (pc := 19) hC hr hlk hH d_IN_compare_19 (by unfold i3; rw [if_neg (by omega), if_pos (by omega)])
    refine lv_iconst (pc := 14) (v := 0) hC.x hC.b d_IN_compare_14 (by decide) ?_
    refine lv_goto (pc := 15) (tgt := 19) hC.x hC.b d_IN_compare_15 (by decide) ?_
    exact ro_i (pc := 19) hC hr hlk hH d_IN_compare_19 (by unfold i3; rw [if_neg (by omega), if_neg (by omega)])
  refine lv_iconst (pc := 5) (v := (-1)) hC.x hC.b d_IN_compare_5 (by decide) ?_
  refine lv_goto (pc := 6) (tgt := 19) hC.x hC.b d_IN_compare_6 (by decide) ?_
  exact ro_i (pc := 19) hC hr hlk hH d_IN_compare_19 (by unfold i3; rw [if_pos (by omega)])
set_option maxHeartbeats 4000000 in
set_option maxRecDepth 100000 in
theorem k_GR_140_IN_compare (hC : CX p m c cc nL s args R_GR D dA) {x y : Nat} (hx : x < 2 ^ 31) (hy : y < 2 ^ 31) (hsz : ls.size = nL) (hW : (rest.map fun v => v.category).sum ≤ 8) (hR : 0 + 1 ≤ R.frames ∧ 8 + (2 + 11) + 0 ≤ R.locals) (hf : cells + 0 ≤ R.cells ∧ slots + 0 ≤ R.slots) (hdg : decode cc pc = .ok (.invokestatic 140, 3)) (kk : W p l e R s m args below meth c H locs cells slots Q (F0 m (pc + 3) ls (.int (i3 x y) :: rest))) : W p l e R s m args below meth c H locs cells slots Q (F0 m pc ls (.int (nI y) :: .int (nI x) :: rest)) :=
  vp_callSi (va_Run.run (runS hC (c_IN_compare l hx hy) tw_280 tw_278 tw_279 tw_9 ⟨by decide +kernel, by decide +kernel, rfl⟩ rfl rfl hsz rfl hW hR hf hdg)) (fun r hr => by rw [hr]; exact kk)
end GRROWS
end
section
section GRKEPT
variable {p : Program} {e : Env} {R : Room} {s : State} {m : MethodId} {args : Array Value} {below : List Frame} {meth : Method} {c : Code} {locs : List Loc} {cells slots : Nat} {Q : State → Prop}
variable {cc : ByteArray} {pc nL : Nat} {ls : Array Slot} {rest : List Value} {own : String} {l : Launch} {D : va_G} {dA : Nat → ClassId} {A : Nat → Prop} {H H0 : Heap} {S : St} {ad md : Nat → Nat}
theorem stp.sup {t : T3} {a : Nat} {L M : va_W} (h : stp t a L) (hs : ∀ x ∈ L, x ∈ M) : stp t a M := by
  rcases h with ⟨h1, h2⟩ | ⟨h1, h2⟩
  · exact Or.inl ⟨h1, hs _ h2⟩
  · exact Or.inr ⟨h1, hs _ h2⟩
theorem kpt.sup {dA : Nat → ClassId} {W E : Nat → Int32} {n : Nat} {r : Nat → T3} {a : Nat} {L M : va_W} (h : kpt dA W E n r a L) (hs : ∀ x ∈ L, x ∈ M) : kpt dA W E n r a M := by
  obtain ⟨c, d, f, g, h1, h2, h3, h4⟩ := h
  exact ⟨c, d, f, g, hs _ h1, hs _ h2, hs _ h3, h4⟩
theorem GX.sup {D : va_G} {dA : Nat → ClassId} {A : Nat → Prop} {ad : Nat → Nat} {S : St} {sf kf : Nat → Option Nat} {L M : va_W} {H H1 : Heap} (hG : GX D dA A ad S sf kf L H) (hs : ∀ x ∈ L, x ∈ M) (hP : va_P D classes (gx dA ad S sf kf ++ M) H1) (hD : va_D A (gx dA ad S sf kf ++ M)) : GX D dA A ad S sf kf M H1 :=
  ⟨hP, hD, fun k hk => by obtain ⟨a, h1, h2⟩ := hG.2.2.1 k hk; exact ⟨a, h1, h2.sup hs⟩, fun k hk => by obtain ⟨a, h1, h2⟩ := hG.2.2.2 k hk; exact ⟨a, h1, h2.sup hs⟩⟩
theorem in_4 {α : Type} {L : List α} {x y z : α} : ∀ v ∈ L, v ∈ (L ++ [x]) ++ ([y] ++ [z]) := fun _ h => List.mem_append_left _ (List.mem_append_left _ h)
theorem in_4x {α : Type} {L : List α} {x y z : α} : x ∈ (L ++ [x]) ++ ([y] ++ [z]) := List.mem_append_left _ (List.mem_append_right _ List.mem_cons_self)
theorem in_4y {α : Type} {L : List α} {x y z : α} : y ∈ (L ++ [x]) ++ ([y] ++ [z]) := List.mem_append_right _ (List.mem_append_left _ List.mem_cons_self)
theorem in_4z {α : Type} {L : List α} {x y z : α} : z ∈ (L ++ [x]) ++ ([y] ++ [z]) := List.mem_append_right _ (List.mem_append_right _ List.mem_cons_self)
theorem updN_s {f : Nat → Nat} {k x : Nat} : updN f k x k = x := if_pos rfl
theorem updN_n {f : Nat → Nat} {k x j : Nat} (h : j ≠ k) : updN f k x j = f j := if_neg h
theorem updR_s {f : Nat → Nat → T3} {k : Nat} {x : Nat → T3} : updR f k x k = x := if_pos rfl
theorem updR_n {f : Nat → Nat → T3} {k j : Nat} {x : Nat → T3} (h : j ≠ k) : updR f k x j = f j := if_neg h
set_option maxHeartbeats 4000000 in
set_option maxRecDepth 100000 in
theorem c_GK_init (l : Launch) {A : Nat → Prop} {ad : Nat → Nat} {S : St} {sf kf : Nat → Option Nat} {L : va_W} {D : va_G} {dA : Nat → ClassId} {H H9 : Heap} {a : Nat} (hG : GX D dA A ad S sf kf L H9) (hI : Inv S) (hA : ∀ q, H.size ≤ q → A q) (hP : va_P D classes (gx dA ad S sf kf ++ (L ++ [(a, .inr (3, [.long 0, .null, .null]))])) H) (hD : va_D A (gx dA ad S sf kf ++ (L ++ [(a, .inr (3, [.long 0, .null, .null]))]))) : Met l y_GK_init (wd y_GK_init b_GK_init 2 none) ({ frames := 5, cells := 2, slots := 400, locals := 113 } : Room) (va_Pc [.ref a, .ref (ad 0)] (PX D dA H)) (QV (fun H1 => ∃ (c d : Nat) (f : Nat → Int64) (g : Nat → Int32), SD f S.cost S.n ∧ SU g (fun k => cde (S.row k)) S.n ∧ va_P D classes (gx dA ad S sf kf ++ ((L ++ [(a, .inr (3, [.long (S.sum S.n), .ref c, .ref d]))]) ++ ([(c, .inl (dA 1, S.n, .inr (.inl f)))] ++ [(d, .inl (dA 0, S.n, .inl g))]))) H1 ∧ va_D A (gx dA ad S sf kf ++ ((L ++ [(a, .inr (3, [.long (S.sum S.n), .ref c, .ref d]))]) ++ ([(c, .inl (dA 1, S.n, .inr (.inl f)))] ++ [(d, .inl (dA 0, S.n, .inl g))])))) A) 2 400 A := by
  refine mkMet (by decide) (Nat.le_of_ble_eq_true rfl) ?_
  intro p e s m below meth c ls hC hr hlk hnm hl hH
  have hl : lv_has ls 2 [(0, .ref a), (1, .ref (ad 0))] := hl
  obtain ⟨hnr, hn, hcur, hnc, hnk, hWE, hrow, hkr, hcl, hdj⟩ := id hI
  have hS : va_S A H H [] := va_S.rf
  refine lv_aload_n (pc := 0) hC.x hC.b d_GK_init_0 rfl (lv_at hl 0 rfl) ?_
  refine obj0 (pc := 1) hC tw_235 hl.1 d_GK_init_1 (Nat.le_of_ble_eq_true rfl) (Nat.le_of_ble_eq_true rfl) ?_
  refine lv_aload_n (pc := 4) hC.x hC.b d_GK_init_4 rfl (lv_at hl 0 rfl) ?_
  refine lv_aload_n (pc := 5) hC.x hC.b d_GK_init_5 rfl (lv_at hl 1 rfl) ?_
  refine lv_aload_n (pc := 6) hC.x hC.b d_GK_init_6 rfl (lv_at hl 1 rfl) ?_
  refine fg_GK_7 (pc := 7) hC hP 0 rfl rfl d_GK_init_7 ?_
  refine k_GK_13_GR_sum (pc := 10) hC (hG.more hP hD) hI hl.1 (Nat.le_of_ble_eq_true rfl) ⟨Nat.le_of_ble_eq_true rfl, Nat.le_of_ble_eq_true rfl⟩ ⟨Nat.zero_le _, Nat.zero_le _⟩ d_GK_init_10 ?_
  refine tp_l (y := S.sum S.n) (sumA_n hn) ?_
  refine fp_GK_17 (pc := 13) hC hnm hP hD hS ((gx dA ad S sf kf).length + L.length) at_e (Nat.le_of_ble_eq_true rfl) d_GK_init_13 (fun H1 locs hP hD hS => ?_)
  rw [set_e] at hP hD
  refine lv_aload_n (pc := 16) hC.x hC.b d_GK_init_16 rfl (lv_at hl 0 rfl) ?_
  refine lv_aload_n (pc := 17) hC.x hC.b d_GK_init_17 rfl (lv_at hl 1 rfl) ?_
  refine k_GK_22_GR_sortedCosts (pc := 18) hC (hG.more hP hD) hI hA hS hl.1 (Nat.le_of_ble_eq_true rfl) ⟨Nat.le_of_ble_eq_true rfl, Nat.le_of_ble_eq_true rfl⟩ ⟨Nat.le_of_ble_eq_true rfl, Nat.le_of_ble_eq_true rfl⟩ d_GK_init_18 (fun c f H2 locs hsd hP hD hS => ?_)
  refine fp_GK_26 (pc := 21) hC hnm hP hD hS ((gx dA ad S sf kf).length + L.length) at_m (Nat.le_of_ble_eq_true rfl) d_GK_init_21 (fun H2 locs hP hD hS => ?_)
  rw [set_m] at hP hD
  refine lv_aload_n (pc := 24) hC.x hC.b d_GK_init_24 rfl (lv_at hl 0 rfl) ?_
  refine lv_aload_n (pc := 25) hC.x hC.b d_GK_init_25 rfl (lv_at hl 1 rfl) ?_
  refine k_GK_30_GR_sortedCodes (pc := 26) hC (hG.sup (fun x hx => List.mem_append_left _ (List.mem_append_left _ hx)) hP hD) hI hA hS hl.1 (Nat.le_of_ble_eq_true rfl) ⟨Nat.le_of_ble_eq_true rfl, Nat.le_of_ble_eq_true rfl⟩ ⟨Nat.le_of_ble_eq_true rfl, Nat.le_of_ble_eq_true rfl⟩ d_GK_init_26 (fun d g H3 locs hsu hP hD hS => ?_)
  rw [List.append_assoc (L ++ _)] at hP hD
  refine fp_GK_34 (pc := 29) hC hnm hP hD hS ((gx dA ad S sf kf).length + L.length) at_m (Nat.le_of_ble_eq_true rfl) d_GK_init_29 (fun H3 locs hP hD hS => ?_)
  rw [set_m] at hP hD
  exact wr_v (pc := 32) hC hr hlk (by rw [hH]; exact hS) d_GK_init_32 ⟨c, d, f, g, hsd, hsu, hP, hD⟩
set_option maxHeartbeats 4000000 in
set_option maxRecDepth 100000 in
theorem k_GR_121_GK_init {sf kf : Nat → Option Nat} {L : va_W} {a : Nat} {H9 : Heap} (hC : CX p m c cc nL s args R_GR D dA) (hG : GX D dA A ad S sf kf L H9) (hI : Inv S) (hA : ∀ q, H0.size ≤ q → A q) (hP : va_P D classes (gx dA ad S sf kf ++ (L ++ [(a, .inr (3, [.long 0, .null, .null]))])) H) (hD : va_D A (gx dA ad S sf kf ++ (L ++ [(a, .inr (3, [.long 0, .null, .null]))]))) (hS : va_S A H0 H locs) (hsz : ls.size = nL) (hW : (rest.map fun v => v.category).sum ≤ 8) (hR : 5 + 1 ≤ R.frames ∧ 8 + (2 + 11) + 113 ≤ R.locals) (hf : cells + 2 ≤ R.cells ∧ slots + 400 ≤ R.slots) (hdg : decode cc pc = .ok (.invokespecial 121, 3)) (kk : ∀ (c1 d : Nat) (f : Nat → Int64) (g : Nat → Int32) (H1 : Heap) (locs1 : List Loc), SD f S.cost S.n → SU g (fun k => cde (S.row k)) S.n → va_P D classes (gx dA ad S sf kf ++ ((L ++ [(a, .inr (3, [.long (S.sum S.n), .ref c1, .ref d]))]) ++ ([(c1, .inl (dA 1, S.n, .inr (.inl f)))] ++ [(d, .inl (dA 0, S.n, .inl g))]))) H1 → va_D A (gx dA ad S sf kf ++ ((L ++ [(a, .inr (3, [.long (S.sum S.n), .ref c1, .ref d]))]) ++ ([(c1, .inl (dA 1, S.n, .inr (.inl f)))] ++ [(d, .inl (dA 0, S.n, .inl g))]))) → va_S A H0 H1 locs1 → W p l e R s m args below meth c H1 locs1 (cells + 2) (slots + 400) Q (F0 m (pc + 3) ls rest)) : W p l e R s m args below meth c H locs cells slots Q (F0 m pc ls (.ref (ad 0) :: .ref a :: rest)) := by
  have hA1 : ∀ q, H.size ≤ q → A q := fun q h => hA q (Nat.le_trans hS.1 h)
  exact va_callv (runI hC (c_GK_init l hG hI hA1 hP hD) tw_234 tw_232 tw_233 tw_7 rfl ⟨by decide +kernel, by decide +kernel, rfl⟩ rfl rfl hsz rfl hW hR hf hdg) hS (fun _ _ h => h) (fun _ h => h) (fun u t H1 locs1 ht _ _ hB _ _ hS1 => by
    obtain ⟨c1, d, f, g, h1, h2, h3, h4⟩ := hB
    rw [ht] at h3
    exact kk c1 d f g H1 locs1 h1 h2 h3 h4 hS1)
set_option maxHeartbeats 4000000 in
set_option maxRecDepth 100000 in
theorem c_GR_keep (l : Launch) {A : Nat → Prop} {ad : Nat → Nat} {S : St} {D : va_G} {dA : Nat → ClassId} {H : Heap} (hG : GW D dA A ad S H) (hI : Inv S) (hA : ∀ q, H.size ≤ q → A q) : Met l y_GR_keep (wd y_GR_keep b_GR_keep 1 (some .int)) ({ frames := 6, cells := 3, slots := 403, locals := 134 } : Room) (va_Pc [.ref (ad 0)] (PX D dA H)) (QI (fun rr => rr = S.keepV) (fun H1 => GW D dA A ad S.keepS H1) A) 3 403 A := by
  refine mkMet (by decide) (Nat.le_of_ble_eq_true rfl) ?_
  intro p e s m below meth c ls hC hr hlk hnm hl hH
  have hl : lv_has ls 1 [(0, .ref (ad 0))] := hl
  have hGW := hG
  obtain ⟨sf, kf, L, hG⟩ := hG
  obtain ⟨hP, hD, hst, hkp⟩ := id hG
  obtain ⟨hnr, hn, hcur, hnc, hnk, hWE, hrow, hkr, hcl, hdj⟩ := id hI
  have hS : va_S A H H [] := va_S.rf
  refine lv_aload_n (pc := 0) hC.x hC.b d_GR_keep_0 rfl (lv_at hl 0 rfl) ?_
  refine fg_GR_118 (pc := 1) hC hP 0 rfl rfl d_GR_keep_1 ?_
  refine lv_bipush (pc := 4) (v := nI 10) hC.x hC.b d_GR_keep_4 (by decide) ?_
  refine ni_ne (pc := 6) (tgt := 11) hC d_GR_keep_6 (by decide) (by omega) (by omega) (fun c_6 => ?_) (fun c_6 => ?_)
  · refine lv_aload_n (pc := 11) hC.x hC.b d_GR_keep_11 rfl (lv_at hl 0 rfl) ?_
    refine fg_GR_31 (pc := 12) hC hP 0 rfl rfl d_GR_keep_12 ?_
    refine lv_aload_n (pc := 15) hC.x hC.b d_GR_keep_15 rfl (lv_at hl 0 rfl) ?_
    refine fg_GR_118 (pc := 16) hC hP 0 rfl rfl d_GR_keep_16 ?_
    refine newo (pc := 19) (ci := 3) (fs := [.long 0, .null, .null]) (a := 0) hC i_GK t_GK_ok tw_20 tw_231 tw_7 rfl (fun j hj => by rcases (show j = 0 ∨ j = 1 ∨ j = 2 by omega) with rfl | rfl | rfl <;> rfl) hP hD hS hA (Nat.le_of_ble_eq_true rfl) (Nat.le_of_ble_eq_true rfl) d_GR_keep_19 (fun q H1 hP hD hS => ?_)
    rw [List.append_assoc] at hP hD
    refine lv_dup (pc := 22) hC.x hC.b d_GR_keep_22 rfl ?_
    refine lv_aload_n (pc := 23) hC.x hC.b d_GR_keep_23 rfl (lv_at hl 0 rfl) ?_
    refine k_GR_121_GK_init (pc := 24) hC hG hI hA hP hD hS hl.1 (Nat.le_of_ble_eq_true rfl) ⟨Nat.le_of_ble_eq_true rfl, Nat.le_of_ble_eq_true rfl⟩ ⟨Nat.le_of_ble_eq_true rfl, Nat.le_of_ble_eq_true rfl⟩ d_GR_keep_24 (fun c1 d f g H2 locs hsd hsu hP hD hS => ?_)
    refine ast_k (pc := 27) hC hP hD hS 6 rfl (k := S.nk) (by omega) (by decide) in_4x d_GR_keep_27 (fun H3 locs hP hD hS => ?_)
    refine lv_aload_n (pc := 28) hC.x hC.b d_GR_keep_28 rfl (lv_at hl 0 rfl) ?_
    refine lv_dup (pc := 29) hC.x hC.b d_GR_keep_29 rfl ?_
    refine fg_GR_118 (pc := 30) hC hP 0 rfl rfl d_GR_keep_30 ?_
    refine lv_iconst (pc := 33) (v := 1) hC.x hC.b d_GR_keep_33 (by decide) ?_
    refine lv_iadd (pc := 34) hC.x hC.b d_GR_keep_34 ?_
    refine tp_i (y := nI (S.nk + 1)) (nI_1 _) ?_
    refine fp_GR_118 (pc := 35) hC hP hD hS 0 rfl (Nat.le_of_ble_eq_true rfl) d_GR_keep_35 (fun H4 locs hP hD hS => ?_)
    refine lv_aload_n (pc := 38) hC.x hC.b d_GR_keep_38 rfl (lv_at hl 0 rfl) ?_
    refine fg_GR_118 (pc := 39) hC hP 0 rfl rfl d_GR_keep_39 ?_
    refine lv_iconst (pc := 42) (v := 1) hC.x hC.b d_GR_keep_42 (by decide) ?_
    refine lv_isub (pc := 43) hC.x hC.b d_GR_keep_43 ?_
    refine tp_i (y := nI S.nk) (nI_pred _) ?_
    have hP : va_P D classes (gx dA ad ((S.1, S.2.1, S.cur, S.2.2.2.1, (S.nk + 1, updN S.ks S.nk S.n, updR S.kr S.nk S.row))) sf (va_up kf S.nk (some q)) ++ ((L ++ [(q, .inr (3, [.long (S.sum S.n), .ref c1, .ref d]))]) ++ ([(c1, .inl (dA 1, S.n, .inr (.inl f)))] ++ [(d, .inl (dA 0, S.n, .inl g))]))) H4 := hP
    have hD : va_D A (gx dA ad ((S.1, S.2.1, S.cur, S.2.2.2.1, (S.nk + 1, updN S.ks S.nk S.n, updR S.kr S.nk S.row))) sf (va_up kf S.nk (some q)) ++ ((L ++ [(q, .inr (3, [.long (S.sum S.n), .ref c1, .ref d]))]) ++ ([(c1, .inl (dA 1, S.n, .inr (.inl f)))] ++ [(d, .inl (dA 0, S.n, .inl g))]))) := hD
    have hkp1 : ∀ j, j < S.nk + 1 → ∃ a, va_up kf S.nk (some q) j = some a ∧ kpt dA S.W S.E (updN S.ks S.nk S.n j) (updR S.kr S.nk S.row j) a ((L ++ [(q, .inr (3, [.long (S.sum S.n), .ref c1, .ref d]))]) ++ ([(c1, .inl (dA 1, S.n, .inr (.inl f)))] ++ [(d, .inl (dA 0, S.n, .inl g))])) := by
      intro j hj
      by_cases hz : j = S.nk
      · subst hz; exact ⟨q, va_up_self _ _ _, by rw [updN_s, updR_s]; exact ⟨c1, d, f, g, in_4x, in_4y, in_4z, hsd, hsu⟩⟩
      · obtain ⟨a, h1, h2⟩ := hkp j (by omega)
        exact ⟨a, by rw [va_up_ne _ _ hz]; exact h1, by rw [updN_n hz, updR_n hz]; exact h2.sup in_4⟩
    exact wr_i (pc := 44) hC hr hlk (by rw [hH]; exact hS) d_GR_keep_44 (if_neg c_6).symm (by rw [show S.keepS = (S.1, S.2.1, S.cur, S.2.2.2.1, (S.nk + 1, updN S.ks S.nk S.n, updR S.kr S.nk S.row)) from if_neg c_6]; exact ⟨sf, _, _, hP, hD, fun k hk => (by obtain ⟨a, h1, h2⟩ := hst k hk; exact ⟨a, h1, h2.sup in_4⟩), hkp1⟩)
  refine lv_iconst (pc := 9) (v := (-1)) hC.x hC.b d_GR_keep_9 (by decide) ?_
  refine W.widen (k := 3) (n := 403) (by omega) (by omega) ?_
  exact wr_i (pc := 10) hC hr hlk (by rw [hH]; exact hS) d_GR_keep_10 (if_pos c_6).symm (by rw [show S.keepS = S from if_pos c_6]; exact hGW)
set_option maxHeartbeats 4000000 in
set_option maxRecDepth 100000 in
theorem c_GR_compare (l : Launch) {A : Nat → Prop} {ad : Nat → Nat} {S : St} {D : va_G} {dA : Nat → ClassId} {H : Heap} (hG : GW D dA A ad S H) (hI : Inv S) (hA : ∀ q, H.size ≤ q → A q) {x : Int32} : Met l y_GR_compare (wd y_GR_compare b_GR_compare 6 (some .int)) ({ frames := 5, cells := 1, slots := 200, locals := 113 } : Room) (va_Pc [.ref (ad 0), .int x] (PX D dA H)) (QI (fun rr => S.cmpX x rr) (fun H1 => GW D dA A ad S H1) A) 1 200 A := by
  refine mkMet (by decide) (Nat.le_of_ble_eq_true rfl) ?_
  intro p e s m below meth c ls hC hr hlk hnm hl hH
  have hl : lv_has ls 6 [(0, .ref (ad 0)), (1, .int x)] := hl
  have hGW := hG
  obtain ⟨sf, kf, L, hG⟩ := hG
  obtain ⟨hP, hD, hst, hkp⟩ := id hG
  obtain ⟨hnr, hn, hcur, hnc, hnk, hWE, hrow, hkr, hcl, hdj⟩ := id hI
  have hS : va_S A H H [] := va_S.rf
  refine lv_aload_n (pc := 0) hC.x hC.b d_GR_compare_0 rfl (lv_at hl 0 rfl) ?_
  refine lv_iload_n (pc := 1) hC.x hC.b d_GR_compare_1 rfl (lv_at hl 1 rfl) ?_
  rcases pk_ix x (n := S.nk) (by omega) with hx | hx | ⟨j, hj, rfl⟩
  · refine k_GR_124_GR_isKept (pc := 2) hC hG hI hl.1 (Nat.le_of_ble_eq_true rfl) ⟨Nat.le_of_ble_eq_true rfl, Nat.le_of_ble_eq_true rfl⟩ ⟨Nat.zero_le _, Nat.zero_le _⟩ d_GR_compare_2 ?_
    refine tp_i (y := 0) (if_pos (Or.inl hx)) ?_
    refine lv_if_ne (pc := 5) (tgt := 11) hC.x hC.b d_GR_compare_5 (by decide) (fun c_5 => ?_) (fun c_5 => ?_)
    · exact absurd rfl c_5
    refine lv_bipush (pc := 8) (v := (-2)) hC.x hC.b d_GR_compare_8 (by decide) ?_
    refine W.widen (k := 1) (n := 200) (by omega) (by omega) ?_
    exact wr_i (pc := 10) hC hr hlk (by rw [hH]; exact hS) d_GR_compare_10 (Or.inl ⟨(Or.inl hx), rfl⟩) hGW
  · refine k_GR_124_GR_isKept (pc := 2) hC hG hI hl.1 (Nat.le_of_ble_eq_true rfl) ⟨Nat.le_of_ble_eq_true rfl, Nat.le_of_ble_eq_true rfl⟩ ⟨Nat.zero_le _, Nat.zero_le _⟩ d_GR_compare_2 ?_
    refine tp_i (y := 0) (if_pos (Or.inr hx)) ?_
    refine lv_if_ne (pc := 5) (tgt := 11) hC.x hC.b d_GR_compare_5 (by decide) (fun c_5 => ?_) (fun c_5 => ?_)
    · exact absurd rfl c_5
    refine lv_bipush (pc := 8) (v := (-2)) hC.x hC.b d_GR_compare_8 (by decide) ?_
    refine W.widen (k := 1) (n := 200) (by omega) (by omega) ?_
    exact wr_i (pc := 10) hC hr hlk (by rw [hH]; exact hS) d_GR_compare_10 (Or.inl ⟨(Or.inr hx), rfl⟩) hGW
  · refine k_GR_124_GR_isKept (pc := 2) hC hG hI hl.1 (Nat.le_of_ble_eq_true rfl) ⟨Nat.le_of_ble_eq_true rfl, Nat.le_of_ble_eq_true rfl⟩ ⟨Nat.zero_le _, Nat.zero_le _⟩ d_GR_compare_2 ?_
    refine tp_i (y := 1) (if_neg (fun z => z.elim (nI_pos (by omega)) (nI_ge hj (by omega)))) ?_
    refine lv_if_ne (pc := 5) (tgt := 11) hC.x hC.b d_GR_compare_5 (by decide) (fun c_5 => ?_) (fun c_5 => ?_)
    · refine lv_aload_n (pc := 11) hC.x hC.b d_GR_compare_11 rfl (lv_at hl 0 rfl) ?_
      refine fg_GR_31 (pc := 12) hC hP 0 rfl rfl d_GR_compare_12 ?_
      refine lv_iload_n (pc := 15) hC.x hC.b d_GR_compare_15 rfl (lv_at hl 1 rfl) ?_
      obtain ⟨a, ha, c1, d, f, g, hm1, hm2, hm3, hsd, hsu⟩ := hkp j hj
      have hkj := (hkr j hj).1
      have ho := one_of hP hm1
      have hc1 := one_of hP hm2
      refine ald_q (pc := 16) (t0 := 4) hC hP 6 j rfl rfl rfl (by omega) (by decide) ha d_GR_compare_16 ?_
      refine lv_astore_n (pc := 17) (lv' := [(2, .ref a), (0, .ref (ad 0)), (1, .int (nI j))]) hC.x hC.b d_GR_compare_17 rfl hl (by decide) rfl (fun ls hl => ?_)
      refine lv_aload_n (pc := 18) hC.x hC.b d_GR_compare_18 rfl (lv_at hl 1 rfl) ?_
      refine lv_aload_n (pc := 19) hC.x hC.b d_GR_compare_19 rfl (lv_at hl 1 rfl) ?_
      refine fg_GR_40 (pc := 20) hC hP 0 rfl rfl d_GR_compare_20 ?_
      refine k_GR_81_GR_sum (pc := 23) hC hG hI hl.1 (Nat.le_of_ble_eq_true rfl) ⟨Nat.le_of_ble_eq_true rfl, Nat.le_of_ble_eq_true rfl⟩ ⟨Nat.zero_le _, Nat.zero_le _⟩ d_GR_compare_23 ?_
      refine tp_l (y := S.sum S.n) (sumA_n hn) ?_
      refine lv_aload_n (pc := 26) hC.x hC.b d_GR_compare_26 rfl (lv_at hl 0 rfl) ?_
      refine fg_GR_128 (pc := 27) hC ho 0 rfl rfl d_GR_compare_27 ?_
      refine k_GR_131_LO_compare (pc := 30) hC hl.1 (Nat.le_of_ble_eq_true rfl) ⟨Nat.le_of_ble_eq_true rfl, Nat.le_of_ble_eq_true rfl⟩ ⟨Nat.zero_le _, Nat.zero_le _⟩ d_GR_compare_30 ?_
      refine lv_istore_n (pc := 33) (lv' := [(3, .int (l3 (S.sum S.n) (sm S.W S.E (S.kr j) (S.ks j)))), (2, .ref a), (0, .ref (ad 0)), (1, .int (nI j))]) hC.x hC.b d_GR_compare_33 rfl hl (by decide) rfl (fun ls hl => ?_)
      refine lv_iload_n (pc := 34) hC.x hC.b d_GR_compare_34 rfl (lv_at hl 0 rfl) ?_
      refine jn (fun g' => ∃ ls, g' = F0 m 51 ls [] ∧ lv_has ls 6 [(3, .int (cm1 (S.sum S.n) (sm S.W S.E (S.kr j) (S.ks j)) S.n (S.ks j))), (2, .ref a), (0, .ref (ad 0)), (1, .int (nI j))]) ?_ ?_
      · rintro _ ⟨ls, rfl, hl⟩
        refine lv_aload_n (pc := 51) hC.x hC.b d_GR_compare_51 rfl (lv_at hl 2 rfl) ?_
        refine k_GR_144_GR_sortedCosts (pc := 52) hC hG hI hA hS hl.1 (Nat.le_of_ble_eq_true rfl) ⟨Nat.le_of_ble_eq_true rfl, Nat.le_of_ble_eq_true rfl⟩ ⟨Nat.le_of_ble_eq_true rfl, Nat.le_of_ble_eq_true rfl⟩ d_GR_compare_52 (fun r f1 H1 locs hsd1 hP hD hS => ?_)
        refine lv_astore (pc := 55) (lv' := [(4, .ref r), (3, .int (cm1 (S.sum S.n) (sm S.W S.E (S.kr j) (S.ks j)) S.n (S.ks j))), (2, .ref a), (0, .ref (ad 0)), (1, .int (nI j))]) hC.x hC.b d_GR_compare_55 hl (by decide) rfl (fun ls hl => ?_)
        refine lv_iconst (pc := 57) (v := nI 0) hC.x hC.b d_GR_compare_57 (by decide) ?_
        refine lv_istore (pc := 58) (lv' := [(5, .int (nI 0)), (4, .ref r), (3, .int (cm1 (S.sum S.n) (sm S.W S.E (S.kr j) (S.ks j)) S.n (S.ks j))), (2, .ref a), (0, .ref (ad 0)), (1, .int (nI j))]) hC.x hC.b d_GR_compare_58 hl (by decide) rfl (fun ls hl => ?_)
        have ho := one_of hP (List.mem_append_left _ hm1)
        have hc1 := one_of hP (List.mem_append_left _ hm2)
        refine lpW (pc := 60) (I := fun i ls => ∃ c0 : Int32, lv_has ls 6 [(5, .int (nI i)), (4, .ref r), (3, .int c0), (2, .ref a), (0, .ref (ad 0)), (1, .int (nI j))] ∧ (cl f1 f (S.n - i) i c0 = cl f1 f S.n 0 (cm1 (S.sum S.n) (sm S.W S.E (S.kr j) (S.ks j)) S.n (S.ks j)) ∧ (c0 = 0 → S.n = S.ks j))) (S.n) ?_ ?_ (0) (Nat.zero_le _) ⟨_, (lv_sub hl [0, 1, 2, 3, 4, 5] rfl), rfl, fun z => by
          unfold cm1 at z
          by_cases h0 : l3 (S.sum S.n) (sm S.W S.E (S.kr j) (S.ks j)) = 0
          · rw [if_pos h0] at z; exact i3_0 z
          · rw [if_neg h0] at z; exact absurd z h0⟩
        · intro ls hI
          obtain ⟨c0, hl, hv⟩ := hI
          refine lv_iload (pc := 60) hC.x hC.b d_GR_compare_60 (lv_at hl 0 rfl) ?_
          refine lv_aload_n (pc := 62) hC.x hC.b d_GR_compare_62 rfl (lv_at hl 4 rfl) ?_
          refine fg_GR_40 (pc := 63) hC hP 0 rfl rfl d_GR_compare_63 ?_
          refine ni_ge (pc := 66) (tgt := 95) hC d_GR_compare_66 (by decide) (by omega) (by omega) (fun c_66 => ?_) (fun c_66 => ?_)
          · refine lv_iload_n (pc := 95) hC.x hC.b d_GR_compare_95 rfl (lv_at hl 2 rfl) ?_
            exact wr_i (pc := 96) hC hr hlk (by rw [hH]; exact hS) d_GR_compare_96 (Or.inr ⟨j, hj, rfl, f1, f, hsd1, hsd, (by rw [Nat.sub_self] at hv; exact hv.1)⟩) ⟨sf, kf, _, hG.more hP hD⟩
          · exact absurd c_66 (Nat.lt_irrefl _)
        · intro i ls hj2 hI ih
          obtain ⟨c0, hl, hv⟩ := hI
          refine lv_iload (pc := 60) hC.x hC.b d_GR_compare_60 (lv_at hl 0 rfl) ?_
          refine lv_aload_n (pc := 62) hC.x hC.b d_GR_compare_62 rfl (lv_at hl 4 rfl) ?_
          refine fg_GR_40 (pc := 63) hC hP 0 rfl rfl d_GR_compare_63 ?_
          refine ni_ge (pc := 66) (tgt := 95) hC d_GR_compare_66 (by decide) (by omega) (by omega) (fun c_66 => ?_) (fun c_66 => ?_)
          · exact absurd c_66 (by omega)
          refine lv_iload_n (pc := 69) hC.x hC.b d_GR_compare_69 rfl (lv_at hl 2 rfl) ?_
          refine lv_if_ne (pc := 70) (tgt := 95) hC.x hC.b d_GR_compare_70 (by decide) (fun c_70 => ?_) (fun c_70 => ?_)
          · refine lv_iload_n (pc := 95) hC.x hC.b d_GR_compare_95 rfl (lv_at hl 2 rfl) ?_
            exact wr_i (pc := 96) hC hr hlk (by rw [hH]; exact hS) d_GR_compare_96 (Or.inr ⟨j, hj, rfl, f1, f, hsd1, hsd, (by rw [← hv.1, cl_ne c_70])⟩) ⟨sf, kf, _, hG.more hP hD⟩
          subst c_70
          have hnk2 := hv.2 rfl
          refine lv_aload (pc := 73) hC.x hC.b d_GR_compare_73 (lv_at hl 1 rfl) ?_
          refine lv_iload (pc := 75) hC.x hC.b d_GR_compare_75 (lv_at hl 0 rfl) ?_
          refine ald_l (pc := 77) hC hP ((gx dA ad S sf kf).length + L.length) (i) at_e rfl (by omega) (by omega) d_GR_compare_77 ?_
          refine lv_aload_n (pc := 78) hC.x hC.b d_GR_compare_78 rfl (lv_at hl 3 rfl) ?_
          refine fg_GR_137 (pc := 79) hC ho 0 rfl rfl d_GR_compare_79 ?_
          refine lv_iload (pc := 82) hC.x hC.b d_GR_compare_82 (lv_at hl 0 rfl) ?_
          refine ald_l (pc := 84) hC hc1 0 (i) rfl rfl (by omega) (by omega) d_GR_compare_84 ?_
          refine k_GR_131_LO_compare (pc := 85) hC hl.1 (Nat.le_of_ble_eq_true rfl) ⟨Nat.le_of_ble_eq_true rfl, Nat.le_of_ble_eq_true rfl⟩ ⟨Nat.le_of_ble_eq_true rfl, Nat.le_of_ble_eq_true rfl⟩ d_GR_compare_85 ?_
          refine lv_istore_n (pc := 88) (lv' := [(3, .int (l3 (f1 i) (f i))), (5, .int (nI i)), (4, .ref r), (2, .ref a), (0, .ref (ad 0)), (1, .int (nI j))]) hC.x hC.b d_GR_compare_88 rfl hl (by decide) rfl (fun ls hl => ?_)
          refine lv_iinc (pc := 89) (v := nI (i + 1)) (lv' := [(5, .int (nI (i + 1))), (3, .int (l3 (f1 i) (f i))), (4, .ref r), (2, .ref a), (0, .ref (ad 0)), (1, .int (nI j))]) hC.x hC.b d_GR_compare_89 hl (k := 1) rfl (nI_1 _) (by decide) rfl (fun ls hl => ?_)
          refine lv_goto (pc := 92) (tgt := 60) hC.x hC.b d_GR_compare_92 (by decide) ?_
          have e1 : S.n - i = (S.n - (i + 1)) + 1 := by omega
          rw [e1, cl_go] at hv
          exact ih ls ⟨_, (lv_sub hl [0, 2, 1, 3, 4, 5] rfl), hv.1, fun _ => hnk2⟩
      · intro tail
        refine lv_if_ne (pc := 35) (tgt := 51) hC.x hC.b d_GR_compare_35 (by decide) (fun c_35 => ?_) (fun c_35 => ?_)
        · refine tail _ ⟨ls, rfl, ?_⟩
          rw [show cm1 (S.sum S.n) (sm S.W S.E (S.kr j) (S.ks j)) S.n (S.ks j) = l3 (S.sum S.n) (sm S.W S.E (S.kr j) (S.ks j)) from if_neg c_35]
          exact (lv_sub hl [0, 1, 2, 3] rfl)
        refine lv_aload_n (pc := 38) hC.x hC.b d_GR_compare_38 rfl (lv_at hl 2 rfl) ?_
        refine fg_GR_40 (pc := 39) hC hP 0 rfl rfl d_GR_compare_39 ?_
        refine lv_aload_n (pc := 42) hC.x hC.b d_GR_compare_42 rfl (lv_at hl 1 rfl) ?_
        refine fg_GR_137 (pc := 43) hC ho 0 rfl rfl d_GR_compare_43 ?_
        refine alen (pc := 46) hC hc1 0 1 rfl rfl (n := S.ks j) rfl d_GR_compare_46 ?_
        refine k_GR_140_IN_compare (pc := 47) hC (by omega) (by omega) hl.1 (Nat.le_of_ble_eq_true rfl) ⟨Nat.le_of_ble_eq_true rfl, Nat.le_of_ble_eq_true rfl⟩ ⟨Nat.zero_le _, Nat.zero_le _⟩ d_GR_compare_47 ?_
        refine lv_istore_n (pc := 50) (lv' := [(3, .int (i3 S.n (S.ks j))), (2, .ref a), (0, .ref (ad 0)), (1, .int (nI j))]) hC.x hC.b d_GR_compare_50 rfl hl (by decide) rfl (fun ls hl => ?_)
        refine tail _ ⟨ls, rfl, ?_⟩
        rw [show cm1 (S.sum S.n) (sm S.W S.E (S.kr j) (S.ks j)) S.n (S.ks j) = i3 S.n (S.ks j) from if_pos c_35]
        exact (lv_sub hl [0, 1, 2, 3] rfl)
    · exact absurd c_5 (by decide)
set_option maxHeartbeats 4000000 in
set_option maxRecDepth 100000 in
theorem c_GR_same (l : Launch) {A : Nat → Prop} {ad : Nat → Nat} {S : St} {D : va_G} {dA : Nat → ClassId} {H : Heap} (hG : GW D dA A ad S H) (hI : Inv S) (hA : ∀ q, H.size ≤ q → A q) {x : Int32} : Met l y_GR_same (wd y_GR_same b_GR_same 4 (some .boolean)) ({ frames := 2, cells := 1, slots := 200, locals := 44 } : Room) (va_Pc [.ref (ad 0), .int x] (PX D dA H)) (QI (fun rr => S.sameX x rr) (fun H1 => GW D dA A ad S H1) A) 1 200 A := by
  refine mkMet (by decide) (Nat.le_of_ble_eq_true rfl) ?_
  intro p e s m below meth c ls hC hr hlk hnm hl hH
  have hl : lv_has ls 4 [(0, .ref (ad 0)), (1, .int x)] := hl
  have hGW := hG
  obtain ⟨sf, kf, L, hG⟩ := hG
  obtain ⟨hP, hD, hst, hkp⟩ := id hG
  obtain ⟨hnr, hn, hcur, hnc, hnk, hWE, hrow, hkr, hcl, hdj⟩ := id hI
  have hS : va_S A H H [] := va_S.rf
  refine lv_aload_n (pc := 0) hC.x hC.b d_GR_same_0 rfl (lv_at hl 0 rfl) ?_
  refine lv_iload_n (pc := 1) hC.x hC.b d_GR_same_1 rfl (lv_at hl 1 rfl) ?_
  rcases pk_ix x (n := S.nk) (by omega) with hx | hx | ⟨j, hj, rfl⟩
  · refine k_GR_124_GR_isKept (pc := 2) hC hG hI hl.1 (Nat.le_of_ble_eq_true rfl) ⟨Nat.le_of_ble_eq_true rfl, Nat.le_of_ble_eq_true rfl⟩ ⟨Nat.zero_le _, Nat.zero_le _⟩ d_GR_same_2 ?_
    refine tp_i (y := 0) (if_pos (Or.inl hx)) ?_
    refine lv_if_eq (pc := 5) (tgt := 25) hC.x hC.b d_GR_same_5 (by decide) (fun c_5 => ?_) (fun c_5 => ?_)
    · refine lv_iconst (pc := 25) (v := 0) hC.x hC.b d_GR_same_25 (by decide) ?_
      refine W.widen (k := 1) (n := 200) (by omega) (by omega) ?_
      exact wr_z (pc := 26) hC hr hlk (by rw [hH]; exact hS) d_GR_same_26 (by decide) (Or.inl ⟨(Or.inl hx), rfl⟩) hGW
    · exact absurd rfl c_5
  · refine k_GR_124_GR_isKept (pc := 2) hC hG hI hl.1 (Nat.le_of_ble_eq_true rfl) ⟨Nat.le_of_ble_eq_true rfl, Nat.le_of_ble_eq_true rfl⟩ ⟨Nat.zero_le _, Nat.zero_le _⟩ d_GR_same_2 ?_
    refine tp_i (y := 0) (if_pos (Or.inr hx)) ?_
    refine lv_if_eq (pc := 5) (tgt := 25) hC.x hC.b d_GR_same_5 (by decide) (fun c_5 => ?_) (fun c_5 => ?_)
    · refine lv_iconst (pc := 25) (v := 0) hC.x hC.b d_GR_same_25 (by decide) ?_
      refine W.widen (k := 1) (n := 200) (by omega) (by omega) ?_
      exact wr_z (pc := 26) hC hr hlk (by rw [hH]; exact hS) d_GR_same_26 (by decide) (Or.inl ⟨(Or.inr hx), rfl⟩) hGW
    · exact absurd rfl c_5
  · refine k_GR_124_GR_isKept (pc := 2) hC hG hI hl.1 (Nat.le_of_ble_eq_true rfl) ⟨Nat.le_of_ble_eq_true rfl, Nat.le_of_ble_eq_true rfl⟩ ⟨Nat.zero_le _, Nat.zero_le _⟩ d_GR_same_2 ?_
    refine tp_i (y := 1) (if_neg (fun z => z.elim (nI_pos (by omega)) (nI_ge hj (by omega)))) ?_
    refine lv_if_eq (pc := 5) (tgt := 25) hC.x hC.b d_GR_same_5 (by decide) (fun c_5 => ?_) (fun c_5 => ?_)
    · exact absurd c_5 (by decide)
    obtain ⟨a, ha, c1, d, f, g, hm1, hm2, hm3, hsd, hsu⟩ := hkp j hj
    have hkj := (hkr j hj).1
    have ho := one_of hP hm1
    have hd := one_of hP hm3
    refine lv_aload_n (pc := 8) hC.x hC.b d_GR_same_8 rfl (lv_at hl 0 rfl) ?_
    refine fg_GR_31 (pc := 9) hC hP 0 rfl rfl d_GR_same_9 ?_
    refine lv_iload_n (pc := 12) hC.x hC.b d_GR_same_12 rfl (lv_at hl 1 rfl) ?_
    refine ald_q (pc := 13) (t0 := 4) hC hP 6 j rfl rfl rfl (by omega) (by decide) ha d_GR_same_13 ?_
    refine fg_GR_148 (pc := 14) hC ho 0 rfl rfl d_GR_same_14 ?_
    refine alen (pc := 17) hC hd 0 0 rfl rfl (n := S.ks j) rfl d_GR_same_17 ?_
    refine lv_aload_n (pc := 18) hC.x hC.b d_GR_same_18 rfl (lv_at hl 0 rfl) ?_
    refine fg_GR_40 (pc := 19) hC hP 0 rfl rfl d_GR_same_19 ?_
    refine ni_eq (pc := 22) (tgt := 27) hC d_GR_same_22 (by decide) (by omega) (by omega) (fun c_22 => ?_) (fun c_22 => ?_)
    · refine lv_aload_n (pc := 27) hC.x hC.b d_GR_same_27 rfl (lv_at hl 0 rfl) ?_
      refine k_GR_151_GR_sortedCodes (pc := 28) hC hG hI hA hS hl.1 (Nat.le_of_ble_eq_true rfl) ⟨Nat.le_of_ble_eq_true rfl, Nat.le_of_ble_eq_true rfl⟩ ⟨Nat.le_of_ble_eq_true rfl, Nat.le_of_ble_eq_true rfl⟩ d_GR_same_28 (fun r f1 H1 locs hsu1 hP hD hS => ?_)
      have ho := one_of hP (List.mem_append_left _ hm1)
      have hd := one_of hP (List.mem_append_left _ hm3)
      refine lv_astore_n (pc := 31) (lv' := [(2, .ref r), (0, .ref (ad 0)), (1, .int (nI j))]) hC.x hC.b d_GR_same_31 rfl hl (by decide) rfl (fun ls hl => ?_)
      refine lv_iconst (pc := 32) (v := nI 0) hC.x hC.b d_GR_same_32 (by decide) ?_
      refine lv_istore_n (pc := 33) (lv' := [(3, .int (nI 0)), (2, .ref r), (0, .ref (ad 0)), (1, .int (nI j))]) hC.x hC.b d_GR_same_33 rfl hl (by decide) rfl (fun ls hl => ?_)
      refine lpW (pc := 34) (I := fun i ls => lv_has ls 4 [(3, .int (nI i)), (2, .ref r), (0, .ref (ad 0)), (1, .int (nI j))] ∧ (∀ q, q < i → f1 q = g q)) (S.n) ?_ ?_ (0) (Nat.zero_le _) ⟨(lv_sub hl [0, 1, 2, 3] rfl), fun _ h => absurd h (Nat.not_lt_zero _)⟩
      · intro ls hI
        obtain ⟨hl, hv⟩ := hI
        refine lv_iload_n (pc := 34) hC.x hC.b d_GR_same_34 rfl (lv_at hl 0 rfl) ?_
        refine lv_aload_n (pc := 35) hC.x hC.b d_GR_same_35 rfl (lv_at hl 2 rfl) ?_
        refine fg_GR_40 (pc := 36) hC hP 0 rfl rfl d_GR_same_36 ?_
        refine ni_ge (pc := 39) (tgt := 67) hC d_GR_same_39 (by decide) (by omega) (by omega) (fun c_39 => ?_) (fun c_39 => ?_)
        · refine lv_iconst (pc := 67) (v := 1) hC.x hC.b d_GR_same_67 (by decide) ?_
          exact wr_z (pc := 68) hC hr hlk (by rw [hH]; exact hS) d_GR_same_68 (by decide) (Or.inr ⟨j, hj, rfl, Or.inr ⟨c_22, f1, g, hsu1, hsu, (if_pos hv).symm⟩⟩) ⟨sf, kf, _, hG.more hP hD⟩
        · exact absurd c_39 (Nat.lt_irrefl _)
      · intro i ls hj2 hI ih
        obtain ⟨hl, hv⟩ := hI
        refine lv_iload_n (pc := 34) hC.x hC.b d_GR_same_34 rfl (lv_at hl 0 rfl) ?_
        refine lv_aload_n (pc := 35) hC.x hC.b d_GR_same_35 rfl (lv_at hl 2 rfl) ?_
        refine fg_GR_40 (pc := 36) hC hP 0 rfl rfl d_GR_same_36 ?_
        refine ni_ge (pc := 39) (tgt := 67) hC d_GR_same_39 (by decide) (by omega) (by omega) (fun c_39 => ?_) (fun c_39 => ?_)
        · exact absurd c_39 (by omega)
        refine lv_aload_n (pc := 42) hC.x hC.b d_GR_same_42 rfl (lv_at hl 1 rfl) ?_
        refine lv_iload_n (pc := 43) hC.x hC.b d_GR_same_43 rfl (lv_at hl 0 rfl) ?_
        refine ald_i (pc := 44) hC hP ((gx dA ad S sf kf).length + L.length) (i) at_e rfl (by omega) (by omega) d_GR_same_44 ?_
        refine lv_aload_n (pc := 45) hC.x hC.b d_GR_same_45 rfl (lv_at hl 2 rfl) ?_
        refine fg_GR_31 (pc := 46) hC hP 0 rfl rfl d_GR_same_46 ?_
        refine lv_iload_n (pc := 49) hC.x hC.b d_GR_same_49 rfl (lv_at hl 3 rfl) ?_
        refine ald_q (pc := 50) (t0 := 4) hC hP 6 j rfl rfl rfl (by omega) (by decide) ha d_GR_same_50 ?_
        refine fg_GR_148 (pc := 51) hC ho 0 rfl rfl d_GR_same_51 ?_
        refine lv_iload_n (pc := 54) hC.x hC.b d_GR_same_54 rfl (lv_at hl 0 rfl) ?_
        refine ald_i (pc := 55) hC hd 0 (i) rfl rfl (by omega) (by omega) d_GR_same_55 ?_
        refine lv_icmp_eq (pc := 56) (tgt := 61) hC.x hC.b d_GR_same_56 (by decide) (fun c_56 => ?_) (fun c_56 => ?_)
        · refine lv_iinc (pc := 61) (v := nI (i + 1)) (lv' := [(3, .int (nI (i + 1))), (2, .ref r), (0, .ref (ad 0)), (1, .int (nI j))]) hC.x hC.b d_GR_same_61 hl (k := 0) rfl (nI_1 _) (by decide) rfl (fun ls hl => ?_)
          refine lv_goto (pc := 64) (tgt := 34) hC.x hC.b d_GR_same_64 (by decide) ?_
          exact ih ls ⟨(lv_sub hl [0, 1, 2, 3] rfl), fun q hq => if e1 : q = i then e1 ▸ c_56 else hv q (by omega)⟩
        refine lv_iconst (pc := 59) (v := 0) hC.x hC.b d_GR_same_59 (by decide) ?_
        exact wr_z (pc := 60) hC hr hlk (by rw [hH]; exact hS) d_GR_same_60 (by decide) (Or.inr ⟨j, hj, rfl, Or.inr ⟨c_22, f1, g, hsu1, hsu, (if_neg (fun z => c_56 (z i hj2))).symm⟩⟩) ⟨sf, kf, _, hG.more hP hD⟩
    refine lv_iconst (pc := 25) (v := 0) hC.x hC.b d_GR_same_25 (by decide) ?_
    refine W.widen (k := 1) (n := 200) (by omega) (by omega) ?_
    exact wr_z (pc := 26) hC hr hlk (by rw [hH]; exact hS) d_GR_same_26 (by decide) (Or.inr ⟨j, hj, rfl, Or.inl ⟨c_22, rfl⟩⟩) hGW
set_option maxHeartbeats 4000000 in
set_option maxRecDepth 100000 in
theorem c_GR_init (l : Launch) {A : Nat → Prop} {D : va_G} {dA : Nat → ClassId} {H : Heap} {a : Nat} (hP : va_P D classes [(a, .inr (0, [.null, .null, .int 0, .null, .int 0, .int 0, .null, .null, .int 0, .null, .int 0]))] H) (hD : va_D A [(a, .inr (0, [.null, .null, .int 0, .null, .int 0, .int 0, .null, .null, .int 0, .null, .int 0]))]) (hA : ∀ q, H.size ≤ q → A q) : Met l y_GR_init (wd y_GR_init b_GR_init 1 none) ({ frames := 1, cells := 6, slots := 330, locals := 12 } : Room) (va_Pc [.ref a] (PX D dA H)) (QV (fun H1 => ∃ ad : Nat → Nat, ad 0 = a ∧ GW D dA A ad S0 H1) A) 6 330 A := by
  refine mkMet (by decide) (Nat.le_of_ble_eq_true rfl) ?_
  intro p e s m below meth c ls hC hr hlk hnm hl hH
  have hl : lv_has ls 1 [(0, .ref a)] := hl
  have hS : va_S A H H [] := va_S.rf
  refine lv_aload_n (pc := 0) hC.x hC.b d_GR_init_0 rfl (lv_at hl 0 rfl) ?_
  refine obj0 (pc := 1) hC tw_15 hl.1 d_GR_init_1 (Nat.le_of_ble_eq_true rfl) (Nat.le_of_ble_eq_true rfl) ?_
  refine lv_aload_n (pc := 4) hC.x hC.b d_GR_init_4 rfl (lv_at hl 0 rfl) ?_
  refine lv_bipush (pc := 5) (v := nI 40) hC.x hC.b d_GR_init_5 (by decide) ?_
  refine newa_i (pc := 7) hC hP hD hS hA (by decide) (Nat.le_of_ble_eq_true rfl) (Nat.le_of_ble_eq_true rfl) d_GR_init_7 (fun q1 K0 hP hD hS => ?_)
  refine fp_GR_9 (pc := 9) hC hnm hP hD hS 0 rfl (Nat.le_of_ble_eq_true rfl) d_GR_init_9 (fun H1 locs hP hD hS => ?_)
  refine lv_aload_n (pc := 12) hC.x hC.b d_GR_init_12 rfl (lv_at hl 0 rfl) ?_
  refine lv_bipush (pc := 13) (v := nI 40) hC.x hC.b d_GR_init_13 (by decide) ?_
  refine newa_i (pc := 15) hC hP hD hS hA (by decide) (Nat.le_of_ble_eq_true rfl) (Nat.le_of_ble_eq_true rfl) d_GR_init_15 (fun q2 K1 hP hD hS => ?_)
  refine fp_GR_13 (pc := 17) hC hnm hP hD hS 0 rfl (Nat.le_of_ble_eq_true rfl) d_GR_init_17 (fun H2 locs hP hD hS => ?_)
  refine lv_aload_n (pc := 20) hC.x hC.b d_GR_init_20 rfl (lv_at hl 0 rfl) ?_
  refine lv_sipush (pc := 21) (v := nI 200) hC.x hC.b d_GR_init_21 (by decide) ?_
  refine newa_s (pc := 24) hC tw_18 hP hD hS hA (by decide) (Nat.le_of_ble_eq_true rfl) (Nat.le_of_ble_eq_true rfl) d_GR_init_24 (fun q3 K2 hP hD hS => ?_)
  refine fp_GR_18 (pc := 27) hC hnm hP hD hS 0 rfl (Nat.le_of_ble_eq_true rfl) d_GR_init_27 (fun H3 locs hP hD hS => ?_)
  refine lv_aload_n (pc := 30) hC.x hC.b d_GR_init_30 rfl (lv_at hl 0 rfl) ?_
  refine lv_bipush (pc := 31) (v := nI 20) hC.x hC.b d_GR_init_31 (by decide) ?_
  refine newa_l (pc := 33) hC hP hD hS hA (by decide) (Nat.le_of_ble_eq_true rfl) (Nat.le_of_ble_eq_true rfl) d_GR_init_33 (fun q4 K3 hP hD hS => ?_)
  refine fp_GR_22 (pc := 35) hC hnm hP hD hS 0 rfl (Nat.le_of_ble_eq_true rfl) d_GR_init_35 (fun H4 locs hP hD hS => ?_)
  refine lv_aload_n (pc := 38) hC.x hC.b d_GR_init_38 rfl (lv_at hl 0 rfl) ?_
  refine lv_bipush (pc := 39) (v := nI 20) hC.x hC.b d_GR_init_39 (by decide) ?_
  refine newa_l (pc := 41) hC hP hD hS hA (by decide) (Nat.le_of_ble_eq_true rfl) (Nat.le_of_ble_eq_true rfl) d_GR_init_41 (fun q5 K4 hP hD hS => ?_)
  refine fp_GR_26 (pc := 43) hC hnm hP hD hS 0 rfl (Nat.le_of_ble_eq_true rfl) d_GR_init_43 (fun H5 locs hP hD hS => ?_)
  refine lv_aload_n (pc := 46) hC.x hC.b d_GR_init_46 rfl (lv_at hl 0 rfl) ?_
  refine lv_bipush (pc := 47) (v := nI 10) hC.x hC.b d_GR_init_47 (by decide) ?_
  refine newa_k (pc := 49) hC tw_20 hP hD hS hA (by decide) (Nat.le_of_ble_eq_true rfl) (Nat.le_of_ble_eq_true rfl) d_GR_init_49 (fun q6 K5 hP hD hS => ?_)
  refine fp_GR_31 (pc := 52) hC hnm hP hD hS 0 rfl (Nat.le_of_ble_eq_true rfl) d_GR_init_52 (fun H6 locs hP hD hS => ?_)
  have hP : va_P D classes (gx dA (fun i => [a, q1, q2, q3, q4, q5, q6].getD i 0) S0 (fun _ => none) (fun _ => none) ++ []) H6 := hP
  have hD : va_D A (gx dA (fun i => [a, q1, q2, q3, q4, q5, q6].getD i 0) S0 (fun _ => none) (fun _ => none) ++ []) := hD
  exact wr_v (pc := 55) hC hr hlk (by rw [hH]; exact hS) d_GR_init_55 ⟨(fun i => [a, q1, q2, q3, q4, q5, q6].getD i 0), rfl, _, _, _, hP, hD, fun k hk => absurd hk (Nat.not_lt_zero _), fun k hk => absurd hk (Nat.not_lt_zero _)⟩
end GRKEPT
end
section
section GMRO
variable {p : Program} {e : Env} {R : Room} {s : State} {m : MethodId} {args : Array Value} {below : List Frame} {meth : Method} {c : Code} {locs : List Loc} {cells slots : Nat} {Q : State → Prop}
variable {cc : ByteArray} {pc nL : Nat} {ls : Array Slot} {rest : List Value} {own : String} {l : Launch} {D : va_G} {dA : Nat → ClassId} {A : Nat → Prop} {H H0 : Heap} {S : St} {ad md : Nat → Nat}
/-- a row of steps: that which is now (10), or a kept one -/
def RowOf (S : St) (ro N : Nat) (rw : Nat → T3) : Prop := (ro = 10 ∧ N = S.n ∧ rw = S.row) ∨ (ro < S.nk ∧ N = S.ks ro ∧ rw = S.kr ro)
theorem RowOf.now (S : St) : RowOf S 10 S.n S.row := Or.inl ⟨rfl, rfl, rfl⟩
theorem RowOf.kept {S : St} {j : Nat} (h : j < S.nk) : RowOf S j (S.ks j) (S.kr j) := Or.inr ⟨h, rfl, rfl⟩
theorem RowOf.facts {S : St} {ro N : Nat} {rw : Nat → T3} {sz br wh wi : Nat → Int32} (h : RowOf S ro N rw) (hI : Inv S) (hR : Rows S sz br wh wi) : RowAt br wh wi ro N rw ∧ sz ro = nI N ∧ ro ≤ 10 ∧ N ≤ 200 ∧ ∀ k, k < N → okT S.nr (rw k) := by
  obtain ⟨hnr, hn, hcur, hnc, hnk, hWE, hrow, hkr, hcl, hdj⟩ := hI
  rcases h with ⟨rfl, rfl, rfl⟩ | ⟨h1, rfl, rfl⟩
  · exact ⟨hR.2.1, hR.1, Nat.le_refl _, hn, hrow⟩
  · exact ⟨(hR.2.2 ro h1).2, (hR.2.2 ro h1).1, by omega, (hkr ro h1).1, (hkr ro h1).2⟩
def St.rankM (S : St) : Int32 := if S.grade < 0 then -1 else nI (cnt (fun k => S.hi k < S.sum S.n) S.nc)
theorem Frs_up {r : Nat → T3} {x : Int32} {j : Nat} (h : Frs r x j) (h1 : ¬ (r j).1 = x) : Frs r x (j + 1) := fun i hi => if z : i = j then z ▸ h1 else h i (by omega)
abbrev lkP (rw : Nat → T3) (t : T3) : Nat → Prop := fun i => (rw i).1 = t.1 ∧ (rw i).2.1 = t.2.1 ∧ (rw i).2.2 = t.2.2
theorem hd_mx {a : Int64} : (if a < 0 then 0 else a) = if 0 < a then a else 0 := by
  by_cases h : a < 0
  · rw [if_pos h, if_neg (Int64.not_lt.mpr (Int64.le_of_lt h))]
  · rw [if_neg h]
    by_cases h2 : 0 < a
    · rw [if_pos h2]
    · rw [if_neg h2]
      exact Int64.le_antisymm (Int64.not_lt.mp h2) (Int64.not_lt.mp h)
set_option maxHeartbeats 4000000 in
set_option maxRecDepth 100000 in
theorem c_GM_count (l : Launch) {A : Nat → Prop} {md : Nat → Nat} {S : St} {D : va_G} {dA : Nat → ClassId} {H : Heap} (hM : MW D dA A md S H) (hI : Inv S) : Met l y_GM_count (wd y_GM_count b_GM_count 1 (some .int)) ({ frames := 0, cells := 0, slots := 0, locals := 0 } : Room) (va_Pc [.ref (md 0)] (PX D dA H)) (vp_Si (fun r => r = nI S.n)) 0 0 (fun _ => False) := by
  refine mkMet (by decide) (Nat.le_of_ble_eq_true rfl) ?_
  intro p e s m below meth c ls hC hr hlk hnm hl hH
  have hl : lv_has ls 1 [(0, .ref (md 0))] := hl
  obtain ⟨sz, br, wh, wi, sn, mi, th, hP, hD, hR⟩ := id hM
  obtain ⟨hnr, hn, hcur, hnc, hnk, hWE, hrow, hkr, hcl, hdj⟩ := id hI
  refine lv_aload_n (pc := 0) hC.x hC.b d_GM_count_0 rfl (lv_at hl 0 rfl) ?_
  refine fg_GM_16 (pc := 1) hC hP 0 rfl rfl d_GM_count_1 ?_
  refine lv_bipush (pc := 4) (v := nI 10) hC.x hC.b d_GM_count_4 (by decide) ?_
  refine ald_i (pc := 6) hC hP 3 (10) rfl rfl (by omega) (by decide) d_GM_count_6 ?_
  exact ro_i (pc := 7) hC hr hlk hH d_GM_count_7 hR.1
set_option maxHeartbeats 4000000 in
set_option maxRecDepth 100000 in
theorem k_GM_53_GM_count (hC : CX p m c cc nL s args R_GM D dA) (hM : MW D dA A md S H) (hI : Inv S) (hsz : ls.size = nL) (hW : (rest.map fun v => v.category).sum ≤ 8) (hR : 0 + 1 ≤ R.frames ∧ 8 + (1 + 11) + 0 ≤ R.locals) (hf : cells + 0 ≤ R.cells ∧ slots + 0 ≤ R.slots) (hdg : decode cc pc = .ok (.invokevirtual 53, 3)) (kk : W p l e R s m args below meth c H locs cells slots Q (F0 m (pc + 3) ls (.int (nI S.n) :: rest))) : W p l e R s m args below meth c H locs cells slots Q (F0 m pc ls (.ref (md 0) :: rest)) :=
  vp_callSi (va_Run.run (runV hC (c_GM_count l hM hI) tw_355 tw_352 tw_354 ts_7 tw_2 ⟨by decide +kernel, by decide +kernel, rfl⟩ rfl rfl (ci := 4) rfl rfl ((by obtain ⟨_, _, _, _, _, _, _, hP, _⟩ := hM; exact hP 0 _ rfl)) hsz rfl hW hR hf hdg)) (fun r hr => by rw [hr]; exact kk)
set_option maxHeartbeats 4000000 in
set_option maxRecDepth 100000 in
theorem c_GM_costOf (l : Launch) {A : Nat → Prop} {md : Nat → Nat} {S : St} {D : va_G} {dA : Nat → ClassId} {H : Heap} (hM : MW D dA A md S H) (hI : Inv S) {ro N k : Nat} {rw : Nat → T3} (hrw : RowOf S ro N rw) (hk : k < N) : Met l y_GM_costOf (wd y_GM_costOf b_GM_costOf 7 (some .long)) ({ frames := 0, cells := 0, slots := 0, locals := 0 } : Room) (va_Pc [.ref (md 0), .int (nI ro), .int (nI k)] (PX D dA H)) (vp_Sl (fun v => v = cst S.W S.E rw k)) 0 0 (fun _ => False) := by
  refine mkMet (by decide) (Nat.le_of_ble_eq_true rfl) ?_
  intro p e s m below meth c ls hC hr hlk hnm hl hH
  have hl : lv_has ls 7 [(0, .ref (md 0)), (1, .int (nI ro)), (2, .int (nI k))] := hl
  obtain ⟨sz, br, wh, wi, sn, mi, th, hP, hD, hR⟩ := id hM
  obtain ⟨hnr, hn, hcur, hnc, hnk, hWE, hrow, hkr, hcl, hdj⟩ := id hI
  obtain ⟨hra, hsz, hro, hN, hok⟩ := hrw.facts hI hR
  refine lv_sipush (pc := 0) (v := nI 200) hC.x hC.b d_GM_costOf_0 (by decide) ?_
  refine lv_iload_n (pc := 3) hC.x hC.b d_GM_costOf_3 rfl (lv_at hl 1 rfl) ?_
  refine lv_imul (pc := 4) hC.x hC.b d_GM_costOf_4 ?_
  refine tp_i (y := nI (200 * ro)) (pk_mul _ _) ?_
  refine lv_iload_n (pc := 5) hC.x hC.b d_GM_costOf_5 rfl (lv_at hl 2 rfl) ?_
  refine lv_iadd (pc := 6) hC.x hC.b d_GM_costOf_6 ?_
  refine tp_i (y := nI (200 * ro + k)) (nI_add _ _) ?_
  refine lv_istore_n (pc := 7) (lv' := [(3, .int (nI (200 * ro + k))), (0, .ref (md 0)), (1, .int (nI ro)), (2, .int (nI k))]) hC.x hC.b d_GM_costOf_7 rfl hl (by decide) rfl (fun ls hl => ?_)
  refine lv_aload_n (pc := 8) hC.x hC.b d_GM_costOf_8 rfl (lv_at hl 1 rfl) ?_
  refine fg_GM_19 (pc := 9) hC hP 0 rfl rfl d_GM_costOf_9 ?_
  refine lv_iload_n (pc := 12) hC.x hC.b d_GM_costOf_12 rfl (lv_at hl 0 rfl) ?_
  refine ald_i (pc := 13) hC hP 4 (200 * ro + k) rfl rfl (by omega) (by decide) d_GM_costOf_13 ?_
  refine tp_i (y := (rw k).1) (hra k hk).1 ?_
  refine lv_iconst (pc := 14) (v := (-1)) hC.x hC.b d_GM_costOf_14 (by decide) ?_
  refine lv_icmp_ne (pc := 15) (tgt := 53) hC.x hC.b d_GM_costOf_15 (by decide) (fun c_15 => ?_) (fun c_15 => ?_)
  · obtain ⟨h0, -⟩ | ⟨r, q, w, hr1, hq1, hw1, hw2, ht⟩ := hok k hk
    · exact absurd h0 c_15
    have hix : (rw k).1.toNatClampNeg = r := by rw [ht]; exact nI_clamp (by omega)
    have h1r : (rw k).1 = nI r := by rw [ht]
    refine lv_iconst (pc := 53) (v := 1) hC.x hC.b d_GM_costOf_53 (by decide) ?_
    refine tp_i (y := if Frs rw (rw k).1 0 then 1 else 0) (if_pos (fun _ h => absurd h (Nat.not_lt_zero _))).symm ?_
    refine lv_istore (pc := 54) (lv' := [(4, .int (if Frs rw (rw k).1 0 then 1 else 0)), (3, .int (nI (200 * ro + k))), (0, .ref (md 0)), (1, .int (nI ro)), (2, .int (nI k))]) hC.x hC.b d_GM_costOf_54 hl (by decide) rfl (fun ls hl => ?_)
    refine lv_iconst (pc := 56) (v := nI 0) hC.x hC.b d_GM_costOf_56 (by decide) ?_
    refine lv_istore (pc := 57) (lv' := [(5, .int (nI 0)), (4, .int (if Frs rw (rw k).1 0 then 1 else 0)), (3, .int (nI (200 * ro + k))), (0, .ref (md 0)), (1, .int (nI ro)), (2, .int (nI k))]) hC.x hC.b d_GM_costOf_57 hl (by decide) rfl (fun ls hl => ?_)
    refine lpW (pc := 59) (I := fun j ls => lv_has ls 7 [(5, .int (nI j)), (4, .int (if Frs rw (rw k).1 j then 1 else 0)), (3, .int (nI (200 * ro + k))), (0, .ref (md 0)), (1, .int (nI ro)), (2, .int (nI k))] ∧ True) (k) ?_ ?_ (0) (Nat.zero_le _) ⟨(lv_sub hl [0, 1, 2, 3, 4, 5] rfl), trivial⟩
    · intro ls hI
      obtain ⟨hl, hv⟩ := hI
      refine lv_iload (pc := 59) hC.x hC.b d_GM_costOf_59 (lv_at hl 0 rfl) ?_
      refine lv_iload_n (pc := 61) hC.x hC.b d_GM_costOf_61 rfl (lv_at hl 5 rfl) ?_
      refine ni_ge (pc := 62) (tgt := 105) hC d_GM_costOf_62 (by decide) (by omega) (by omega) (fun c_62 => ?_) (fun c_62 => ?_)
      · refine lv_aload_n (pc := 105) hC.x hC.b d_GM_costOf_105 rfl (lv_at hl 3 rfl) ?_
        refine fg_GM_7 (pc := 106) hC hP 0 rfl rfl d_GM_costOf_106 ?_
        refine lv_aload_n (pc := 109) hC.x hC.b d_GM_costOf_109 rfl (lv_at hl 3 rfl) ?_
        refine fg_GM_19 (pc := 110) hC hP 0 rfl rfl d_GM_costOf_110 ?_
        refine lv_iload_n (pc := 113) hC.x hC.b d_GM_costOf_113 rfl (lv_at hl 2 rfl) ?_
        refine ald_i (pc := 114) hC hP 4 (200 * ro + k) rfl rfl (by omega) (by decide) d_GM_costOf_114 ?_
        refine tp_i (y := (rw k).1) (hra k hk).1 ?_
        refine ald_i (pc := 115) hC hP 1 (r) rfl h1r (by omega) (by decide) d_GM_costOf_115 ?_
        refine lv_i2l (pc := 116) hC.x hC.b d_GM_costOf_116 rfl ?_
        refine lv_bipush (pc := 117) (v := 12) hC.x hC.b d_GM_costOf_117 (by decide) ?_
        refine lv_aload_n (pc := 119) hC.x hC.b d_GM_costOf_119 rfl (lv_at hl 3 rfl) ?_
        refine fg_GM_25 (pc := 120) hC hP 0 rfl rfl d_GM_costOf_120 ?_
        refine lv_iload_n (pc := 123) hC.x hC.b d_GM_costOf_123 rfl (lv_at hl 2 rfl) ?_
        refine ald_i (pc := 124) hC hP 6 (200 * ro + k) rfl rfl (by omega) (by decide) d_GM_costOf_124 ?_
        refine tp_i (y := (rw k).2.2) (hra k hk).2.2 ?_
        refine lv_isub (pc := 125) hC.x hC.b d_GM_costOf_125 ?_
        refine lv_i2l (pc := 126) hC.x hC.b d_GM_costOf_126 rfl ?_
        refine lv_lmul (pc := 127) hC.x hC.b d_GM_costOf_127 ?_
        refine lv_ldc2 (pc := 128) hC.x hC.b hC.o (hC.t _ tw_378) d_GM_costOf_128 ?_
        refine lv_ldiv (pc := 131) hC.x hC.b d_GM_costOf_131 (by decide) ?_
        refine lv_lstore (pc := 132) (lv' := [(5, .long ((((S.W r).toInt64) * ((12 - ((rw k).2.2)).toInt64)) / 4)), (4, .int (if Frs rw (rw k).1 k then 1 else 0)), (3, .int (nI (200 * ro + k))), (0, .ref (md 0)), (1, .int (nI ro)), (2, .int (nI k))]) hC.x hC.b d_GM_costOf_132 hl (by decide) rfl (fun ls hl => ?_)
        refine lv_iload (pc := 134) hC.x hC.b d_GM_costOf_134 (lv_at hl 1 rfl) ?_
        by_cases hF : Frs rw (rw k).1 k
        · refine tp_i (y := 1) (if_pos hF) ?_
          refine lv_if_eq (pc := 136) (tgt := 157) hC.x hC.b d_GM_costOf_136 (by decide) (fun c_136 => ?_) (fun c_136 => ?_)
          · exact absurd c_136 (by decide)
          refine lv_lload (pc := 139) hC.x hC.b d_GM_costOf_139 (lv_at hl 0 rfl) ?_
          refine lv_aload_n (pc := 141) hC.x hC.b d_GM_costOf_141 rfl (lv_at hl 3 rfl) ?_
          refine fg_GM_13 (pc := 142) hC hP 0 rfl rfl d_GM_costOf_142 ?_
          refine lv_aload_n (pc := 145) hC.x hC.b d_GM_costOf_145 rfl (lv_at hl 3 rfl) ?_
          refine fg_GM_19 (pc := 146) hC hP 0 rfl rfl d_GM_costOf_146 ?_
          refine lv_iload_n (pc := 149) hC.x hC.b d_GM_costOf_149 rfl (lv_at hl 2 rfl) ?_
          refine ald_i (pc := 150) hC hP 4 (200 * ro + k) rfl rfl (by omega) (by decide) d_GM_costOf_150 ?_
          refine tp_i (y := (rw k).1) (hra k hk).1 ?_
          refine ald_i (pc := 151) hC hP 2 (r) rfl h1r (by omega) (by decide) d_GM_costOf_151 ?_
          refine lv_i2l (pc := 152) hC.x hC.b d_GM_costOf_152 rfl ?_
          refine lv_ladd (pc := 153) hC.x hC.b d_GM_costOf_153 ?_
          refine lv_goto (pc := 154) (tgt := 159) hC.x hC.b d_GM_costOf_154 (by decide) ?_
          exact ro_l (pc := 159) hC hr hlk hH d_GM_costOf_159 (by unfold cst; rw [if_neg c_15, if_pos hF, hix])
        · refine tp_i (y := 0) (if_neg hF) ?_
          refine lv_if_eq (pc := 136) (tgt := 157) hC.x hC.b d_GM_costOf_136 (by decide) (fun c_136 => ?_) (fun c_136 => ?_)
          · refine lv_lload (pc := 157) hC.x hC.b d_GM_costOf_157 (lv_at hl 0 rfl) ?_
            exact ro_l (pc := 159) hC hr hlk hH d_GM_costOf_159 (by unfold cst; rw [if_neg c_15, if_neg hF, hix, Int64.add_zero])
          · exact absurd rfl c_136
      · exact absurd c_62 (Nat.lt_irrefl _)
    · intro j ls hj hI ih
      obtain ⟨hl, hv⟩ := hI
      refine lv_iload (pc := 59) hC.x hC.b d_GM_costOf_59 (lv_at hl 0 rfl) ?_
      refine lv_iload_n (pc := 61) hC.x hC.b d_GM_costOf_61 rfl (lv_at hl 5 rfl) ?_
      refine ni_ge (pc := 62) (tgt := 105) hC d_GM_costOf_62 (by decide) (by omega) (by omega) (fun c_62 => ?_) (fun c_62 => ?_)
      · exact absurd c_62 (by omega)
      refine lv_iload (pc := 65) hC.x hC.b d_GM_costOf_65 (lv_at hl 1 rfl) ?_
      by_cases hF : Frs rw (rw k).1 j
      · refine tp_i (y := 1) (if_pos hF) ?_
        refine lv_if_eq (pc := 67) (tgt := 96) hC.x hC.b d_GM_costOf_67 (by decide) (fun c_67 => ?_) (fun c_67 => ?_)
        · exact absurd c_67 (by decide)
        refine lv_aload_n (pc := 70) hC.x hC.b d_GM_costOf_70 rfl (lv_at hl 3 rfl) ?_
        refine fg_GM_19 (pc := 71) hC hP 0 rfl rfl d_GM_costOf_71 ?_
        refine lv_sipush (pc := 74) (v := nI 200) hC.x hC.b d_GM_costOf_74 (by decide) ?_
        refine lv_iload_n (pc := 77) hC.x hC.b d_GM_costOf_77 rfl (lv_at hl 4 rfl) ?_
        refine lv_imul (pc := 78) hC.x hC.b d_GM_costOf_78 ?_
        refine tp_i (y := nI (200 * ro)) (pk_mul _ _) ?_
        refine lv_iload (pc := 79) hC.x hC.b d_GM_costOf_79 (lv_at hl 0 rfl) ?_
        refine lv_iadd (pc := 81) hC.x hC.b d_GM_costOf_81 ?_
        refine tp_i (y := nI (200 * ro + j)) (nI_add _ _) ?_
        refine ald_i (pc := 82) hC hP 4 (200 * ro + j) rfl rfl (by omega) (by decide) d_GM_costOf_82 ?_
        refine tp_i (y := (rw j).1) (hra j (by omega)).1 ?_
        refine lv_aload_n (pc := 83) hC.x hC.b d_GM_costOf_83 rfl (lv_at hl 3 rfl) ?_
        refine fg_GM_19 (pc := 84) hC hP 0 rfl rfl d_GM_costOf_84 ?_
        refine lv_iload_n (pc := 87) hC.x hC.b d_GM_costOf_87 rfl (lv_at hl 2 rfl) ?_
        refine ald_i (pc := 88) hC hP 4 (200 * ro + k) rfl rfl (by omega) (by decide) d_GM_costOf_88 ?_
        refine tp_i (y := (rw k).1) (hra k hk).1 ?_
        refine lv_icmp_eq (pc := 89) (tgt := 96) hC.x hC.b d_GM_costOf_89 (by decide) (fun c_89 => ?_) (fun c_89 => ?_)
        · refine lv_iconst (pc := 96) (v := 0) hC.x hC.b d_GM_costOf_96 (by decide) ?_
          refine tp_i (y := if Frs rw (rw k).1 (j + 1) then 1 else 0) (if_neg (fun z => z j (Nat.lt_succ_self _) c_89)).symm ?_
          refine lv_istore (pc := 97) (lv' := [(4, .int (if Frs rw (rw k).1 (j + 1) then 1 else 0)), (5, .int (nI j)), (3, .int (nI (200 * ro + k))), (0, .ref (md 0)), (1, .int (nI ro)), (2, .int (nI k))]) hC.x hC.b d_GM_costOf_97 hl (by decide) rfl (fun ls hl => ?_)
          refine lv_iinc (pc := 99) (v := nI (j + 1)) (lv' := [(5, .int (nI (j + 1))), (4, .int (if Frs rw (rw k).1 (j + 1) then 1 else 0)), (3, .int (nI (200 * ro + k))), (0, .ref (md 0)), (1, .int (nI ro)), (2, .int (nI k))]) hC.x hC.b d_GM_costOf_99 hl (k := 1) rfl (nI_1 _) (by decide) rfl (fun ls hl => ?_)
          refine lv_goto (pc := 102) (tgt := 59) hC.x hC.b d_GM_costOf_102 (by decide) ?_
          exact ih ls ⟨(lv_sub hl [0, 1, 2, 3, 4, 5] rfl), trivial⟩
        refine lv_iconst (pc := 92) (v := 1) hC.x hC.b d_GM_costOf_92 (by decide) ?_
        refine tp_i (y := if Frs rw (rw k).1 (j + 1) then 1 else 0) (if_pos (Frs_up hF c_89)).symm ?_
        refine lv_goto (pc := 93) (tgt := 97) hC.x hC.b d_GM_costOf_93 (by decide) ?_
        refine lv_istore (pc := 97) (lv' := [(4, .int (if Frs rw (rw k).1 (j + 1) then 1 else 0)), (5, .int (nI j)), (3, .int (nI (200 * ro + k))), (0, .ref (md 0)), (1, .int (nI ro)), (2, .int (nI k))]) hC.x hC.b d_GM_costOf_97 hl (by decide) rfl (fun ls hl => ?_)
        refine lv_iinc (pc := 99) (v := nI (j + 1)) (lv' := [(5, .int (nI (j + 1))), (4, .int (if Frs rw (rw k).1 (j + 1) then 1 else 0)), (3, .int (nI (200 * ro + k))), (0, .ref (md 0)), (1, .int (nI ro)), (2, .int (nI k))]) hC.x hC.b d_GM_costOf_99 hl (k := 1) rfl (nI_1 _) (by decide) rfl (fun ls hl => ?_)
        refine lv_goto (pc := 102) (tgt := 59) hC.x hC.b d_GM_costOf_102 (by decide) ?_
        exact ih ls ⟨(lv_sub hl [0, 1, 2, 3, 4, 5] rfl), trivial⟩
      · refine tp_i (y := 0) (if_neg hF) ?_
        refine lv_if_eq (pc := 67) (tgt := 96) hC.x hC.b d_GM_costOf_67 (by decide) (fun c_67 => ?_) (fun c_67 => ?_)
        · refine lv_iconst (pc := 96) (v := 0) hC.x hC.b d_GM_costOf_96 (by decide) ?_
          refine tp_i (y := if Frs rw (rw k).1 (j + 1) then 1 else 0) (if_neg (fun z => hF (fun i hi => z i (by omega)))).symm ?_
          refine lv_istore (pc := 97) (lv' := [(4, .int (if Frs rw (rw k).1 (j + 1) then 1 else 0)), (5, .int (nI j)), (3, .int (nI (200 * ro + k))), (0, .ref (md 0)), (1, .int (nI ro)), (2, .int (nI k))]) hC.x hC.b d_GM_costOf_97 hl (by decide) rfl (fun ls hl => ?_)
          refine lv_iinc (pc := 99) (v := nI (j + 1)) (lv' := [(5, .int (nI (j + 1))), (4, .int (if Frs rw (rw k).1 (j + 1) then 1 else 0)), (3, .int (nI (200 * ro + k))), (0, .ref (md 0)), (1, .int (nI ro)), (2, .int (nI k))]) hC.x hC.b d_GM_costOf_99 hl (k := 1) rfl (nI_1 _) (by decide) rfl (fun ls hl => ?_)
          refine lv_goto (pc := 102) (tgt := 59) hC.x hC.b d_GM_costOf_102 (by decide) ?_
          exact ih ls ⟨(lv_sub hl [0, 1, 2, 3, 4, 5] rfl), trivial⟩
        · exact absurd rfl c_67
  refine lv_ldc2 (pc := 18) hC.x hC.b hC.o (hC.t _ tw_377) d_GM_costOf_18 ?_
  refine lv_aload_n (pc := 21) hC.x hC.b d_GM_costOf_21 rfl (lv_at hl 1 rfl) ?_
  refine fg_GM_22 (pc := 22) hC hP 0 rfl rfl d_GM_costOf_22 ?_
  refine lv_iload_n (pc := 25) hC.x hC.b d_GM_costOf_25 rfl (lv_at hl 0 rfl) ?_
  refine ald_i (pc := 26) hC hP 5 (200 * ro + k) rfl rfl (by omega) (by decide) d_GM_costOf_26 ?_
  refine tp_i (y := (rw k).2.1) (hra k hk).2.1 ?_
  refine lv_i2l (pc := 27) hC.x hC.b d_GM_costOf_27 rfl ?_
  refine lv_lmul (pc := 28) hC.x hC.b d_GM_costOf_28 ?_
  refine lv_iload_n (pc := 29) hC.x hC.b d_GM_costOf_29 rfl (lv_at hl 3 rfl) ?_
  refine nz_le (pc := 30) (tgt := 49) hC d_GM_costOf_30 (by decide) (by omega) (fun c_30 => ?_) (fun c_30 => ?_)
  · refine lv_iconst (pc := 49) (v := 1) hC.x hC.b d_GM_costOf_49 (by decide) ?_
    refine lv_i2l (pc := 50) hC.x hC.b d_GM_costOf_50 rfl ?_
    refine tp_l (y := 1) (by decide) ?_
    refine lv_lmul (pc := 51) hC.x hC.b d_GM_costOf_51 ?_
    exact ro_l (pc := 52) hC hr hlk hH d_GM_costOf_52 (by unfold cst; rw [if_pos c_15, if_neg (fun z => by omega)])
  refine lv_aload_n (pc := 33) hC.x hC.b d_GM_costOf_33 rfl (lv_at hl 1 rfl) ?_
  refine fg_GM_19 (pc := 34) hC hP 0 rfl rfl d_GM_costOf_34 ?_
  refine lv_iload_n (pc := 37) hC.x hC.b d_GM_costOf_37 rfl (lv_at hl 0 rfl) ?_
  refine lv_iconst (pc := 38) (v := 1) hC.x hC.b d_GM_costOf_38 (by decide) ?_
  refine lv_isub (pc := 39) hC.x hC.b d_GM_costOf_39 ?_
  refine tp_i (y := nI (200 * ro + (k - 1))) (by rw [nI_sub1 (by omega)]; congr 1; omega) ?_
  refine ald_i (pc := 40) hC hP 4 (200 * ro + (k - 1)) rfl rfl (by omega) (by decide) d_GM_costOf_40 ?_
  refine tp_i (y := (rw (k - 1)).1) (hra (k - 1) (by omega)).1 ?_
  refine lv_iconst (pc := 41) (v := (-1)) hC.x hC.b d_GM_costOf_41 (by decide) ?_
  refine lv_icmp_ne (pc := 42) (tgt := 49) hC.x hC.b d_GM_costOf_42 (by decide) (fun c_42 => ?_) (fun c_42 => ?_)
  · refine lv_iconst (pc := 49) (v := 1) hC.x hC.b d_GM_costOf_49 (by decide) ?_
    refine lv_i2l (pc := 50) hC.x hC.b d_GM_costOf_50 rfl ?_
    refine tp_l (y := 1) (by decide) ?_
    refine lv_lmul (pc := 51) hC.x hC.b d_GM_costOf_51 ?_
    exact ro_l (pc := 52) hC hr hlk hH d_GM_costOf_52 (by unfold cst; rw [if_pos c_15, if_neg (fun z => c_42 z.2)])
  refine lv_iconst (pc := 45) (v := 2) hC.x hC.b d_GM_costOf_45 (by decide) ?_
  refine lv_goto (pc := 46) (tgt := 50) hC.x hC.b d_GM_costOf_46 (by decide) ?_
  refine lv_i2l (pc := 50) hC.x hC.b d_GM_costOf_50 rfl ?_
  refine tp_l (y := 2) (by decide) ?_
  refine lv_lmul (pc := 51) hC.x hC.b d_GM_costOf_51 ?_
  exact ro_l (pc := 52) hC hr hlk hH d_GM_costOf_52 (by unfold cst; rw [if_pos c_15, if_pos ⟨c_30, c_42⟩])
set_option maxHeartbeats 4000000 in
set_option maxRecDepth 100000 in
theorem k_GM_68_GM_costOf (hC : CX p m c cc nL s args R_GM D dA) (hM : MW D dA A md S H) (hI : Inv S) {ro N k : Nat} {rw : Nat → T3} (hrw : RowOf S ro N rw) (hk : k < N) (hsz : ls.size = nL) (hW : (rest.map fun v => v.category).sum ≤ 8) (hR : 0 + 1 ≤ R.frames ∧ 8 + (7 + 11) + 0 ≤ R.locals) (hf : cells + 0 ≤ R.cells ∧ slots + 0 ≤ R.slots) (hdg : decode cc pc = .ok (.invokevirtual 68, 3)) (kk : W p l e R s m args below meth c H locs cells slots Q (F0 m (pc + 3) ls (.long (cst S.W S.E rw k) :: rest))) : W p l e R s m args below meth c H locs cells slots Q (F0 m pc ls (.int (nI k) :: .int (nI ro) :: .ref (md 0) :: rest)) :=
  vp_callSl (va_Run.run (runV hC (c_GM_costOf l hM hI hrw hk) tw_376 tw_373 tw_375 ts_9 tw_2 ⟨by decide +kernel, by decide +kernel, rfl⟩ rfl rfl (ci := 4) rfl rfl ((by obtain ⟨_, _, _, _, _, _, _, hP, _⟩ := hM; exact hP 0 _ rfl)) hsz rfl hW hR hf hdg)) (fun r hr => by rw [hr]; exact kk)
set_option maxHeartbeats 4000000 in
set_option maxRecDepth 100000 in
theorem c_GM_sumOf (l : Launch) {A : Nat → Prop} {md : Nat → Nat} {S : St} {D : va_G} {dA : Nat → ClassId} {H : Heap} (hM : MW D dA A md S H) (hI : Inv S) {ro N q : Nat} {rw : Nat → T3} (hrw : RowOf S ro N rw) (hq : q < 2 ^ 31) : Met l y_GM_sumOf (wd y_GM_sumOf b_GM_sumOf 6 (some .long)) ({ frames := 1, cells := 0, slots := 0, locals := 26 } : Room) (va_Pc [.ref (md 0), .int (nI ro), .int (nI q)] (PX D dA H)) (vp_Sl (fun v => v = sm S.W S.E rw (min q N))) 0 0 (fun _ => False) := by
  refine mkMet (by decide) (Nat.le_of_ble_eq_true rfl) ?_
  intro p e s m below meth c ls hC hr hlk hnm hl hH
  have hl : lv_has ls 6 [(0, .ref (md 0)), (1, .int (nI ro)), (2, .int (nI q))] := hl
  obtain ⟨sz, br, wh, wi, sn, mi, th, hP, hD, hR⟩ := id hM
  obtain ⟨hnr, hn, hcur, hnc, hnk, hWE, hrow, hkr, hcl, hdj⟩ := id hI
  obtain ⟨hra, hsz, hro, hN, hok⟩ := hrw.facts hI hR
  refine lv_lconst (pc := 0) (v := 0) hC.x hC.b d_GM_sumOf_0 (by decide) ?_
  refine tp_l (y := sm S.W S.E rw 0) rfl ?_
  refine lv_lstore_n (pc := 1) (lv' := [(3, .long (sm S.W S.E rw 0)), (0, .ref (md 0)), (1, .int (nI ro)), (2, .int (nI q))]) hC.x hC.b d_GM_sumOf_1 rfl hl (by decide) rfl (fun ls hl => ?_)
  refine lv_iconst (pc := 2) (v := nI 0) hC.x hC.b d_GM_sumOf_2 (by decide) ?_
  refine lv_istore (pc := 3) (lv' := [(5, .int (nI 0)), (3, .long (sm S.W S.E rw 0)), (0, .ref (md 0)), (1, .int (nI ro)), (2, .int (nI q))]) hC.x hC.b d_GM_sumOf_3 hl (by decide) rfl (fun ls hl => ?_)
  refine lpW (pc := 5) (I := fun j ls => lv_has ls 6 [(5, .int (nI j)), (3, .long (sm S.W S.E rw j)), (0, .ref (md 0)), (1, .int (nI ro)), (2, .int (nI q))] ∧ True) (min q N) ?_ ?_ (0) (Nat.zero_le _) ⟨(lv_sub hl [0, 1, 2, 3, 4] rfl), trivial⟩
  · intro ls hI
    obtain ⟨hl, hv⟩ := hI
    refine lv_iload (pc := 5) hC.x hC.b d_GM_sumOf_5 (lv_at hl 0 rfl) ?_
    refine lv_iload_n (pc := 7) hC.x hC.b d_GM_sumOf_7 rfl (lv_at hl 4 rfl) ?_
    refine ni_ge (pc := 8) (tgt := 38) hC d_GM_sumOf_8 (by decide) (by omega) (by omega) (fun c_8 => ?_) (fun c_8 => ?_)
    · refine lv_lload_n (pc := 38) hC.x hC.b d_GM_sumOf_38 rfl (lv_at hl 1 rfl) ?_
      exact ro_l (pc := 39) hC hr hlk hH d_GM_sumOf_39 rfl
    refine lv_iload (pc := 11) hC.x hC.b d_GM_sumOf_11 (lv_at hl 0 rfl) ?_
    refine lv_aload_n (pc := 13) hC.x hC.b d_GM_sumOf_13 rfl (lv_at hl 2 rfl) ?_
    refine fg_GM_16 (pc := 14) hC hP 0 rfl rfl d_GM_sumOf_14 ?_
    refine lv_iload_n (pc := 17) hC.x hC.b d_GM_sumOf_17 rfl (lv_at hl 3 rfl) ?_
    refine ald_i (pc := 18) hC hP 3 (ro) rfl rfl (by omega) (by decide) d_GM_sumOf_18 ?_
    refine tp_i (y := nI N) hsz ?_
    refine ni_ge (pc := 19) (tgt := 38) hC d_GM_sumOf_19 (by decide) (by omega) (by omega) (fun c_19 => ?_) (fun c_19 => ?_)
    · refine lv_lload_n (pc := 38) hC.x hC.b d_GM_sumOf_38 rfl (lv_at hl 1 rfl) ?_
      exact ro_l (pc := 39) hC hr hlk hH d_GM_sumOf_39 rfl
    · exact absurd c_19 (by omega)
  · intro j ls hj hI ih
    obtain ⟨hl, hv⟩ := hI
    refine lv_iload (pc := 5) hC.x hC.b d_GM_sumOf_5 (lv_at hl 0 rfl) ?_
    refine lv_iload_n (pc := 7) hC.x hC.b d_GM_sumOf_7 rfl (lv_at hl 4 rfl) ?_
    refine ni_ge (pc := 8) (tgt := 38) hC d_GM_sumOf_8 (by decide) (by omega) (by omega) (fun c_8 => ?_) (fun c_8 => ?_)
    · exact absurd c_8 (by omega)
    refine lv_iload (pc := 11) hC.x hC.b d_GM_sumOf_11 (lv_at hl 0 rfl) ?_
    refine lv_aload_n (pc := 13) hC.x hC.b d_GM_sumOf_13 rfl (lv_at hl 2 rfl) ?_
    refine fg_GM_16 (pc := 14) hC hP 0 rfl rfl d_GM_sumOf_14 ?_
    refine lv_iload_n (pc := 17) hC.x hC.b d_GM_sumOf_17 rfl (lv_at hl 3 rfl) ?_
    refine ald_i (pc := 18) hC hP 3 (ro) rfl rfl (by omega) (by decide) d_GM_sumOf_18 ?_
    refine tp_i (y := nI N) hsz ?_
    refine ni_ge (pc := 19) (tgt := 38) hC d_GM_sumOf_19 (by decide) (by omega) (by omega) (fun c_19 => ?_) (fun c_19 => ?_)
    · exact absurd c_19 (by omega)
    refine lv_lload_n (pc := 22) hC.x hC.b d_GM_sumOf_22 rfl (lv_at hl 1 rfl) ?_
    refine lv_aload_n (pc := 23) hC.x hC.b d_GM_sumOf_23 rfl (lv_at hl 2 rfl) ?_
    refine lv_iload_n (pc := 24) hC.x hC.b d_GM_sumOf_24 rfl (lv_at hl 3 rfl) ?_
    refine lv_iload (pc := 25) hC.x hC.b d_GM_sumOf_25 (lv_at hl 0 rfl) ?_
    refine k_GM_68_GM_costOf (pc := 27) hC hM hI hrw (k := j) (by omega) hl.1 (Nat.le_of_ble_eq_true rfl) ⟨Nat.le_of_ble_eq_true rfl, Nat.le_of_ble_eq_true rfl⟩ ⟨Nat.zero_le _, Nat.zero_le _⟩ d_GM_sumOf_27 ?_
    refine lv_ladd (pc := 30) hC.x hC.b d_GM_sumOf_30 ?_
    refine tp_l (y := sm S.W S.E rw (j + 1)) rfl ?_
    refine lv_lstore_n (pc := 31) (lv' := [(3, .long (sm S.W S.E rw (j + 1))), (5, .int (nI j)), (0, .ref (md 0)), (1, .int (nI ro)), (2, .int (nI q))]) hC.x hC.b d_GM_sumOf_31 rfl hl (by decide) rfl (fun ls hl => ?_)
    refine lv_iinc (pc := 32) (v := nI (j + 1)) (lv' := [(5, .int (nI (j + 1))), (3, .long (sm S.W S.E rw (j + 1))), (0, .ref (md 0)), (1, .int (nI ro)), (2, .int (nI q))]) hC.x hC.b d_GM_sumOf_32 hl (k := 1) rfl (nI_1 _) (by decide) rfl (fun ls hl => ?_)
    refine lv_goto (pc := 35) (tgt := 5) hC.x hC.b d_GM_sumOf_35 (by decide) ?_
    exact ih ls ⟨(lv_sub hl [0, 1, 2, 3, 4] rfl), trivial⟩
set_option maxHeartbeats 4000000 in
set_option maxRecDepth 100000 in
theorem k_GM_72_GM_sumOf (hC : CX p m c cc nL s args R_GM D dA) (hM : MW D dA A md S H) (hI : Inv S) {ro N q : Nat} {rw : Nat → T3} (hrw : RowOf S ro N rw) (hq : q < 2 ^ 31) (hsz : ls.size = nL) (hW : (rest.map fun v => v.category).sum ≤ 8) (hR : 1 + 1 ≤ R.frames ∧ 8 + (6 + 11) + 26 ≤ R.locals) (hf : cells + 0 ≤ R.cells ∧ slots + 0 ≤ R.slots) (hdg : decode cc pc = .ok (.invokevirtual 72, 3)) (kk : W p l e R s m args below meth c H locs cells slots Q (F0 m (pc + 3) ls (.long (sm S.W S.E rw (min q N)) :: rest))) : W p l e R s m args below meth c H locs cells slots Q (F0 m pc ls (.int (nI q) :: .int (nI ro) :: .ref (md 0) :: rest)) :=
  vp_callSl (va_Run.run (runV hC (c_GM_sumOf l hM hI hrw hq) tw_386 tw_383 tw_385 ts_10 tw_2 ⟨by decide +kernel, by decide +kernel, rfl⟩ rfl rfl (ci := 4) rfl rfl ((by obtain ⟨_, _, _, _, _, _, _, hP, _⟩ := hM; exact hP 0 _ rfl)) hsz rfl hW hR hf hdg)) (fun r hr => by rw [hr]; exact kk)
set_option maxHeartbeats 4000000 in
set_option maxRecDepth 100000 in
theorem c_GM_all (l : Launch) {A : Nat → Prop} {md : Nat → Nat} {S : St} {D : va_G} {dA : Nat → ClassId} {H : Heap} (hM : MW D dA A md S H) (hI : Inv S) : Met l y_GM_all (wd y_GM_all b_GM_all 1 (some .long)) ({ frames := 2, cells := 0, slots := 0, locals := 51 } : Room) (va_Pc [.ref (md 0)] (PX D dA H)) (vp_Sl (fun v => v = S.sum S.n)) 0 0 (fun _ => False) := by
  refine mkMet (by decide) (Nat.le_of_ble_eq_true rfl) ?_
  intro p e s m below meth c ls hC hr hlk hnm hl hH
  have hl : lv_has ls 1 [(0, .ref (md 0))] := hl
  obtain ⟨sz, br, wh, wi, sn, mi, th, hP, hD, hR⟩ := id hM
  obtain ⟨hnr, hn, hcur, hnc, hnk, hWE, hrow, hkr, hcl, hdj⟩ := id hI
  refine lv_aload_n (pc := 0) hC.x hC.b d_GM_all_0 rfl (lv_at hl 0 rfl) ?_
  refine lv_bipush (pc := 1) (v := nI 10) hC.x hC.b d_GM_all_1 (by decide) ?_
  refine lv_sipush (pc := 3) (v := nI 200) hC.x hC.b d_GM_all_3 (by decide) ?_
  refine k_GM_72_GM_sumOf (pc := 6) hC hM hI (RowOf.now S) (q := 200) (by decide) hl.1 (Nat.le_of_ble_eq_true rfl) ⟨Nat.le_of_ble_eq_true rfl, Nat.le_of_ble_eq_true rfl⟩ ⟨Nat.zero_le _, Nat.zero_le _⟩ d_GM_all_6 ?_
  exact ro_l (pc := 9) hC hr hlk hH d_GM_all_9 (by rw [Nat.min_eq_right hn])
set_option maxHeartbeats 4000000 in
set_option maxRecDepth 100000 in
theorem k_GM_82_GM_all (hC : CX p m c cc nL s args R_GM D dA) (hM : MW D dA A md S H) (hI : Inv S) (hsz : ls.size = nL) (hW : (rest.map fun v => v.category).sum ≤ 8) (hR : 2 + 1 ≤ R.frames ∧ 8 + (1 + 11) + 51 ≤ R.locals) (hf : cells + 0 ≤ R.cells ∧ slots + 0 ≤ R.slots) (hdg : decode cc pc = .ok (.invokevirtual 82, 3)) (kk : W p l e R s m args below meth c H locs cells slots Q (F0 m (pc + 3) ls (.long (S.sum S.n) :: rest))) : W p l e R s m args below meth c H locs cells slots Q (F0 m pc ls (.ref (md 0) :: rest)) :=
  vp_callSl (va_Run.run (runV hC (c_GM_all l hM hI) tw_399 tw_396 tw_398 ts_11 tw_2 ⟨by decide +kernel, by decide +kernel, rfl⟩ rfl rfl (ci := 4) rfl rfl ((by obtain ⟨_, _, _, _, _, _, _, hP, _⟩ := hM; exact hP 0 _ rfl)) hsz rfl hW hR hf hdg)) (fun r hr => by rw [hr]; exact kk)
set_option maxHeartbeats 4000000 in
set_option maxRecDepth 100000 in
theorem c_GM_classOf (l : Launch) {A : Nat → Prop} {md : Nat → Nat} {S : St} {D : va_G} {dA : Nat → ClassId} {H : Heap} (hM : MW D dA A md S H) (hI : Inv S) {v : Int64} : Met l y_GM_classOf (wd y_GM_classOf b_GM_classOf 4 (some .int)) ({ frames := 0, cells := 0, slots := 0, locals := 0 } : Room) (va_Pc [.ref (md 0), .long v] (PX D dA H)) (vp_Si (fun r => r = S.cls v)) 0 0 (fun _ => False) := by
  refine mkMet (by decide) (Nat.le_of_ble_eq_true rfl) ?_
  intro p e s m below meth c ls hC hr hlk hnm hl hH
  have hl : lv_has ls 4 [(0, .ref (md 0)), (1, .long v)] := hl
  obtain ⟨sz, br, wh, wi, sn, mi, th, hP, hD, hR⟩ := id hM
  obtain ⟨hnr, hn, hcur, hnc, hnk, hWE, hrow, hkr, hcl, hdj⟩ := id hI
  refine lv_iconst (pc := 0) (v := nI 0) hC.x hC.b d_GM_classOf_0 (by decide) ?_
  refine lv_istore_n (pc := 1) (lv' := [(3, .int (nI 0)), (0, .ref (md 0)), (1, .long v)]) hC.x hC.b d_GM_classOf_1 rfl hl (by decide) rfl (fun ls hl => ?_)
  refine lpW (pc := 2) (I := fun j ls => lv_has ls 4 [(3, .int (nI j)), (0, .ref (md 0)), (1, .long v)] ∧ (∀ i, i < j → ¬ inC S.lo S.hi v i)) (S.nc) ?_ ?_ (0) (Nat.zero_le _) ⟨(lv_sub hl [0, 1, 2] rfl), fun _ h => absurd h (Nat.not_lt_zero _)⟩
  · intro ls hI
    obtain ⟨hl, hv⟩ := hI
    refine lv_iload_n (pc := 2) hC.x hC.b d_GM_classOf_2 rfl (lv_at hl 0 rfl) ?_
    refine lv_aload_n (pc := 3) hC.x hC.b d_GM_classOf_3 rfl (lv_at hl 1 rfl) ?_
    refine fg_GM_79 (pc := 4) hC hP 0 rfl rfl d_GM_classOf_4 ?_
    refine ni_ge (pc := 7) (tgt := 40) hC d_GM_classOf_7 (by decide) (by omega) (by omega) (fun c_7 => ?_) (fun c_7 => ?_)
    · refine lv_iconst (pc := 40) (v := (-1)) hC.x hC.b d_GM_classOf_40 (by decide) ?_
      exact ro_i (pc := 41) hC hr hlk hH d_GM_classOf_41 (cof_none S.nc 0 (fun i _ h => hv i (by omega))).symm
    · exact absurd c_7 (Nat.lt_irrefl _)
  · intro j ls hj hI ih
    obtain ⟨hl, hv⟩ := hI
    refine lv_iload_n (pc := 2) hC.x hC.b d_GM_classOf_2 rfl (lv_at hl 0 rfl) ?_
    refine lv_aload_n (pc := 3) hC.x hC.b d_GM_classOf_3 rfl (lv_at hl 1 rfl) ?_
    refine fg_GM_79 (pc := 4) hC hP 0 rfl rfl d_GM_classOf_4 ?_
    refine ni_ge (pc := 7) (tgt := 40) hC d_GM_classOf_7 (by decide) (by omega) (by omega) (fun c_7 => ?_) (fun c_7 => ?_)
    · exact absurd c_7 (by omega)
    refine lv_lload_n (pc := 10) hC.x hC.b d_GM_classOf_10 rfl (lv_at hl 2 rfl) ?_
    refine lv_aload_n (pc := 11) hC.x hC.b d_GM_classOf_11 rfl (lv_at hl 1 rfl) ?_
    refine fg_GM_28 (pc := 12) hC hP 0 rfl rfl d_GM_classOf_12 ?_
    refine lv_iload_n (pc := 15) hC.x hC.b d_GM_classOf_15 rfl (lv_at hl 0 rfl) ?_
    refine ald_l (pc := 16) hC hP 7 (j) rfl rfl (by omega) (by decide) d_GM_classOf_16 ?_
    refine lc_lt (pc := 17) (tgt := 34) hC d_GM_classOf_17 d_GM_classOf_18 (by decide) (fun c_17 => ?_) (fun c_17 => ?_)
    · refine lv_iinc (pc := 34) (v := nI (j + 1)) (lv' := [(3, .int (nI (j + 1))), (0, .ref (md 0)), (1, .long v)]) hC.x hC.b d_GM_classOf_34 hl (k := 0) rfl (nI_1 _) (by decide) rfl (fun ls hl => ?_)
      refine lv_goto (pc := 37) (tgt := 2) hC.x hC.b d_GM_classOf_37 (by decide) ?_
      exact ih ls ⟨(lv_sub hl [0, 1, 2] rfl), fun i hi => if z : i = j then z ▸ (fun y => Int64.not_le.mpr c_17 y.1) else hv i (by omega)⟩
    refine lv_lload_n (pc := 21) hC.x hC.b d_GM_classOf_21 rfl (lv_at hl 2 rfl) ?_
    refine lv_aload_n (pc := 22) hC.x hC.b d_GM_classOf_22 rfl (lv_at hl 1 rfl) ?_
    refine fg_GM_32 (pc := 23) hC hP 0 rfl rfl d_GM_classOf_23 ?_
    refine lv_iload_n (pc := 26) hC.x hC.b d_GM_classOf_26 rfl (lv_at hl 0 rfl) ?_
    refine ald_l (pc := 27) hC hP 8 (j) rfl rfl (by omega) (by decide) d_GM_classOf_27 ?_
    refine lc_gt (pc := 28) (tgt := 34) hC d_GM_classOf_28 d_GM_classOf_29 (by decide) (fun c_28 => ?_) (fun c_28 => ?_)
    · refine lv_iinc (pc := 34) (v := nI (j + 1)) (lv' := [(3, .int (nI (j + 1))), (0, .ref (md 0)), (1, .long v)]) hC.x hC.b d_GM_classOf_34 hl (k := 0) rfl (nI_1 _) (by decide) rfl (fun ls hl => ?_)
      refine lv_goto (pc := 37) (tgt := 2) hC.x hC.b d_GM_classOf_37 (by decide) ?_
      exact ih ls ⟨(lv_sub hl [0, 1, 2] rfl), fun i hi => if z : i = j then z ▸ (fun y => Int64.not_le.mpr c_28 y.2) else hv i (by omega)⟩
    refine lv_iload_n (pc := 32) hC.x hC.b d_GM_classOf_32 rfl (lv_at hl 0 rfl) ?_
    exact ro_i (pc := 33) hC hr hlk hH d_GM_classOf_33 (cof_some ⟨Int64.not_lt.mp c_17, Int64.not_lt.mp c_28⟩ S.nc 0 (Nat.zero_le _) (by omega) (fun i _ h => hv i h)).symm
set_option maxHeartbeats 4000000 in
set_option maxRecDepth 100000 in
theorem k_GM_86_GM_classOf (hC : CX p m c cc nL s args R_GM D dA) (hM : MW D dA A md S H) (hI : Inv S) {v : Int64} (hsz : ls.size = nL) (hW : (rest.map fun v => v.category).sum ≤ 8) (hR : 0 + 1 ≤ R.frames ∧ 8 + (4 + 11) + 0 ≤ R.locals) (hf : cells + 0 ≤ R.cells ∧ slots + 0 ≤ R.slots) (hdg : decode cc pc = .ok (.invokevirtual 86, 3)) (kk : W p l e R s m args below meth c H locs cells slots Q (F0 m (pc + 3) ls (.int (S.cls v) :: rest))) : W p l e R s m args below meth c H locs cells slots Q (F0 m pc ls (.long v :: .ref (md 0) :: rest)) :=
  vp_callSi (va_Run.run (runV hC (c_GM_classOf l hM hI) tw_403 tw_400 tw_402 ts_12 tw_2 ⟨by decide +kernel, by decide +kernel, rfl⟩ rfl rfl (ci := 4) rfl rfl ((by obtain ⟨_, _, _, _, _, _, _, hP, _⟩ := hM; exact hP 0 _ rfl)) hsz rfl hW hR hf hdg)) (fun r hr => by rw [hr]; exact kk)
set_option maxHeartbeats 4000000 in
set_option maxRecDepth 100000 in
theorem c_GM_like (l : Launch) {A : Nat → Prop} {md : Nat → Nat} {S : St} {D : va_G} {dA : Nat → ClassId} {H : Heap} (hM : MW D dA A md S H) (hI : Inv S) {ro N k : Nat} {rw : Nat → T3} (hrw : RowOf S ro N rw) (hk : k < S.n) : Met l y_GM_like (wd y_GM_like b_GM_like 6 (some .int)) ({ frames := 0, cells := 0, slots := 0, locals := 0 } : Room) (va_Pc [.ref (md 0), .int (nI ro), .int (nI k)] (PX D dA H)) (vp_Si (fun r => r = nI (cnt (lkP rw (S.row k)) N))) 0 0 (fun _ => False) := by
  refine mkMet (by decide) (Nat.le_of_ble_eq_true rfl) ?_
  intro p e s m below meth c ls hC hr hlk hnm hl hH
  have hl : lv_has ls 6 [(0, .ref (md 0)), (1, .int (nI ro)), (2, .int (nI k))] := hl
  obtain ⟨sz, br, wh, wi, sn, mi, th, hP, hD, hR⟩ := id hM
  obtain ⟨hnr, hn, hcur, hnc, hnk, hWE, hrow, hkr, hcl, hdj⟩ := id hI
  obtain ⟨hra, hsz, hro, hN, hok⟩ := hrw.facts hI hR
  have hno := hR.2.1 k hk
  refine lv_iconst (pc := 0) (v := 0) hC.x hC.b d_GM_like_0 (by decide) ?_
  refine tp_i (y := nI (cnt (lkP rw (S.row k)) 0)) rfl ?_
  refine lv_istore_n (pc := 1) (lv' := [(3, .int (nI (cnt (lkP rw (S.row k)) 0))), (0, .ref (md 0)), (1, .int (nI ro)), (2, .int (nI k))]) hC.x hC.b d_GM_like_1 rfl hl (by decide) rfl (fun ls hl => ?_)
  refine lv_sipush (pc := 2) (v := nI 2000) hC.x hC.b d_GM_like_2 (by decide) ?_
  refine lv_iload_n (pc := 5) hC.x hC.b d_GM_like_5 rfl (lv_at hl 3 rfl) ?_
  refine lv_iadd (pc := 6) hC.x hC.b d_GM_like_6 ?_
  refine tp_i (y := nI (2000 + k)) (nI_add _ _) ?_
  refine lv_istore (pc := 7) (lv' := [(4, .int (nI (2000 + k))), (3, .int (nI (cnt (lkP rw (S.row k)) 0))), (0, .ref (md 0)), (1, .int (nI ro)), (2, .int (nI k))]) hC.x hC.b d_GM_like_7 hl (by decide) rfl (fun ls hl => ?_)
  refine lv_sipush (pc := 9) (v := nI 200) hC.x hC.b d_GM_like_9 (by decide) ?_
  refine lv_iload_n (pc := 12) hC.x hC.b d_GM_like_12 rfl (lv_at hl 3 rfl) ?_
  refine lv_imul (pc := 13) hC.x hC.b d_GM_like_13 ?_
  refine tp_i (y := nI (200 * ro)) (pk_mul _ _) ?_
  refine tp_i (y := nI (200 * ro + 0)) rfl ?_
  refine lv_istore (pc := 14) (lv' := [(5, .int (nI (200 * ro + 0))), (4, .int (nI (2000 + k))), (3, .int (nI (cnt (lkP rw (S.row k)) 0))), (0, .ref (md 0)), (1, .int (nI ro)), (2, .int (nI k))]) hC.x hC.b d_GM_like_14 hl (by decide) rfl (fun ls hl => ?_)
  refine lpW (pc := 16) (I := fun i ls => lv_has ls 6 [(5, .int (nI (200 * ro + i))), (3, .int (nI (cnt (lkP rw (S.row k)) i))), (4, .int (nI (2000 + k))), (0, .ref (md 0)), (1, .int (nI ro)), (2, .int (nI k))] ∧ True) (N) ?_ ?_ (0) (Nat.zero_le _) ⟨(lv_sub hl [0, 2, 1, 3, 4, 5] rfl), trivial⟩
  · intro ls hI
    obtain ⟨hl, hv⟩ := hI
    refine lv_iload (pc := 16) hC.x hC.b d_GM_like_16 (lv_at hl 0 rfl) ?_
    refine lv_sipush (pc := 18) (v := nI 200) hC.x hC.b d_GM_like_18 (by decide) ?_
    refine lv_iload_n (pc := 21) hC.x hC.b d_GM_like_21 rfl (lv_at hl 4 rfl) ?_
    refine lv_imul (pc := 22) hC.x hC.b d_GM_like_22 ?_
    refine tp_i (y := nI (200 * ro)) (pk_mul _ _) ?_
    refine lv_aload_n (pc := 23) hC.x hC.b d_GM_like_23 rfl (lv_at hl 3 rfl) ?_
    refine fg_GM_16 (pc := 24) hC hP 0 rfl rfl d_GM_like_24 ?_
    refine lv_iload_n (pc := 27) hC.x hC.b d_GM_like_27 rfl (lv_at hl 4 rfl) ?_
    refine ald_i (pc := 28) hC hP 3 (ro) rfl rfl (by omega) (by decide) d_GM_like_28 ?_
    refine tp_i (y := nI N) hsz ?_
    refine lv_iadd (pc := 29) hC.x hC.b d_GM_like_29 ?_
    refine tp_i (y := nI (200 * ro + N)) (nI_add _ _) ?_
    refine ni_ge (pc := 30) (tgt := 98) hC d_GM_like_30 (by decide) (by omega) (by omega) (fun c_30 => ?_) (fun c_30 => ?_)
    · refine lv_iload_n (pc := 98) hC.x hC.b d_GM_like_98 rfl (lv_at hl 1 rfl) ?_
      exact ro_i (pc := 99) hC hr hlk hH d_GM_like_99 rfl
    · exact absurd c_30 (by omega)
  · intro i ls hj hI ih
    obtain ⟨hl, hv⟩ := hI
    refine lv_iload (pc := 16) hC.x hC.b d_GM_like_16 (lv_at hl 0 rfl) ?_
    refine lv_sipush (pc := 18) (v := nI 200) hC.x hC.b d_GM_like_18 (by decide) ?_
    refine lv_iload_n (pc := 21) hC.x hC.b d_GM_like_21 rfl (lv_at hl 4 rfl) ?_
    refine lv_imul (pc := 22) hC.x hC.b d_GM_like_22 ?_
    refine tp_i (y := nI (200 * ro)) (pk_mul _ _) ?_
    refine lv_aload_n (pc := 23) hC.x hC.b d_GM_like_23 rfl (lv_at hl 3 rfl) ?_
    refine fg_GM_16 (pc := 24) hC hP 0 rfl rfl d_GM_like_24 ?_
    refine lv_iload_n (pc := 27) hC.x hC.b d_GM_like_27 rfl (lv_at hl 4 rfl) ?_
    refine ald_i (pc := 28) hC hP 3 (ro) rfl rfl (by omega) (by decide) d_GM_like_28 ?_
    refine tp_i (y := nI N) hsz ?_
    refine lv_iadd (pc := 29) hC.x hC.b d_GM_like_29 ?_
    refine tp_i (y := nI (200 * ro + N)) (nI_add _ _) ?_
    refine ni_ge (pc := 30) (tgt := 98) hC d_GM_like_30 (by decide) (by omega) (by omega) (fun c_30 => ?_) (fun c_30 => ?_)
    · exact absurd c_30 (by omega)
    refine lv_iload_n (pc := 33) hC.x hC.b d_GM_like_33 rfl (lv_at hl 1 rfl) ?_
    refine lv_aload_n (pc := 34) hC.x hC.b d_GM_like_34 rfl (lv_at hl 3 rfl) ?_
    refine fg_GM_19 (pc := 35) hC hP 0 rfl rfl d_GM_like_35 ?_
    refine lv_iload (pc := 38) hC.x hC.b d_GM_like_38 (lv_at hl 0 rfl) ?_
    refine ald_i (pc := 40) hC hP 4 (200 * ro + i) rfl rfl (by omega) (by decide) d_GM_like_40 ?_
    refine tp_i (y := (rw i).1) (hra i hj).1 ?_
    refine lv_aload_n (pc := 41) hC.x hC.b d_GM_like_41 rfl (lv_at hl 3 rfl) ?_
    refine fg_GM_19 (pc := 42) hC hP 0 rfl rfl d_GM_like_42 ?_
    refine lv_iload (pc := 45) hC.x hC.b d_GM_like_45 (lv_at hl 2 rfl) ?_
    refine ald_i (pc := 47) hC hP 4 (2000 + k) rfl rfl (by omega) (by decide) d_GM_like_47 ?_
    refine tp_i (y := (S.row k).1) hno.1 ?_
    refine lv_icmp_ne (pc := 48) (tgt := 89) hC.x hC.b d_GM_like_48 (by decide) (fun c_48 => ?_) (fun c_48 => ?_)
    · refine lv_iconst (pc := 89) (v := 0) hC.x hC.b d_GM_like_89 (by decide) ?_
      refine lv_iadd (pc := 90) hC.x hC.b d_GM_like_90 ?_
      refine tp_i (y := nI (cnt (lkP rw (S.row k)) (i + 1))) (cnt_f (fun z => c_48 z.1)) ?_
      refine lv_istore_n (pc := 91) (lv' := [(3, .int (nI (cnt (lkP rw (S.row k)) (i + 1)))), (5, .int (nI (200 * ro + i))), (4, .int (nI (2000 + k))), (0, .ref (md 0)), (1, .int (nI ro)), (2, .int (nI k))]) hC.x hC.b d_GM_like_91 rfl hl (by decide) rfl (fun ls hl => ?_)
      refine lv_iinc (pc := 92) (v := nI (200 * ro + (i + 1))) (lv' := [(5, .int (nI (200 * ro + (i + 1)))), (3, .int (nI (cnt (lkP rw (S.row k)) (i + 1)))), (4, .int (nI (2000 + k))), (0, .ref (md 0)), (1, .int (nI ro)), (2, .int (nI k))]) hC.x hC.b d_GM_like_92 hl (k := 1) rfl (by show nI _ + 1 = _; rw [nI_1]; rfl) (by decide) rfl (fun ls hl => ?_)
      refine lv_goto (pc := 95) (tgt := 16) hC.x hC.b d_GM_like_95 (by decide) ?_
      exact ih ls ⟨(lv_sub hl [0, 1, 2, 3, 4, 5] rfl), trivial⟩
    refine lv_aload_n (pc := 51) hC.x hC.b d_GM_like_51 rfl (lv_at hl 3 rfl) ?_
    refine fg_GM_22 (pc := 52) hC hP 0 rfl rfl d_GM_like_52 ?_
    refine lv_iload (pc := 55) hC.x hC.b d_GM_like_55 (lv_at hl 0 rfl) ?_
    refine ald_i (pc := 57) hC hP 5 (200 * ro + i) rfl rfl (by omega) (by decide) d_GM_like_57 ?_
    refine tp_i (y := (rw i).2.1) (hra i hj).2.1 ?_
    refine lv_aload_n (pc := 58) hC.x hC.b d_GM_like_58 rfl (lv_at hl 3 rfl) ?_
    refine fg_GM_22 (pc := 59) hC hP 0 rfl rfl d_GM_like_59 ?_
    refine lv_iload (pc := 62) hC.x hC.b d_GM_like_62 (lv_at hl 2 rfl) ?_
    refine ald_i (pc := 64) hC hP 5 (2000 + k) rfl rfl (by omega) (by decide) d_GM_like_64 ?_
    refine tp_i (y := (S.row k).2.1) hno.2.1 ?_
    refine lv_icmp_ne (pc := 65) (tgt := 89) hC.x hC.b d_GM_like_65 (by decide) (fun c_65 => ?_) (fun c_65 => ?_)
    · refine lv_iconst (pc := 89) (v := 0) hC.x hC.b d_GM_like_89 (by decide) ?_
      refine lv_iadd (pc := 90) hC.x hC.b d_GM_like_90 ?_
      refine tp_i (y := nI (cnt (lkP rw (S.row k)) (i + 1))) (cnt_f (fun z => c_65 z.2.1)) ?_
      refine lv_istore_n (pc := 91) (lv' := [(3, .int (nI (cnt (lkP rw (S.row k)) (i + 1)))), (5, .int (nI (200 * ro + i))), (4, .int (nI (2000 + k))), (0, .ref (md 0)), (1, .int (nI ro)), (2, .int (nI k))]) hC.x hC.b d_GM_like_91 rfl hl (by decide) rfl (fun ls hl => ?_)
      refine lv_iinc (pc := 92) (v := nI (200 * ro + (i + 1))) (lv' := [(5, .int (nI (200 * ro + (i + 1)))), (3, .int (nI (cnt (lkP rw (S.row k)) (i + 1)))), (4, .int (nI (2000 + k))), (0, .ref (md 0)), (1, .int (nI ro)), (2, .int (nI k))]) hC.x hC.b d_GM_like_92 hl (k := 1) rfl (by show nI _ + 1 = _; rw [nI_1]; rfl) (by decide) rfl (fun ls hl => ?_)
      refine lv_goto (pc := 95) (tgt := 16) hC.x hC.b d_GM_like_95 (by decide) ?_
      exact ih ls ⟨(lv_sub hl [0, 1, 2, 3, 4, 5] rfl), trivial⟩
    refine lv_aload_n (pc := 68) hC.x hC.b d_GM_like_68 rfl (lv_at hl 3 rfl) ?_
    refine fg_GM_25 (pc := 69) hC hP 0 rfl rfl d_GM_like_69 ?_
    refine lv_iload (pc := 72) hC.x hC.b d_GM_like_72 (lv_at hl 0 rfl) ?_
    refine ald_i (pc := 74) hC hP 6 (200 * ro + i) rfl rfl (by omega) (by decide) d_GM_like_74 ?_
    refine tp_i (y := (rw i).2.2) (hra i hj).2.2 ?_
    refine lv_aload_n (pc := 75) hC.x hC.b d_GM_like_75 rfl (lv_at hl 3 rfl) ?_
    refine fg_GM_25 (pc := 76) hC hP 0 rfl rfl d_GM_like_76 ?_
    refine lv_iload (pc := 79) hC.x hC.b d_GM_like_79 (lv_at hl 2 rfl) ?_
    refine ald_i (pc := 81) hC hP 6 (2000 + k) rfl rfl (by omega) (by decide) d_GM_like_81 ?_
    refine tp_i (y := (S.row k).2.2) hno.2.2 ?_
    refine lv_icmp_ne (pc := 82) (tgt := 89) hC.x hC.b d_GM_like_82 (by decide) (fun c_82 => ?_) (fun c_82 => ?_)
    · refine lv_iconst (pc := 89) (v := 0) hC.x hC.b d_GM_like_89 (by decide) ?_
      refine lv_iadd (pc := 90) hC.x hC.b d_GM_like_90 ?_
      refine tp_i (y := nI (cnt (lkP rw (S.row k)) (i + 1))) (cnt_f (fun z => c_82 z.2.2)) ?_
      refine lv_istore_n (pc := 91) (lv' := [(3, .int (nI (cnt (lkP rw (S.row k)) (i + 1)))), (5, .int (nI (200 * ro + i))), (4, .int (nI (2000 + k))), (0, .ref (md 0)), (1, .int (nI ro)), (2, .int (nI k))]) hC.x hC.b d_GM_like_91 rfl hl (by decide) rfl (fun ls hl => ?_)
      refine lv_iinc (pc := 92) (v := nI (200 * ro + (i + 1))) (lv' := [(5, .int (nI (200 * ro + (i + 1)))), (3, .int (nI (cnt (lkP rw (S.row k)) (i + 1)))), (4, .int (nI (2000 + k))), (0, .ref (md 0)), (1, .int (nI ro)), (2, .int (nI k))]) hC.x hC.b d_GM_like_92 hl (k := 1) rfl (by show nI _ + 1 = _; rw [nI_1]; rfl) (by decide) rfl (fun ls hl => ?_)
      refine lv_goto (pc := 95) (tgt := 16) hC.x hC.b d_GM_like_95 (by decide) ?_
      exact ih ls ⟨(lv_sub hl [0, 1, 2, 3, 4, 5] rfl), trivial⟩
    refine lv_iconst (pc := 85) (v := 1) hC.x hC.b d_GM_like_85 (by decide) ?_
    refine lv_goto (pc := 86) (tgt := 90) hC.x hC.b d_GM_like_86 (by decide) ?_
    refine lv_iadd (pc := 90) hC.x hC.b d_GM_like_90 ?_
    refine tp_i (y := nI (cnt (lkP rw (S.row k)) (i + 1))) (cnt_t ⟨c_48, c_65, c_82⟩) ?_
    refine lv_istore_n (pc := 91) (lv' := [(3, .int (nI (cnt (lkP rw (S.row k)) (i + 1)))), (5, .int (nI (200 * ro + i))), (4, .int (nI (2000 + k))), (0, .ref (md 0)), (1, .int (nI ro)), (2, .int (nI k))]) hC.x hC.b d_GM_like_91 rfl hl (by decide) rfl (fun ls hl => ?_)
    refine lv_iinc (pc := 92) (v := nI (200 * ro + (i + 1))) (lv' := [(5, .int (nI (200 * ro + (i + 1)))), (3, .int (nI (cnt (lkP rw (S.row k)) (i + 1)))), (4, .int (nI (2000 + k))), (0, .ref (md 0)), (1, .int (nI ro)), (2, .int (nI k))]) hC.x hC.b d_GM_like_92 hl (k := 1) rfl (by show nI _ + 1 = _; rw [nI_1]; rfl) (by decide) rfl (fun ls hl => ?_)
    refine lv_goto (pc := 95) (tgt := 16) hC.x hC.b d_GM_like_95 (by decide) ?_
    exact ih ls ⟨(lv_sub hl [0, 1, 2, 3, 4, 5] rfl), trivial⟩
set_option maxHeartbeats 4000000 in
set_option maxRecDepth 100000 in
theorem k_GM_97_GM_like (hC : CX p m c cc nL s args R_GM D dA) (hM : MW D dA A md S H) (hI : Inv S) {ro N k : Nat} {rw : Nat → T3} (hrw : RowOf S ro N rw) (hk : k < S.n) (hsz : ls.size = nL) (hW : (rest.map fun v => v.category).sum ≤ 8) (hR : 0 + 1 ≤ R.frames ∧ 8 + (6 + 11) + 0 ≤ R.locals) (hf : cells + 0 ≤ R.cells ∧ slots + 0 ≤ R.slots) (hdg : decode cc pc = .ok (.invokevirtual 97, 3)) (kk : W p l e R s m args below meth c H locs cells slots Q (F0 m (pc + 3) ls (.int (nI (cnt (lkP rw (S.row k)) N)) :: rest))) : W p l e R s m args below meth c H locs cells slots Q (F0 m pc ls (.int (nI k) :: .int (nI ro) :: .ref (md 0) :: rest)) :=
  vp_callSi (va_Run.run (runV hC (c_GM_like l hM hI hrw hk) tw_450 tw_447 tw_449 ts_13 tw_2 ⟨by decide +kernel, by decide +kernel, rfl⟩ rfl rfl (ci := 4) rfl rfl ((by obtain ⟨_, _, _, _, _, _, _, hP, _⟩ := hM; exact hP 0 _ rfl)) hsz rfl hW hR hf hdg)) (fun r hr => by rw [hr]; exact kk)
set_option maxHeartbeats 4000000 in
set_option maxRecDepth 100000 in
theorem c_GM_way (l : Launch) {x y : Int64} {D : va_G} {dA : Nat → ClassId} {H : Heap} : Met l y_GM_way (wd y_GM_way b_GM_way 4 (some .int)) ({ frames := 0, cells := 0, slots := 0, locals := 0 } : Room) (va_Pc [.long x, .long y] (PX D dA H)) (vp_Si (fun r => r = l3 x y)) 0 0 (fun _ => False) := by
  refine mkMet (by decide) (Nat.le_of_ble_eq_true rfl) ?_
  intro p e s m below meth c ls hC hr hlk hnm hl hH
  have hl : lv_has ls 4 [(0, .long x), (2, .long y)] := hl
  refine lv_lload_n (pc := 0) hC.x hC.b d_GM_way_0 rfl (lv_at hl 0 rfl) ?_
  refine lv_lload_n (pc := 1) hC.x hC.b d_GM_way_1 rfl (lv_at hl 1 rfl) ?_
  refine lc_ge (pc := 2) (tgt := 10) hC d_GM_way_2 d_GM_way_3 (by decide) (fun c_2 => ?_) (fun c_2 => ?_)
  · refine lv_lload_n (pc := 10) hC.x hC.b d_GM_way_10 rfl (lv_at hl 0 rfl) ?_
    refine lv_lload_n (pc := 11) hC.x hC.b d_GM_way_11 rfl (lv_at hl 1 rfl) ?_
    refine lc_le (pc := 12) (tgt := 20) hC d_GM_way_12 d_GM_way_13 (by decide) (fun c_12 => ?_) (fun c_12 => ?_)
    · refine lv_iconst (pc := 20) (v := 0) hC.x hC.b d_GM_way_20 (by decide) ?_
      exact ro_i (pc := 21) hC hr hlk hH d_GM_way_21 (by unfold l3; rw [if_neg (Int64.not_lt.mpr c_2), if_neg (Int64.not_lt.mpr c_12)])
    refine lv_iconst (pc := 16) (v := 1) hC.x hC.b d_GM_way_16 (by decide) ?_
    refine lv_goto (pc := 17) (tgt := 21) hC.x hC.b d_GM_way_17 (by decide) ?_
    exact ro_i (pc := 21) hC hr hlk hH d_GM_way_21 (by unfold l3; rw [if_neg (Int64.not_lt.mpr c_2), if_pos (Int64.not_le.mp c_12)])
  refine lv_iconst (pc := 6) (v := (-1)) hC.x hC.b d_GM_way_6 (by decide) ?_
  refine lv_goto (pc := 7) (tgt := 21) hC.x hC.b d_GM_way_7 (by decide) ?_
  exact ro_i (pc := 21) hC hr hlk hH d_GM_way_21 (by unfold l3; rw [if_pos (Int64.not_le.mp c_2)])
set_option maxHeartbeats 4000000 in
set_option maxRecDepth 100000 in
theorem k_GM_93_GM_way (hC : CX p m c cc nL s args R_GM D dA) {x y : Int64} (hsz : ls.size = nL) (hW : (rest.map fun v => v.category).sum ≤ 8) (hR : 0 + 1 ≤ R.frames ∧ 8 + (4 + 11) + 0 ≤ R.locals) (hf : cells + 0 ≤ R.cells ∧ slots + 0 ≤ R.slots) (hdg : decode cc pc = .ok (.invokestatic 93, 3)) (kk : W p l e R s m args below meth c H locs cells slots Q (F0 m (pc + 3) ls (.int (l3 x y) :: rest))) : W p l e R s m args below meth c H locs cells slots Q (F0 m pc ls (.long y :: .long x :: rest)) :=
  vp_callSi (va_Run.run (runS hC (c_GM_way l) tw_442 tw_440 tw_441 tw_2 ⟨by decide +kernel, by decide +kernel, rfl⟩ rfl rfl hsz rfl hW hR hf hdg)) (fun r hr => by rw [hr]; exact kk)
set_option maxHeartbeats 4000000 in
set_option maxRecDepth 100000 in
theorem c_GM_cost (l : Launch) {A : Nat → Prop} {md : Nat → Nat} {S : St} {D : va_G} {dA : Nat → ClassId} {H : Heap} (hM : MW D dA A md S H) (hI : Inv S) {x : Int32} : Met l y_GM_cost (wd y_GM_cost b_GM_cost 2 (some .long)) ({ frames := 1, cells := 0, slots := 0, locals := 26 } : Room) (va_Pc [.ref (md 0), .int x] (PX D dA H)) (QL (fun rr => rr = S.costA x) (fun H1 => MW D dA A md S H1) A) 0 0 A := by
  refine mkMet (by decide) (Nat.le_of_ble_eq_true rfl) ?_
  intro p e s m below meth c ls hC hr hlk hnm hl hH
  have hl : lv_has ls 2 [(0, .ref (md 0)), (1, .int x)] := hl
  obtain ⟨sz, br, wh, wi, sn, mi, th, hP, hD, hR⟩ := id hM
  obtain ⟨hnr, hn, hcur, hnc, hnk, hWE, hrow, hkr, hcl, hdj⟩ := id hI
  have hS : va_S A H H [] := va_S.rf
  refine lv_aload_n (pc := 0) hC.x hC.b d_GM_cost_0 rfl (lv_at hl 0 rfl) ?_
  refine lv_iconst (pc := 1) (v := 0) hC.x hC.b d_GM_cost_1 (by decide) ?_
  refine fp_GM_45 (pc := 2) hC hP hD hS 0 rfl (Nat.le_of_ble_eq_true rfl) d_GM_cost_2 (fun H1 locs hP hD hS => ?_)
  have hP : va_P D classes (mx dA md S sz br wh wi sn mi th) H1 := hP
  have hD : va_D A (mx dA md S sz br wh wi sn mi th) := hD
  have hM : MW D dA A md S H1 := ⟨sz, br, wh, wi, sn, mi, th, hP, hD, hR⟩
  rcases pk_ix x (n := S.n) (by omega) with hx | hx | ⟨k, hk, rfl⟩
  · refine lv_iload_n (pc := 5) hC.x hC.b d_GM_cost_5 rfl (lv_at hl 1 rfl) ?_
    refine lv_if_lt (pc := 6) (tgt := 17) hC.x hC.b d_GM_cost_6 (by decide) (fun c_6 => ?_) (fun c_6 => ?_)
    · refine lv_ldc2 (pc := 17) hC.x hC.b hC.o (hC.t _ tw_372) d_GM_cost_17 ?_
      refine lv_goto (pc := 20) (tgt := 30) hC.x hC.b d_GM_cost_20 (by decide) ?_
      exact wr_l (pc := 30) hC hr hlk (by rw [hH]; exact hS) d_GM_cost_30 (by unfold St.costA; rw [if_pos (Or.inl hx)]) hM
    · exact absurd hx c_6
  · refine lv_iload_n (pc := 5) hC.x hC.b d_GM_cost_5 rfl (lv_at hl 1 rfl) ?_
    refine lv_if_lt (pc := 6) (tgt := 17) hC.x hC.b d_GM_cost_6 (by decide) (fun c_6 => ?_) (fun c_6 => ?_)
    · refine lv_ldc2 (pc := 17) hC.x hC.b hC.o (hC.t _ tw_372) d_GM_cost_17 ?_
      refine lv_goto (pc := 20) (tgt := 30) hC.x hC.b d_GM_cost_20 (by decide) ?_
      exact wr_l (pc := 30) hC hr hlk (by rw [hH]; exact hS) d_GM_cost_30 (by unfold St.costA; rw [if_pos (Or.inr hx)]) hM
    refine lv_iload_n (pc := 9) hC.x hC.b d_GM_cost_9 rfl (lv_at hl 1 rfl) ?_
    refine lv_aload_n (pc := 10) hC.x hC.b d_GM_cost_10 rfl (lv_at hl 0 rfl) ?_
    refine k_GM_53_GM_count (pc := 11) hC hM hI hl.1 (Nat.le_of_ble_eq_true rfl) ⟨Nat.le_of_ble_eq_true rfl, Nat.le_of_ble_eq_true rfl⟩ ⟨Nat.zero_le _, Nat.zero_le _⟩ d_GM_cost_11 ?_
    refine lv_icmp_lt (pc := 14) (tgt := 23) hC.x hC.b d_GM_cost_14 (by decide) (fun c_14 => ?_) (fun c_14 => ?_)
    · exact absurd c_14 (Int32.not_lt.mpr hx)
    refine lv_ldc2 (pc := 17) hC.x hC.b hC.o (hC.t _ tw_372) d_GM_cost_17 ?_
    refine lv_goto (pc := 20) (tgt := 30) hC.x hC.b d_GM_cost_20 (by decide) ?_
    exact wr_l (pc := 30) hC hr hlk (by rw [hH]; exact hS) d_GM_cost_30 (by unfold St.costA; rw [if_pos (Or.inr hx)]) hM
  · refine lv_iload_n (pc := 5) hC.x hC.b d_GM_cost_5 rfl (lv_at hl 1 rfl) ?_
    refine lv_if_lt (pc := 6) (tgt := 17) hC.x hC.b d_GM_cost_6 (by decide) (fun c_6 => ?_) (fun c_6 => ?_)
    · exact absurd c_6 (nI_pos (by omega))
    refine lv_iload_n (pc := 9) hC.x hC.b d_GM_cost_9 rfl (lv_at hl 1 rfl) ?_
    refine lv_aload_n (pc := 10) hC.x hC.b d_GM_cost_10 rfl (lv_at hl 0 rfl) ?_
    refine k_GM_53_GM_count (pc := 11) hC hM hI hl.1 (Nat.le_of_ble_eq_true rfl) ⟨Nat.le_of_ble_eq_true rfl, Nat.le_of_ble_eq_true rfl⟩ ⟨Nat.zero_le _, Nat.zero_le _⟩ d_GM_cost_11 ?_
    refine ni_lt (pc := 14) (tgt := 23) hC d_GM_cost_14 (by decide) (by omega) (by omega) (fun c_14 => ?_) (fun c_14 => ?_)
    · refine lv_aload_n (pc := 23) hC.x hC.b d_GM_cost_23 rfl (lv_at hl 0 rfl) ?_
      refine lv_bipush (pc := 24) (v := nI 10) hC.x hC.b d_GM_cost_24 (by decide) ?_
      refine lv_iload_n (pc := 26) hC.x hC.b d_GM_cost_26 rfl (lv_at hl 1 rfl) ?_
      refine k_GM_68_GM_costOf (pc := 27) hC hM hI (RowOf.now S) hk hl.1 (Nat.le_of_ble_eq_true rfl) ⟨Nat.le_of_ble_eq_true rfl, Nat.le_of_ble_eq_true rfl⟩ ⟨Nat.zero_le _, Nat.zero_le _⟩ d_GM_cost_27 ?_
      exact wr_l (pc := 30) hC hr hlk (by rw [hH]; exact hS) d_GM_cost_30 (costA_in hk hn).symm hM
    · exact absurd c_14 (by omega)
set_option maxHeartbeats 4000000 in
set_option maxRecDepth 100000 in
theorem c_GM_sum (l : Launch) {A : Nat → Prop} {md : Nat → Nat} {S : St} {D : va_G} {dA : Nat → ClassId} {H : Heap} (hM : MW D dA A md S H) (hI : Inv S) {x : Int32} : Met l y_GM_sum (wd y_GM_sum b_GM_sum 2 (some .long)) ({ frames := 2, cells := 0, slots := 0, locals := 51 } : Room) (va_Pc [.ref (md 0), .int x] (PX D dA H)) (QL (fun rr => rr = S.sumA x) (fun H1 => MW D dA A md S H1) A) 0 0 A := by
  refine mkMet (by decide) (Nat.le_of_ble_eq_true rfl) ?_
  intro p e s m below meth c ls hC hr hlk hnm hl hH
  have hl : lv_has ls 2 [(0, .ref (md 0)), (1, .int x)] := hl
  obtain ⟨sz, br, wh, wi, sn, mi, th, hP, hD, hR⟩ := id hM
  obtain ⟨hnr, hn, hcur, hnc, hnk, hWE, hrow, hkr, hcl, hdj⟩ := id hI
  have hS : va_S A H H [] := va_S.rf
  refine lv_aload_n (pc := 0) hC.x hC.b d_GM_sum_0 rfl (lv_at hl 0 rfl) ?_
  refine lv_iconst (pc := 1) (v := 0) hC.x hC.b d_GM_sum_1 (by decide) ?_
  refine fp_GM_45 (pc := 2) hC hP hD hS 0 rfl (Nat.le_of_ble_eq_true rfl) d_GM_sum_2 (fun H1 locs hP hD hS => ?_)
  have hP : va_P D classes (mx dA md S sz br wh wi sn mi th) H1 := hP
  have hD : va_D A (mx dA md S sz br wh wi sn mi th) := hD
  have hM : MW D dA A md S H1 := ⟨sz, br, wh, wi, sn, mi, th, hP, hD, hR⟩
  refine lv_iload_n (pc := 5) hC.x hC.b d_GM_sum_5 rfl (lv_at hl 1 rfl) ?_
  refine lv_if_ge (pc := 6) (tgt := 15) hC.x hC.b d_GM_sum_6 (by decide) (fun c_6 => ?_) (fun c_6 => ?_)
  · obtain ⟨q, hq, rfl⟩ := nI_of (Int32.not_lt.mpr c_6)
    refine lv_aload_n (pc := 15) hC.x hC.b d_GM_sum_15 rfl (lv_at hl 0 rfl) ?_
    refine lv_bipush (pc := 16) (v := nI 10) hC.x hC.b d_GM_sum_16 (by decide) ?_
    refine lv_iload_n (pc := 18) hC.x hC.b d_GM_sum_18 rfl (lv_at hl 1 rfl) ?_
    refine k_GM_72_GM_sumOf (pc := 19) hC hM hI (RowOf.now S) hq hl.1 (Nat.le_of_ble_eq_true rfl) ⟨Nat.le_of_ble_eq_true rfl, Nat.le_of_ble_eq_true rfl⟩ ⟨Nat.zero_le _, Nat.zero_le _⟩ d_GM_sum_19 ?_
    exact wr_l (pc := 22) hC hr hlk (by rw [hH]; exact hS) d_GM_sum_22 (by unfold St.sumA; rw [if_neg (nI_pos hq), nI_clamp hq]) hM
  refine lv_ldc2 (pc := 9) hC.x hC.b hC.o (hC.t _ tw_372) d_GM_sum_9 ?_
  refine lv_goto (pc := 12) (tgt := 22) hC.x hC.b d_GM_sum_12 (by decide) ?_
  exact wr_l (pc := 22) hC hr hlk (by rw [hH]; exact hS) d_GM_sum_22 (by unfold St.sumA; rw [if_pos (Int32.not_le.mp c_6)]) hM
set_option maxHeartbeats 4000000 in
set_option maxRecDepth 100000 in
theorem c_GM_grade (l : Launch) {A : Nat → Prop} {md : Nat → Nat} {S : St} {D : va_G} {dA : Nat → ClassId} {H : Heap} (hM : MW D dA A md S H) (hI : Inv S) : Met l y_GM_grade (wd y_GM_grade b_GM_grade 1 (some .int)) ({ frames := 3, cells := 0, slots := 0, locals := 71 } : Room) (va_Pc [.ref (md 0)] (PX D dA H)) (QI (fun rr => rr = S.grade) (fun H1 => MW D dA A md S H1) A) 0 0 A := by
  refine mkMet (by decide) (Nat.le_of_ble_eq_true rfl) ?_
  intro p e s m below meth c ls hC hr hlk hnm hl hH
  have hl : lv_has ls 1 [(0, .ref (md 0))] := hl
  obtain ⟨sz, br, wh, wi, sn, mi, th, hP, hD, hR⟩ := id hM
  obtain ⟨hnr, hn, hcur, hnc, hnk, hWE, hrow, hkr, hcl, hdj⟩ := id hI
  have hS : va_S A H H [] := va_S.rf
  refine lv_aload_n (pc := 0) hC.x hC.b d_GM_grade_0 rfl (lv_at hl 0 rfl) ?_
  refine lv_iconst (pc := 1) (v := 0) hC.x hC.b d_GM_grade_1 (by decide) ?_
  refine fp_GM_45 (pc := 2) hC hP hD hS 0 rfl (Nat.le_of_ble_eq_true rfl) d_GM_grade_2 (fun H1 locs hP hD hS => ?_)
  have hP : va_P D classes (mx dA md S sz br wh wi sn mi th) H1 := hP
  have hD : va_D A (mx dA md S sz br wh wi sn mi th) := hD
  have hM : MW D dA A md S H1 := ⟨sz, br, wh, wi, sn, mi, th, hP, hD, hR⟩
  refine lv_aload_n (pc := 5) hC.x hC.b d_GM_grade_5 rfl (lv_at hl 0 rfl) ?_
  refine lv_aload_n (pc := 6) hC.x hC.b d_GM_grade_6 rfl (lv_at hl 0 rfl) ?_
  refine k_GM_82_GM_all (pc := 7) hC hM hI hl.1 (Nat.le_of_ble_eq_true rfl) ⟨Nat.le_of_ble_eq_true rfl, Nat.le_of_ble_eq_true rfl⟩ ⟨Nat.zero_le _, Nat.zero_le _⟩ d_GM_grade_7 ?_
  refine k_GM_86_GM_classOf (pc := 10) hC hM hI hl.1 (Nat.le_of_ble_eq_true rfl) ⟨Nat.le_of_ble_eq_true rfl, Nat.le_of_ble_eq_true rfl⟩ ⟨Nat.zero_le _, Nat.zero_le _⟩ d_GM_grade_10 ?_
  exact wr_i (pc := 13) hC hr hlk (by rw [hH]; exact hS) d_GM_grade_13 rfl hM
set_option maxHeartbeats 4000000 in
set_option maxRecDepth 100000 in
theorem c_GM_rank (l : Launch) {A : Nat → Prop} {md : Nat → Nat} {S : St} {D : va_G} {dA : Nat → ClassId} {H : Heap} (hM : MW D dA A md S H) (hI : Inv S) : Met l y_GM_rank (wd y_GM_rank b_GM_rank 5 (some .int)) ({ frames := 3, cells := 0, slots := 0, locals := 71 } : Room) (va_Pc [.ref (md 0)] (PX D dA H)) (QI (fun rr => rr = S.rankM) (fun H1 => MW D dA A md S H1) A) 0 0 A := by
  refine mkMet (by decide) (Nat.le_of_ble_eq_true rfl) ?_
  intro p e s m below meth c ls hC hr hlk hnm hl hH
  have hl : lv_has ls 5 [(0, .ref (md 0))] := hl
  obtain ⟨sz, br, wh, wi, sn, mi, th, hP, hD, hR⟩ := id hM
  obtain ⟨hnr, hn, hcur, hnc, hnk, hWE, hrow, hkr, hcl, hdj⟩ := id hI
  have hS : va_S A H H [] := va_S.rf
  refine lv_aload_n (pc := 0) hC.x hC.b d_GM_rank_0 rfl (lv_at hl 0 rfl) ?_
  refine lv_iconst (pc := 1) (v := 0) hC.x hC.b d_GM_rank_1 (by decide) ?_
  refine fp_GM_45 (pc := 2) hC hP hD hS 0 rfl (Nat.le_of_ble_eq_true rfl) d_GM_rank_2 (fun H1 locs hP hD hS => ?_)
  have hP : va_P D classes (mx dA md S sz br wh wi sn mi th) H1 := hP
  have hD : va_D A (mx dA md S sz br wh wi sn mi th) := hD
  have hM : MW D dA A md S H1 := ⟨sz, br, wh, wi, sn, mi, th, hP, hD, hR⟩
  refine lv_aload_n (pc := 5) hC.x hC.b d_GM_rank_5 rfl (lv_at hl 0 rfl) ?_
  refine k_GM_82_GM_all (pc := 6) hC hM hI hl.1 (Nat.le_of_ble_eq_true rfl) ⟨Nat.le_of_ble_eq_true rfl, Nat.le_of_ble_eq_true rfl⟩ ⟨Nat.zero_le _, Nat.zero_le _⟩ d_GM_rank_6 ?_
  refine lv_lstore_n (pc := 9) (lv' := [(1, .long (S.sum S.n)), (0, .ref (md 0))]) hC.x hC.b d_GM_rank_9 rfl hl (by decide) rfl (fun ls hl => ?_)
  refine lv_aload_n (pc := 10) hC.x hC.b d_GM_rank_10 rfl (lv_at hl 1 rfl) ?_
  refine lv_lload_n (pc := 11) hC.x hC.b d_GM_rank_11 rfl (lv_at hl 0 rfl) ?_
  refine k_GM_86_GM_classOf (pc := 12) hC hM hI hl.1 (Nat.le_of_ble_eq_true rfl) ⟨Nat.le_of_ble_eq_true rfl, Nat.le_of_ble_eq_true rfl⟩ ⟨Nat.zero_le _, Nat.zero_le _⟩ d_GM_rank_12 ?_
  rcases cls_cases hnc (S.sum S.n) with ⟨c, hc, hin, hg, hg0, hgc⟩ | ⟨hg, hg0⟩
  · refine lv_if_ge (pc := 15) (tgt := 20) hC.x hC.b d_GM_rank_15 (by decide) (fun c_15 => ?_) (fun c_15 => ?_)
    · refine lv_iconst (pc := 20) (v := 0) hC.x hC.b d_GM_rank_20 (by decide) ?_
      refine tp_i (y := nI (cnt (fun k => S.hi k < S.sum S.n) 0)) rfl ?_
      refine lv_istore_n (pc := 21) (lv' := [(3, .int (nI (cnt (fun k => S.hi k < S.sum S.n) 0))), (1, .long (S.sum S.n)), (0, .ref (md 0))]) hC.x hC.b d_GM_rank_21 rfl hl (by decide) rfl (fun ls hl => ?_)
      refine lv_iconst (pc := 22) (v := nI 0) hC.x hC.b d_GM_rank_22 (by decide) ?_
      refine lv_istore (pc := 23) (lv' := [(4, .int (nI 0)), (3, .int (nI (cnt (fun k => S.hi k < S.sum S.n) 0))), (1, .long (S.sum S.n)), (0, .ref (md 0))]) hC.x hC.b d_GM_rank_23 hl (by decide) rfl (fun ls hl => ?_)
      refine lpW (pc := 25) (I := fun j ls => lv_has ls 5 [(4, .int (nI j)), (3, .int (nI (cnt (fun k => S.hi k < S.sum S.n) j))), (0, .ref (md 0)), (1, .long (S.sum S.n))] ∧ True) (S.nc) ?_ ?_ (0) (Nat.zero_le _) ⟨(lv_sub hl [0, 1, 3, 2] rfl), trivial⟩
      · intro ls hI
        obtain ⟨hl, hv⟩ := hI
        refine lv_iload (pc := 25) hC.x hC.b d_GM_rank_25 (lv_at hl 0 rfl) ?_
        refine lv_aload_n (pc := 27) hC.x hC.b d_GM_rank_27 rfl (lv_at hl 2 rfl) ?_
        refine fg_GM_79 (pc := 28) hC hP 0 rfl rfl d_GM_rank_28 ?_
        refine ni_ge (pc := 31) (tgt := 60) hC d_GM_rank_31 (by decide) (by omega) (by omega) (fun c_31 => ?_) (fun c_31 => ?_)
        · refine lv_iload_n (pc := 60) hC.x hC.b d_GM_rank_60 rfl (lv_at hl 1 rfl) ?_
          exact wr_i (pc := 61) hC hr hlk (by rw [hH]; exact hS) d_GM_rank_61 (by unfold St.rankM; rw [show S.grade = S.cls (S.sum S.n) from rfl, if_neg hg0]) hM
        · exact absurd c_31 (Nat.lt_irrefl _)
      · intro j ls hj hI ih
        obtain ⟨hl, hv⟩ := hI
        refine lv_iload (pc := 25) hC.x hC.b d_GM_rank_25 (lv_at hl 0 rfl) ?_
        refine lv_aload_n (pc := 27) hC.x hC.b d_GM_rank_27 rfl (lv_at hl 2 rfl) ?_
        refine fg_GM_79 (pc := 28) hC hP 0 rfl rfl d_GM_rank_28 ?_
        refine ni_ge (pc := 31) (tgt := 60) hC d_GM_rank_31 (by decide) (by omega) (by omega) (fun c_31 => ?_) (fun c_31 => ?_)
        · exact absurd c_31 (by omega)
        refine lv_iload_n (pc := 34) hC.x hC.b d_GM_rank_34 rfl (lv_at hl 1 rfl) ?_
        refine lv_aload_n (pc := 35) hC.x hC.b d_GM_rank_35 rfl (lv_at hl 2 rfl) ?_
        refine fg_GM_32 (pc := 36) hC hP 0 rfl rfl d_GM_rank_36 ?_
        refine lv_iload (pc := 39) hC.x hC.b d_GM_rank_39 (lv_at hl 0 rfl) ?_
        refine ald_l (pc := 41) hC hP 8 (j) rfl rfl (by omega) (by decide) d_GM_rank_41 ?_
        refine lv_lload_n (pc := 42) hC.x hC.b d_GM_rank_42 rfl (lv_at hl 3 rfl) ?_
        refine lc_ge (pc := 43) (tgt := 51) hC d_GM_rank_43 d_GM_rank_44 (by decide) (fun c_43 => ?_) (fun c_43 => ?_)
        · refine lv_iconst (pc := 51) (v := 0) hC.x hC.b d_GM_rank_51 (by decide) ?_
          refine lv_iadd (pc := 52) hC.x hC.b d_GM_rank_52 ?_
          refine tp_i (y := nI (cnt (fun k => S.hi k < S.sum S.n) (j + 1))) (cnt_f (Int64.not_lt.mpr c_43)) ?_
          refine lv_istore_n (pc := 53) (lv' := [(3, .int (nI (cnt (fun k => S.hi k < S.sum S.n) (j + 1)))), (4, .int (nI j)), (0, .ref (md 0)), (1, .long (S.sum S.n))]) hC.x hC.b d_GM_rank_53 rfl hl (by decide) rfl (fun ls hl => ?_)
          refine lv_iinc (pc := 54) (v := nI (j + 1)) (lv' := [(4, .int (nI (j + 1))), (3, .int (nI (cnt (fun k => S.hi k < S.sum S.n) (j + 1)))), (0, .ref (md 0)), (1, .long (S.sum S.n))]) hC.x hC.b d_GM_rank_54 hl (k := 1) rfl (nI_1 _) (by decide) rfl (fun ls hl => ?_)
          refine lv_goto (pc := 57) (tgt := 25) hC.x hC.b d_GM_rank_57 (by decide) ?_
          exact ih ls ⟨(lv_sub hl [0, 1, 2, 3] rfl), trivial⟩
        · refine lv_iconst (pc := 47) (v := 1) hC.x hC.b d_GM_rank_47 (by decide) ?_
          refine lv_goto (pc := 48) (tgt := 52) hC.x hC.b d_GM_rank_48 (by decide) ?_
          refine lv_iadd (pc := 52) hC.x hC.b d_GM_rank_52 ?_
          refine tp_i (y := nI (cnt (fun k => S.hi k < S.sum S.n) (j + 1))) (cnt_t (Int64.not_le.mp c_43)) ?_
          refine lv_istore_n (pc := 53) (lv' := [(3, .int (nI (cnt (fun k => S.hi k < S.sum S.n) (j + 1)))), (4, .int (nI j)), (0, .ref (md 0)), (1, .long (S.sum S.n))]) hC.x hC.b d_GM_rank_53 rfl hl (by decide) rfl (fun ls hl => ?_)
          refine lv_iinc (pc := 54) (v := nI (j + 1)) (lv' := [(4, .int (nI (j + 1))), (3, .int (nI (cnt (fun k => S.hi k < S.sum S.n) (j + 1)))), (0, .ref (md 0)), (1, .long (S.sum S.n))]) hC.x hC.b d_GM_rank_54 hl (k := 1) rfl (nI_1 _) (by decide) rfl (fun ls hl => ?_)
          refine lv_goto (pc := 57) (tgt := 25) hC.x hC.b d_GM_rank_57 (by decide) ?_
          exact ih ls ⟨(lv_sub hl [0, 1, 2, 3] rfl), trivial⟩
    · exact absurd (by rw [hg]; exact nI_pos' (by omega)) c_15
  · refine lv_if_ge (pc := 15) (tgt := 20) hC.x hC.b d_GM_rank_15 (by decide) (fun c_15 => ?_) (fun c_15 => ?_)
    · exact absurd c_15 (by rw [hg]; decide)
    refine lv_iconst (pc := 18) (v := (-1)) hC.x hC.b d_GM_rank_18 (by decide) ?_
    exact wr_i (pc := 19) hC hr hlk (by rw [hH]; exact hS) d_GM_rank_19 (by unfold St.rankM; rw [show S.grade = S.cls (S.sum S.n) from rfl, if_pos hg0]) hM
set_option maxHeartbeats 4000000 in
set_option maxRecDepth 100000 in
theorem c_GM_gap (l : Launch) {A : Nat → Prop} {md : Nat → Nat} {S : St} {D : va_G} {dA : Nat → ClassId} {H : Heap} (hM : MW D dA A md S H) (hI : Inv S) {v : Int64} {F : Nat} (hF : 100000002 ≤ F) : Met l y_GM_gap (wd y_GM_gap b_GM_gap 5 (some .long)) ({ frames := 1, cells := 0, slots := 0, locals := 23 } : Room) (va_Pc [.ref (md 0), .long v] (PX D dA H)) (QL (fun rr => rr = S.gapX F v) (fun H1 => MW D dA A md S H1) A) 0 0 A := by
  refine mkMet (by decide) (Nat.le_of_ble_eq_true rfl) ?_
  intro p e s m below meth c ls hC hr hlk hnm hl hH
  have hl : lv_has ls 5 [(0, .ref (md 0)), (1, .long v)] := hl
  obtain ⟨sz, br, wh, wi, sn, mi, th, hP, hD, hR⟩ := id hM
  obtain ⟨hnr, hn, hcur, hnc, hnk, hWE, hrow, hkr, hcl, hdj⟩ := id hI
  have hS : va_S A H H [] := va_S.rf
  refine lv_aload_n (pc := 0) hC.x hC.b d_GM_gap_0 rfl (lv_at hl 0 rfl) ?_
  refine lv_iconst (pc := 1) (v := 0) hC.x hC.b d_GM_gap_1 (by decide) ?_
  refine fp_GM_45 (pc := 2) hC hP hD hS 0 rfl (Nat.le_of_ble_eq_true rfl) d_GM_gap_2 (fun H1 locs hP hD hS => ?_)
  have hP : va_P D classes (mx dA md S sz br wh wi sn mi th) H1 := hP
  have hD : va_D A (mx dA md S sz br wh wi sn mi th) := hD
  have hM : MW D dA A md S H1 := ⟨sz, br, wh, wi, sn, mi, th, hP, hD, hR⟩
  refine lv_lload_n (pc := 5) hC.x hC.b d_GM_gap_5 rfl (lv_at hl 1 rfl) ?_
  refine lv_lconst (pc := 6) (v := 0) hC.x hC.b d_GM_gap_6 (by decide) ?_
  refine lc_ge (pc := 7) (tgt := 15) hC d_GM_gap_7 d_GM_gap_8 (by decide) (fun c_7 => ?_) (fun c_7 => ?_)
  · refine lv_lload_n (pc := 15) hC.x hC.b d_GM_gap_15 rfl (lv_at hl 1 rfl) ?_
    refine lv_lstore_n (pc := 16) (lv' := [(3, .long v), (0, .ref (md 0)), (1, .long v)]) hC.x hC.b d_GM_gap_16 rfl hl (by decide) rfl (fun ls hl => ?_)
    refine lpR (pc := 17) (I := fun d ls => ∃ (w : Int64) (F1 : Nat), lv_has ls 5 [(3, .long w), (0, .ref (md 0)), (1, .long v)] ∧ gp S F1 w = gp S F v ∧ (100000001 - w.toInt).toNat = d ∧ d < F1) ?_ (100000001 - v.toInt).toNat ⟨v, F, (lv_sub hl [0, 1, 2] rfl), rfl, rfl, ?_⟩
    · intro d ls hI2 ih
      obtain ⟨w, F1, hl, hg, hd, hF1⟩ := hI2
      refine lv_aload_n (pc := 17) hC.x hC.b d_GM_gap_17 rfl (lv_at hl 1 rfl) ?_
      refine lv_lload_n (pc := 18) hC.x hC.b d_GM_gap_18 rfl (lv_at hl 0 rfl) ?_
      refine k_GM_86_GM_classOf (pc := 19) hC hM hI hl.1 (Nat.le_of_ble_eq_true rfl) ⟨Nat.le_of_ble_eq_true rfl, Nat.le_of_ble_eq_true rfl⟩ ⟨Nat.zero_le _, Nat.zero_le _⟩ d_GM_gap_19 ?_
      rcases cls_cases hnc w with ⟨c, hc, hin, hg1, hg0, hgc⟩ | ⟨hg1, hg0⟩
      · refine lv_if_lt (pc := 22) (tgt := 41) hC.x hC.b d_GM_gap_22 (by decide) (fun c_22 => ?_) (fun c_22 => ?_)
        · exact absurd c_22 hg0
        refine lv_aload_n (pc := 25) hC.x hC.b d_GM_gap_25 rfl (lv_at hl 1 rfl) ?_
        refine fg_GM_32 (pc := 26) hC hP 0 rfl rfl d_GM_gap_26 ?_
        refine lv_aload_n (pc := 29) hC.x hC.b d_GM_gap_29 rfl (lv_at hl 1 rfl) ?_
        refine lv_lload_n (pc := 30) hC.x hC.b d_GM_gap_30 rfl (lv_at hl 0 rfl) ?_
        refine k_GM_86_GM_classOf (pc := 31) hC hM hI hl.1 (Nat.le_of_ble_eq_true rfl) ⟨Nat.le_of_ble_eq_true rfl, Nat.le_of_ble_eq_true rfl⟩ ⟨Nat.zero_le _, Nat.zero_le _⟩ d_GM_gap_31 ?_
        refine ald_l (pc := 34) hC hP 8 (c) rfl hg1 (by omega) (by decide) d_GM_gap_34 ?_
        refine lv_lconst (pc := 35) (v := 1) hC.x hC.b d_GM_gap_35 (by decide) ?_
        refine lv_ladd (pc := 36) hC.x hC.b d_GM_gap_36 ?_
        refine lv_lstore_n (pc := 37) (lv' := [(3, .long ((S.hi c) + 1)), (0, .ref (md 0)), (1, .long v)]) hC.x hC.b d_GM_gap_37 rfl hl (by decide) rfl (fun ls hl => ?_)
        refine lv_goto (pc := 38) (tgt := 17) hC.x hC.b d_GM_gap_38 (by decide) ?_
        exact ih _ ls (hd ▸ gp_mu hI hc hin) ⟨S.hi c + 1, F1 - 1, (lv_sub hl [0, 1, 2] rfl), (gp_go hg0 hgc (by omega)).symm.trans hg, rfl, by have := gp_mu hI hc hin; omega⟩
      · refine lv_if_lt (pc := 22) (tgt := 41) hC.x hC.b d_GM_gap_22 (by decide) (fun c_22 => ?_) (fun c_22 => ?_)
        · refine lv_lload_n (pc := 41) hC.x hC.b d_GM_gap_41 rfl (lv_at hl 0 rfl) ?_
          exact wr_l (pc := 42) hC hr hlk (by rw [hH]; exact hS) d_GM_gap_42 (by unfold St.gapX; rw [if_neg (Int64.not_lt.mpr c_7), ← hg]; exact (gp_stop hg0 (by omega)).symm) hM
        · exact absurd hg0 c_22
    rw [Int64.le_iff_toInt_le] at c_7
    have e0 : (0 : Int64).toInt = 0 := by decide
    omega
  refine lv_ldc2 (pc := 11) hC.x hC.b hC.o (hC.t _ tw_372) d_GM_gap_11 ?_
  exact wr_l (pc := 14) hC hr hlk (by rw [hH]; exact hS) d_GM_gap_14 (by unfold St.gapX; rw [if_pos (Int64.not_le.mp c_7)]) hM
set_option maxHeartbeats 4000000 in
set_option maxRecDepth 100000 in
theorem c_GM_run (l : Launch) {A : Nat → Prop} {md : Nat → Nat} {S : St} {D : va_G} {dA : Nat → ClassId} {H : Heap} (hM : MW D dA A md S H) (hI : Inv S) : Met l y_GM_run (wd y_GM_run b_GM_run 4 (some .int)) ({ frames := 1, cells := 0, slots := 0, locals := 26 } : Room) (va_Pc [.ref (md 0)] (PX D dA H)) (QI (fun rr => rr = S.runX) (fun H1 => MW D dA A md S H1) A) 0 0 A := by
  refine mkMet (by decide) (Nat.le_of_ble_eq_true rfl) ?_
  intro p e s m below meth c ls hC hr hlk hnm hl hH
  have hl : lv_has ls 4 [(0, .ref (md 0))] := hl
  obtain ⟨sz, br, wh, wi, sn, mi, th, hP, hD, hR⟩ := id hM
  obtain ⟨hnr, hn, hcur, hnc, hnk, hWE, hrow, hkr, hcl, hdj⟩ := id hI
  have hS : va_S A H H [] := va_S.rf
  refine lv_aload_n (pc := 0) hC.x hC.b d_GM_run_0 rfl (lv_at hl 0 rfl) ?_
  refine lv_iconst (pc := 1) (v := 0) hC.x hC.b d_GM_run_1 (by decide) ?_
  refine fp_GM_45 (pc := 2) hC hP hD hS 0 rfl (Nat.le_of_ble_eq_true rfl) d_GM_run_2 (fun H1 locs hP hD hS => ?_)
  have hP : va_P D classes (mx dA md S sz br wh wi sn mi th) H1 := hP
  have hD : va_D A (mx dA md S sz br wh wi sn mi th) := hD
  have hM : MW D dA A md S H1 := ⟨sz, br, wh, wi, sn, mi, th, hP, hD, hR⟩
  refine lv_iconst (pc := 5) (v := 0) hC.x hC.b d_GM_run_5 (by decide) ?_
  refine tp_i (y := (rn S.cost 0).1) rfl ?_
  refine lv_istore_n (pc := 6) (lv' := [(1, .int ((rn S.cost 0).1)), (0, .ref (md 0))]) hC.x hC.b d_GM_run_6 rfl hl (by decide) rfl (fun ls hl => ?_)
  refine lv_iconst (pc := 7) (v := 0) hC.x hC.b d_GM_run_7 (by decide) ?_
  refine tp_i (y := (rn S.cost 0).2) rfl ?_
  refine lv_istore_n (pc := 8) (lv' := [(2, .int ((rn S.cost 0).2)), (1, .int ((rn S.cost 0).1)), (0, .ref (md 0))]) hC.x hC.b d_GM_run_8 rfl hl (by decide) rfl (fun ls hl => ?_)
  refine lv_iconst (pc := 9) (v := nI 0) hC.x hC.b d_GM_run_9 (by decide) ?_
  refine lv_istore_n (pc := 10) (lv' := [(3, .int (nI 0)), (2, .int ((rn S.cost 0).2)), (1, .int ((rn S.cost 0).1)), (0, .ref (md 0))]) hC.x hC.b d_GM_run_10 rfl hl (by decide) rfl (fun ls hl => ?_)
  refine lpW (pc := 11) (I := fun j ls => lv_has ls 4 [(3, .int (nI j)), (1, .int (rn S.cost j).1), (2, .int (rn S.cost j).2), (0, .ref (md 0))] ∧ True) (S.n) ?_ ?_ (0) (Nat.zero_le _) ⟨(lv_sub hl [0, 2, 1, 3] rfl), trivial⟩
  · intro ls hI
    obtain ⟨hl, hv⟩ := hI
    refine lv_iload_n (pc := 11) hC.x hC.b d_GM_run_11 rfl (lv_at hl 0 rfl) ?_
    refine lv_aload_n (pc := 12) hC.x hC.b d_GM_run_12 rfl (lv_at hl 3 rfl) ?_
    refine k_GM_53_GM_count (pc := 13) hC hM hI hl.1 (Nat.le_of_ble_eq_true rfl) ⟨Nat.le_of_ble_eq_true rfl, Nat.le_of_ble_eq_true rfl⟩ ⟨Nat.zero_le _, Nat.zero_le _⟩ d_GM_run_13 ?_
    refine ni_ge (pc := 16) (tgt := 68) hC d_GM_run_16 (by decide) (by omega) (by omega) (fun c_16 => ?_) (fun c_16 => ?_)
    · refine lv_iload_n (pc := 68) hC.x hC.b d_GM_run_68 rfl (lv_at hl 1 rfl) ?_
      exact wr_i (pc := 69) hC hr hlk (by rw [hH]; exact hS) d_GM_run_69 rfl hM
    · exact absurd c_16 (Nat.lt_irrefl _)
  · intro j ls hj hI ih
    obtain ⟨hl, hv⟩ := hI
    refine lv_iload_n (pc := 11) hC.x hC.b d_GM_run_11 rfl (lv_at hl 0 rfl) ?_
    refine lv_aload_n (pc := 12) hC.x hC.b d_GM_run_12 rfl (lv_at hl 3 rfl) ?_
    refine k_GM_53_GM_count (pc := 13) hC hM hI hl.1 (Nat.le_of_ble_eq_true rfl) ⟨Nat.le_of_ble_eq_true rfl, Nat.le_of_ble_eq_true rfl⟩ ⟨Nat.zero_le _, Nat.zero_le _⟩ d_GM_run_13 ?_
    refine ni_ge (pc := 16) (tgt := 68) hC d_GM_run_16 (by decide) (by omega) (by omega) (fun c_16 => ?_) (fun c_16 => ?_)
    · exact absurd c_16 (by omega)
    refine lv_iload_n (pc := 19) hC.x hC.b d_GM_run_19 rfl (lv_at hl 0 rfl) ?_
    refine nz_le (pc := 20) (tgt := 49) hC d_GM_run_20 (by decide) (by omega) (fun c_20 => ?_) (fun c_20 => ?_)
    · refine lv_iconst (pc := 49) (v := 1) hC.x hC.b d_GM_run_49 (by decide) ?_
      refine tp_i (y := (rn S.cost (j + 1)).2) (rn_one (fun z => by omega)) ?_
      refine lv_istore_n (pc := 50) (lv' := [(2, .int ((rn S.cost (j + 1)).2)), (3, .int (nI j)), (1, .int (rn S.cost j).1), (0, .ref (md 0))]) hC.x hC.b d_GM_run_50 rfl hl (by decide) rfl (fun ls hl => ?_)
      refine lv_iload_n (pc := 51) hC.x hC.b d_GM_run_51 rfl (lv_at hl 0 rfl) ?_
      refine lv_iload_n (pc := 52) hC.x hC.b d_GM_run_52 rfl (lv_at hl 2 rfl) ?_
      refine lv_icmp_le (pc := 53) (tgt := 60) hC.x hC.b d_GM_run_53 (by decide) (fun c_53 => ?_) (fun c_53 => ?_)
      · refine lv_iload_n (pc := 60) hC.x hC.b d_GM_run_60 rfl (lv_at hl 2 rfl) ?_
        refine tp_i (y := (rn S.cost (j + 1)).1) ((if_neg (Int32.not_lt.mpr c_53)).symm.trans rn_best) ?_
        refine lv_istore_n (pc := 61) (lv' := [(1, .int ((rn S.cost (j + 1)).1)), (2, .int ((rn S.cost (j + 1)).2)), (3, .int (nI j)), (0, .ref (md 0))]) hC.x hC.b d_GM_run_61 rfl hl (by decide) rfl (fun ls hl => ?_)
        refine lv_iinc (pc := 62) (v := nI (j + 1)) (lv' := [(3, .int (nI (j + 1))), (1, .int ((rn S.cost (j + 1)).1)), (2, .int ((rn S.cost (j + 1)).2)), (0, .ref (md 0))]) hC.x hC.b d_GM_run_62 hl (k := 2) rfl (nI_1 _) (by decide) rfl (fun ls hl => ?_)
        refine lv_goto (pc := 65) (tgt := 11) hC.x hC.b d_GM_run_65 (by decide) ?_
        exact ih ls ⟨(lv_sub hl [0, 1, 2, 3] rfl), trivial⟩
      refine lv_iload_n (pc := 56) hC.x hC.b d_GM_run_56 rfl (lv_at hl 0 rfl) ?_
      refine tp_i (y := (rn S.cost (j + 1)).1) ((if_pos (Int32.not_le.mp c_53)).symm.trans rn_best) ?_
      refine lv_goto (pc := 57) (tgt := 61) hC.x hC.b d_GM_run_57 (by decide) ?_
      refine lv_istore_n (pc := 61) (lv' := [(1, .int ((rn S.cost (j + 1)).1)), (2, .int ((rn S.cost (j + 1)).2)), (3, .int (nI j)), (0, .ref (md 0))]) hC.x hC.b d_GM_run_61 rfl hl (by decide) rfl (fun ls hl => ?_)
      refine lv_iinc (pc := 62) (v := nI (j + 1)) (lv' := [(3, .int (nI (j + 1))), (1, .int ((rn S.cost (j + 1)).1)), (2, .int ((rn S.cost (j + 1)).2)), (0, .ref (md 0))]) hC.x hC.b d_GM_run_62 hl (k := 2) rfl (nI_1 _) (by decide) rfl (fun ls hl => ?_)
      refine lv_goto (pc := 65) (tgt := 11) hC.x hC.b d_GM_run_65 (by decide) ?_
      exact ih ls ⟨(lv_sub hl [0, 1, 2, 3] rfl), trivial⟩
    refine lv_aload_n (pc := 23) hC.x hC.b d_GM_run_23 rfl (lv_at hl 3 rfl) ?_
    refine lv_bipush (pc := 24) (v := nI 10) hC.x hC.b d_GM_run_24 (by decide) ?_
    refine lv_iload_n (pc := 26) hC.x hC.b d_GM_run_26 rfl (lv_at hl 0 rfl) ?_
    refine k_GM_68_GM_costOf (pc := 27) hC hM hI (RowOf.now S) (k := j) (by omega) hl.1 (Nat.le_of_ble_eq_true rfl) ⟨Nat.le_of_ble_eq_true rfl, Nat.le_of_ble_eq_true rfl⟩ ⟨Nat.zero_le _, Nat.zero_le _⟩ d_GM_run_27 ?_
    refine lv_aload_n (pc := 30) hC.x hC.b d_GM_run_30 rfl (lv_at hl 3 rfl) ?_
    refine lv_bipush (pc := 31) (v := nI 10) hC.x hC.b d_GM_run_31 (by decide) ?_
    refine lv_iload_n (pc := 33) hC.x hC.b d_GM_run_33 rfl (lv_at hl 0 rfl) ?_
    refine lv_iconst (pc := 34) (v := 1) hC.x hC.b d_GM_run_34 (by decide) ?_
    refine lv_isub (pc := 35) hC.x hC.b d_GM_run_35 ?_
    refine tp_i (y := nI (j - 1)) (nI_sub1 c_20) ?_
    refine k_GM_68_GM_costOf (pc := 36) hC hM hI (RowOf.now S) (k := j - 1) (by omega) hl.1 (Nat.le_of_ble_eq_true rfl) ⟨Nat.le_of_ble_eq_true rfl, Nat.le_of_ble_eq_true rfl⟩ ⟨Nat.zero_le _, Nat.zero_le _⟩ d_GM_run_36 ?_
    refine lc_lt (pc := 39) (tgt := 49) hC d_GM_run_39 d_GM_run_40 (by decide) (fun c_39 => ?_) (fun c_39 => ?_)
    · refine lv_iconst (pc := 49) (v := 1) hC.x hC.b d_GM_run_49 (by decide) ?_
      refine tp_i (y := (rn S.cost (j + 1)).2) (rn_one (fun z => Int64.not_le.mpr c_39 z.2)) ?_
      refine lv_istore_n (pc := 50) (lv' := [(2, .int ((rn S.cost (j + 1)).2)), (3, .int (nI j)), (1, .int (rn S.cost j).1), (0, .ref (md 0))]) hC.x hC.b d_GM_run_50 rfl hl (by decide) rfl (fun ls hl => ?_)
      refine lv_iload_n (pc := 51) hC.x hC.b d_GM_run_51 rfl (lv_at hl 0 rfl) ?_
      refine lv_iload_n (pc := 52) hC.x hC.b d_GM_run_52 rfl (lv_at hl 2 rfl) ?_
      refine lv_icmp_le (pc := 53) (tgt := 60) hC.x hC.b d_GM_run_53 (by decide) (fun c_53 => ?_) (fun c_53 => ?_)
      · refine lv_iload_n (pc := 60) hC.x hC.b d_GM_run_60 rfl (lv_at hl 2 rfl) ?_
        refine tp_i (y := (rn S.cost (j + 1)).1) ((if_neg (Int32.not_lt.mpr c_53)).symm.trans rn_best) ?_
        refine lv_istore_n (pc := 61) (lv' := [(1, .int ((rn S.cost (j + 1)).1)), (2, .int ((rn S.cost (j + 1)).2)), (3, .int (nI j)), (0, .ref (md 0))]) hC.x hC.b d_GM_run_61 rfl hl (by decide) rfl (fun ls hl => ?_)
        refine lv_iinc (pc := 62) (v := nI (j + 1)) (lv' := [(3, .int (nI (j + 1))), (1, .int ((rn S.cost (j + 1)).1)), (2, .int ((rn S.cost (j + 1)).2)), (0, .ref (md 0))]) hC.x hC.b d_GM_run_62 hl (k := 2) rfl (nI_1 _) (by decide) rfl (fun ls hl => ?_)
        refine lv_goto (pc := 65) (tgt := 11) hC.x hC.b d_GM_run_65 (by decide) ?_
        exact ih ls ⟨(lv_sub hl [0, 1, 2, 3] rfl), trivial⟩
      refine lv_iload_n (pc := 56) hC.x hC.b d_GM_run_56 rfl (lv_at hl 0 rfl) ?_
      refine tp_i (y := (rn S.cost (j + 1)).1) ((if_pos (Int32.not_le.mp c_53)).symm.trans rn_best) ?_
      refine lv_goto (pc := 57) (tgt := 61) hC.x hC.b d_GM_run_57 (by decide) ?_
      refine lv_istore_n (pc := 61) (lv' := [(1, .int ((rn S.cost (j + 1)).1)), (2, .int ((rn S.cost (j + 1)).2)), (3, .int (nI j)), (0, .ref (md 0))]) hC.x hC.b d_GM_run_61 rfl hl (by decide) rfl (fun ls hl => ?_)
      refine lv_iinc (pc := 62) (v := nI (j + 1)) (lv' := [(3, .int (nI (j + 1))), (1, .int ((rn S.cost (j + 1)).1)), (2, .int ((rn S.cost (j + 1)).2)), (0, .ref (md 0))]) hC.x hC.b d_GM_run_62 hl (k := 2) rfl (nI_1 _) (by decide) rfl (fun ls hl => ?_)
      refine lv_goto (pc := 65) (tgt := 11) hC.x hC.b d_GM_run_65 (by decide) ?_
      exact ih ls ⟨(lv_sub hl [0, 1, 2, 3] rfl), trivial⟩
    refine lv_iload_n (pc := 43) hC.x hC.b d_GM_run_43 rfl (lv_at hl 2 rfl) ?_
    refine lv_iconst (pc := 44) (v := 1) hC.x hC.b d_GM_run_44 (by decide) ?_
    refine lv_iadd (pc := 45) hC.x hC.b d_GM_run_45 ?_
    refine tp_i (y := (rn S.cost (j + 1)).2) (rn_up ⟨c_20, Int64.not_lt.mp c_39⟩) ?_
    refine lv_goto (pc := 46) (tgt := 50) hC.x hC.b d_GM_run_46 (by decide) ?_
    refine lv_istore_n (pc := 50) (lv' := [(2, .int ((rn S.cost (j + 1)).2)), (3, .int (nI j)), (1, .int (rn S.cost j).1), (0, .ref (md 0))]) hC.x hC.b d_GM_run_50 rfl hl (by decide) rfl (fun ls hl => ?_)
    refine lv_iload_n (pc := 51) hC.x hC.b d_GM_run_51 rfl (lv_at hl 0 rfl) ?_
    refine lv_iload_n (pc := 52) hC.x hC.b d_GM_run_52 rfl (lv_at hl 2 rfl) ?_
    refine lv_icmp_le (pc := 53) (tgt := 60) hC.x hC.b d_GM_run_53 (by decide) (fun c_53 => ?_) (fun c_53 => ?_)
    · refine lv_iload_n (pc := 60) hC.x hC.b d_GM_run_60 rfl (lv_at hl 2 rfl) ?_
      refine tp_i (y := (rn S.cost (j + 1)).1) ((if_neg (Int32.not_lt.mpr c_53)).symm.trans rn_best) ?_
      refine lv_istore_n (pc := 61) (lv' := [(1, .int ((rn S.cost (j + 1)).1)), (2, .int ((rn S.cost (j + 1)).2)), (3, .int (nI j)), (0, .ref (md 0))]) hC.x hC.b d_GM_run_61 rfl hl (by decide) rfl (fun ls hl => ?_)
      refine lv_iinc (pc := 62) (v := nI (j + 1)) (lv' := [(3, .int (nI (j + 1))), (1, .int ((rn S.cost (j + 1)).1)), (2, .int ((rn S.cost (j + 1)).2)), (0, .ref (md 0))]) hC.x hC.b d_GM_run_62 hl (k := 2) rfl (nI_1 _) (by decide) rfl (fun ls hl => ?_)
      refine lv_goto (pc := 65) (tgt := 11) hC.x hC.b d_GM_run_65 (by decide) ?_
      exact ih ls ⟨(lv_sub hl [0, 1, 2, 3] rfl), trivial⟩
    refine lv_iload_n (pc := 56) hC.x hC.b d_GM_run_56 rfl (lv_at hl 0 rfl) ?_
    refine tp_i (y := (rn S.cost (j + 1)).1) ((if_pos (Int32.not_le.mp c_53)).symm.trans rn_best) ?_
    refine lv_goto (pc := 57) (tgt := 61) hC.x hC.b d_GM_run_57 (by decide) ?_
    refine lv_istore_n (pc := 61) (lv' := [(1, .int ((rn S.cost (j + 1)).1)), (2, .int ((rn S.cost (j + 1)).2)), (3, .int (nI j)), (0, .ref (md 0))]) hC.x hC.b d_GM_run_61 rfl hl (by decide) rfl (fun ls hl => ?_)
    refine lv_iinc (pc := 62) (v := nI (j + 1)) (lv' := [(3, .int (nI (j + 1))), (1, .int ((rn S.cost (j + 1)).1)), (2, .int ((rn S.cost (j + 1)).2)), (0, .ref (md 0))]) hC.x hC.b d_GM_run_62 hl (k := 2) rfl (nI_1 _) (by decide) rfl (fun ls hl => ?_)
    refine lv_goto (pc := 65) (tgt := 11) hC.x hC.b d_GM_run_65 (by decide) ?_
    exact ih ls ⟨(lv_sub hl [0, 1, 2, 3] rfl), trivial⟩
set_option maxHeartbeats 4000000 in
set_option maxRecDepth 100000 in
theorem c_GM_hardest (l : Launch) {A : Nat → Prop} {md : Nat → Nat} {S : St} {D : va_G} {dA : Nat → ClassId} {H : Heap} (hM : MW D dA A md S H) (hI : Inv S) : Met l y_GM_hardest (wd y_GM_hardest b_GM_hardest 8 (some .int)) ({ frames := 1, cells := 0, slots := 0, locals := 26 } : Room) (va_Pc [.ref (md 0)] (PX D dA H)) (QI (fun rr => rr = S.hardX) (fun H1 => MW D dA A md S H1) A) 0 0 A := by
  refine mkMet (by decide) (Nat.le_of_ble_eq_true rfl) ?_
  intro p e s m below meth c ls hC hr hlk hnm hl hH
  have hl : lv_has ls 8 [(0, .ref (md 0))] := hl
  obtain ⟨sz, br, wh, wi, sn, mi, th, hP, hD, hR⟩ := id hM
  obtain ⟨hnr, hn, hcur, hnc, hnk, hWE, hrow, hkr, hcl, hdj⟩ := id hI
  have hS : va_S A H H [] := va_S.rf
  refine lv_aload_n (pc := 0) hC.x hC.b d_GM_hardest_0 rfl (lv_at hl 0 rfl) ?_
  refine lv_iconst (pc := 1) (v := 0) hC.x hC.b d_GM_hardest_1 (by decide) ?_
  refine fp_GM_45 (pc := 2) hC hP hD hS 0 rfl (Nat.le_of_ble_eq_true rfl) d_GM_hardest_2 (fun H1 locs hP hD hS => ?_)
  have hP : va_P D classes (mx dA md S sz br wh wi sn mi th) H1 := hP
  have hD : va_D A (mx dA md S sz br wh wi sn mi th) := hD
  have hM : MW D dA A md S H1 := ⟨sz, br, wh, wi, sn, mi, th, hP, hD, hR⟩
  refine lv_iconst (pc := 5) (v := (-1)) hC.x hC.b d_GM_hardest_5 (by decide) ?_
  refine tp_i (y := (hdO S.cost S.row S.n 0).1) rfl ?_
  refine lv_istore_n (pc := 6) (lv' := [(1, .int ((hdO S.cost S.row S.n 0).1)), (0, .ref (md 0))]) hC.x hC.b d_GM_hardest_6 rfl hl (by decide) rfl (fun ls hl => ?_)
  refine lv_ldc2 (pc := 7) hC.x hC.b hC.o (hC.t _ tw_372) d_GM_hardest_7 ?_
  refine tp_l (y := (hdO S.cost S.row S.n 0).2) rfl ?_
  refine lv_lstore_n (pc := 10) (lv' := [(2, .long ((hdO S.cost S.row S.n 0).2)), (1, .int ((hdO S.cost S.row S.n 0).1)), (0, .ref (md 0))]) hC.x hC.b d_GM_hardest_10 rfl hl (by decide) rfl (fun ls hl => ?_)
  refine lv_iconst (pc := 11) (v := nI 0) hC.x hC.b d_GM_hardest_11 (by decide) ?_
  refine lv_istore (pc := 12) (lv' := [(4, .int (nI 0)), (2, .long ((hdO S.cost S.row S.n 0).2)), (1, .int ((hdO S.cost S.row S.n 0).1)), (0, .ref (md 0))]) hC.x hC.b d_GM_hardest_12 hl (by decide) rfl (fun ls hl => ?_)
  refine lpW (pc := 14) (I := fun q ls => lv_has ls 8 [(4, .int (nI q)), (1, .int (hdO S.cost S.row S.n q).1), (2, .long (hdO S.cost S.row S.n q).2), (0, .ref (md 0))] ∧ True) (S.nr) ?_ ?_ (0) (Nat.zero_le _) ⟨(lv_sub hl [0, 2, 1, 3] rfl), trivial⟩
  · intro ls hI
    obtain ⟨hl, hv⟩ := hI
    refine lv_iload (pc := 14) hC.x hC.b d_GM_hardest_14 (lv_at hl 0 rfl) ?_
    refine lv_aload_n (pc := 16) hC.x hC.b d_GM_hardest_16 rfl (lv_at hl 3 rfl) ?_
    refine fg_GM_50 (pc := 17) hC hP 0 rfl rfl d_GM_hardest_17 ?_
    refine ni_ge (pc := 20) (tgt := 111) hC d_GM_hardest_20 (by decide) (by omega) (by omega) (fun c_20 => ?_) (fun c_20 => ?_)
    · refine lv_iload_n (pc := 111) hC.x hC.b d_GM_hardest_111 rfl (lv_at hl 1 rfl) ?_
      exact wr_i (pc := 112) hC hr hlk (by rw [hH]; exact hS) d_GM_hardest_112 rfl hM
    · exact absurd c_20 (Nat.lt_irrefl _)
  · intro q ls hj hI ih
    obtain ⟨hl, hv⟩ := hI
    refine lv_iload (pc := 14) hC.x hC.b d_GM_hardest_14 (lv_at hl 0 rfl) ?_
    refine lv_aload_n (pc := 16) hC.x hC.b d_GM_hardest_16 rfl (lv_at hl 3 rfl) ?_
    refine fg_GM_50 (pc := 17) hC hP 0 rfl rfl d_GM_hardest_17 ?_
    refine ni_ge (pc := 20) (tgt := 111) hC d_GM_hardest_20 (by decide) (by omega) (by omega) (fun c_20 => ?_) (fun c_20 => ?_)
    · exact absurd c_20 (by omega)
    refine lv_ldc2 (pc := 23) hC.x hC.b hC.o (hC.t _ tw_372) d_GM_hardest_23 ?_
    refine tp_l (y := hdI S.cost S.row (nI q) 0) rfl ?_
    refine lv_lstore (pc := 26) (lv' := [(5, .long (hdI S.cost S.row (nI q) 0)), (4, .int (nI q)), (1, .int (hdO S.cost S.row S.n q).1), (2, .long (hdO S.cost S.row S.n q).2), (0, .ref (md 0))]) hC.x hC.b d_GM_hardest_26 hl (by decide) rfl (fun ls hl => ?_)
    refine lv_iconst (pc := 28) (v := nI 0) hC.x hC.b d_GM_hardest_28 (by decide) ?_
    refine lv_istore (pc := 29) (lv' := [(7, .int (nI 0)), (5, .long (hdI S.cost S.row (nI q) 0)), (4, .int (nI q)), (1, .int (hdO S.cost S.row S.n q).1), (2, .long (hdO S.cost S.row S.n q).2), (0, .ref (md 0))]) hC.x hC.b d_GM_hardest_29 hl (by decide) rfl (fun ls hl => ?_)
    refine lpW (pc := 31) (I := fun j ls => lv_has ls 8 [(7, .int (nI j)), (5, .long (hdI S.cost S.row (nI q) j)), (4, .int (nI q)), (1, .int (hdO S.cost S.row S.n q).1), (2, .long (hdO S.cost S.row S.n q).2), (0, .ref (md 0))] ∧ True) (S.n) ?_ ?_ (0) (Nat.zero_le _) ⟨(lv_sub hl [0, 1, 2, 3, 4, 5] rfl), trivial⟩
    · intro ls hI
      obtain ⟨hl, hv2⟩ := hI
      refine lv_iload (pc := 31) hC.x hC.b d_GM_hardest_31 (lv_at hl 0 rfl) ?_
      refine lv_aload_n (pc := 33) hC.x hC.b d_GM_hardest_33 rfl (lv_at hl 5 rfl) ?_
      refine k_GM_53_GM_count (pc := 34) hC hM hI hl.1 (Nat.le_of_ble_eq_true rfl) ⟨Nat.le_of_ble_eq_true rfl, Nat.le_of_ble_eq_true rfl⟩ ⟨Nat.zero_le _, Nat.zero_le _⟩ d_GM_hardest_34 ?_
      refine ni_ge (pc := 37) (tgt := 89) hC d_GM_hardest_37 (by decide) (by omega) (by omega) (fun c_37 => ?_) (fun c_37 => ?_)
      · refine lv_lload (pc := 89) hC.x hC.b d_GM_hardest_89 (lv_at hl 1 rfl) ?_
        refine lv_lload_n (pc := 91) hC.x hC.b d_GM_hardest_91 rfl (lv_at hl 4 rfl) ?_
        refine lc_gt (pc := 92) (tgt := 99) hC d_GM_hardest_92 d_GM_hardest_93 (by decide) (fun c_92 => ?_) (fun c_92 => ?_)
        · refine lv_lload (pc := 99) hC.x hC.b d_GM_hardest_99 (lv_at hl 1 rfl) ?_
          refine lv_lstore_n (pc := 101) (lv' := [(2, .long (hdI S.cost S.row (nI q) S.n)), (7, .int (nI S.n)), (5, .long (hdI S.cost S.row (nI q) S.n)), (4, .int (nI q)), (1, .int (hdO S.cost S.row S.n q).1), (0, .ref (md 0))]) hC.x hC.b d_GM_hardest_101 rfl hl (by decide) rfl (fun ls hl => ?_)
          refine lv_iload (pc := 102) hC.x hC.b d_GM_hardest_102 (lv_at hl 3 rfl) ?_
          refine lv_istore_n (pc := 104) (lv' := [(1, .int (nI q)), (2, .long (hdI S.cost S.row (nI q) S.n)), (7, .int (nI S.n)), (5, .long (hdI S.cost S.row (nI q) S.n)), (4, .int (nI q)), (0, .ref (md 0))]) hC.x hC.b d_GM_hardest_104 rfl hl (by decide) rfl (fun ls hl => ?_)
          refine lv_iinc (pc := 105) (v := nI (q + 1)) (lv' := [(4, .int (nI (q + 1))), (1, .int (nI q)), (2, .long (hdI S.cost S.row (nI q) S.n)), (7, .int (nI S.n)), (5, .long (hdI S.cost S.row (nI q) S.n)), (0, .ref (md 0))]) hC.x hC.b d_GM_hardest_105 hl (k := 4) rfl (nI_1 _) (by decide) rfl (fun ls hl => ?_)
          refine lv_goto (pc := 108) (tgt := 14) hC.x hC.b d_GM_hardest_108 (by decide) ?_
          refine ih ls ⟨?_, trivial⟩
          rw [hdO_f (Int64.not_le.mpr c_92)]
          exact (lv_sub hl [0, 1, 2, 5] rfl)
        · refine lv_goto (pc := 96) (tgt := 105) hC.x hC.b d_GM_hardest_96 (by decide) ?_
          refine lv_iinc (pc := 105) (v := nI (q + 1)) (lv' := [(4, .int (nI (q + 1))), (7, .int (nI S.n)), (5, .long (hdI S.cost S.row (nI q) S.n)), (1, .int (hdO S.cost S.row S.n q).1), (2, .long (hdO S.cost S.row S.n q).2), (0, .ref (md 0))]) hC.x hC.b d_GM_hardest_105 hl (k := 2) rfl (nI_1 _) (by decide) rfl (fun ls hl => ?_)
          refine lv_goto (pc := 108) (tgt := 14) hC.x hC.b d_GM_hardest_108 (by decide) ?_
          refine ih ls ⟨?_, trivial⟩
          rw [hdO_t (Int64.not_lt.mp c_92)]
          exact (lv_sub hl [0, 3, 4, 5] rfl)
      · exact absurd c_37 (Nat.lt_irrefl _)
    · intro j ls hj2 hI ih2
      obtain ⟨hl, hv2⟩ := hI
      refine lv_iload (pc := 31) hC.x hC.b d_GM_hardest_31 (lv_at hl 0 rfl) ?_
      refine lv_aload_n (pc := 33) hC.x hC.b d_GM_hardest_33 rfl (lv_at hl 5 rfl) ?_
      refine k_GM_53_GM_count (pc := 34) hC hM hI hl.1 (Nat.le_of_ble_eq_true rfl) ⟨Nat.le_of_ble_eq_true rfl, Nat.le_of_ble_eq_true rfl⟩ ⟨Nat.zero_le _, Nat.zero_le _⟩ d_GM_hardest_34 ?_
      refine ni_ge (pc := 37) (tgt := 89) hC d_GM_hardest_37 (by decide) (by omega) (by omega) (fun c_37 => ?_) (fun c_37 => ?_)
      · exact absurd c_37 (by omega)
      refine lv_aload_n (pc := 40) hC.x hC.b d_GM_hardest_40 rfl (lv_at hl 5 rfl) ?_
      refine fg_GM_19 (pc := 41) hC hP 0 rfl rfl d_GM_hardest_41 ?_
      refine lv_sipush (pc := 44) (v := nI 2000) hC.x hC.b d_GM_hardest_44 (by decide) ?_
      refine lv_iload (pc := 47) hC.x hC.b d_GM_hardest_47 (lv_at hl 0 rfl) ?_
      refine lv_iadd (pc := 49) hC.x hC.b d_GM_hardest_49 ?_
      refine tp_i (y := nI (2000 + j)) (nI_add _ _) ?_
      refine ald_i (pc := 50) hC hP 4 (2000 + j) rfl rfl (by omega) (by decide) d_GM_hardest_50 ?_
      refine tp_i (y := (S.row j).1) (hR.2.1 j hj2).1 ?_
      refine lv_iload (pc := 51) hC.x hC.b d_GM_hardest_51 (lv_at hl 2 rfl) ?_
      refine lv_icmp_eq (pc := 53) (tgt := 59) hC.x hC.b d_GM_hardest_53 (by decide) (fun c_53 => ?_) (fun c_53 => ?_)
      · refine lv_lload (pc := 59) hC.x hC.b d_GM_hardest_59 (lv_at hl 1 rfl) ?_
        refine lv_lconst (pc := 61) (v := 0) hC.x hC.b d_GM_hardest_61 (by decide) ?_
        refine lc_ge (pc := 62) (tgt := 70) hC d_GM_hardest_62 d_GM_hardest_63 (by decide) (fun c_62 => ?_) (fun c_62 => ?_)
        · refine lv_lload (pc := 70) hC.x hC.b d_GM_hardest_70 (lv_at hl 1 rfl) ?_
          refine tp_l (y := if 0 < hdI S.cost S.row (nI q) j then hdI S.cost S.row (nI q) j else 0) ((if_neg (Int64.not_lt.mpr c_62)).symm.trans hd_mx) ?_
          refine lv_aload_n (pc := 72) hC.x hC.b d_GM_hardest_72 rfl (lv_at hl 5 rfl) ?_
          refine lv_bipush (pc := 73) (v := nI 10) hC.x hC.b d_GM_hardest_73 (by decide) ?_
          refine lv_iload (pc := 75) hC.x hC.b d_GM_hardest_75 (lv_at hl 0 rfl) ?_
          refine k_GM_68_GM_costOf (pc := 77) hC hM hI (RowOf.now S) (k := j) hj2 hl.1 (Nat.le_of_ble_eq_true rfl) ⟨Nat.le_of_ble_eq_true rfl, Nat.le_of_ble_eq_true rfl⟩ ⟨Nat.zero_le _, Nat.zero_le _⟩ d_GM_hardest_77 ?_
          refine lv_ladd (pc := 80) hC.x hC.b d_GM_hardest_80 ?_
          refine tp_l (y := hdI S.cost S.row (nI q) (j + 1)) (hdI_t c_53) ?_
          refine lv_lstore (pc := 81) (lv' := [(5, .long (hdI S.cost S.row (nI q) (j + 1))), (7, .int (nI j)), (4, .int (nI q)), (1, .int (hdO S.cost S.row S.n q).1), (2, .long (hdO S.cost S.row S.n q).2), (0, .ref (md 0))]) hC.x hC.b d_GM_hardest_81 hl (by decide) rfl (fun ls hl => ?_)
          refine lv_iinc (pc := 83) (v := nI (j + 1)) (lv' := [(7, .int (nI (j + 1))), (5, .long (hdI S.cost S.row (nI q) (j + 1))), (4, .int (nI q)), (1, .int (hdO S.cost S.row S.n q).1), (2, .long (hdO S.cost S.row S.n q).2), (0, .ref (md 0))]) hC.x hC.b d_GM_hardest_83 hl (k := 1) rfl (nI_1 _) (by decide) rfl (fun ls hl => ?_)
          refine lv_goto (pc := 86) (tgt := 31) hC.x hC.b d_GM_hardest_86 (by decide) ?_
          exact ih2 ls ⟨(lv_sub hl [0, 1, 2, 3, 4, 5] rfl), trivial⟩
        refine lv_lconst (pc := 66) (v := 0) hC.x hC.b d_GM_hardest_66 (by decide) ?_
        refine tp_l (y := if 0 < hdI S.cost S.row (nI q) j then hdI S.cost S.row (nI q) j else 0) ((if_pos (Int64.not_le.mp c_62)).symm.trans hd_mx) ?_
        refine lv_goto (pc := 67) (tgt := 72) hC.x hC.b d_GM_hardest_67 (by decide) ?_
        refine lv_aload_n (pc := 72) hC.x hC.b d_GM_hardest_72 rfl (lv_at hl 5 rfl) ?_
        refine lv_bipush (pc := 73) (v := nI 10) hC.x hC.b d_GM_hardest_73 (by decide) ?_
        refine lv_iload (pc := 75) hC.x hC.b d_GM_hardest_75 (lv_at hl 0 rfl) ?_
        refine k_GM_68_GM_costOf (pc := 77) hC hM hI (RowOf.now S) (k := j) hj2 hl.1 (Nat.le_of_ble_eq_true rfl) ⟨Nat.le_of_ble_eq_true rfl, Nat.le_of_ble_eq_true rfl⟩ ⟨Nat.zero_le _, Nat.zero_le _⟩ d_GM_hardest_77 ?_
        refine lv_ladd (pc := 80) hC.x hC.b d_GM_hardest_80 ?_
        refine tp_l (y := hdI S.cost S.row (nI q) (j + 1)) (hdI_t c_53) ?_
        refine lv_lstore (pc := 81) (lv' := [(5, .long (hdI S.cost S.row (nI q) (j + 1))), (7, .int (nI j)), (4, .int (nI q)), (1, .int (hdO S.cost S.row S.n q).1), (2, .long (hdO S.cost S.row S.n q).2), (0, .ref (md 0))]) hC.x hC.b d_GM_hardest_81 hl (by decide) rfl (fun ls hl => ?_)
        refine lv_iinc (pc := 83) (v := nI (j + 1)) (lv' := [(7, .int (nI (j + 1))), (5, .long (hdI S.cost S.row (nI q) (j + 1))), (4, .int (nI q)), (1, .int (hdO S.cost S.row S.n q).1), (2, .long (hdO S.cost S.row S.n q).2), (0, .ref (md 0))]) hC.x hC.b d_GM_hardest_83 hl (k := 1) rfl (nI_1 _) (by decide) rfl (fun ls hl => ?_)
        refine lv_goto (pc := 86) (tgt := 31) hC.x hC.b d_GM_hardest_86 (by decide) ?_
        exact ih2 ls ⟨(lv_sub hl [0, 1, 2, 3, 4, 5] rfl), trivial⟩
      refine lv_goto (pc := 56) (tgt := 83) hC.x hC.b d_GM_hardest_56 (by decide) ?_
      refine lv_iinc (pc := 83) (v := nI (j + 1)) (lv' := [(7, .int (nI (j + 1))), (5, .long (hdI S.cost S.row (nI q) j)), (4, .int (nI q)), (1, .int (hdO S.cost S.row S.n q).1), (2, .long (hdO S.cost S.row S.n q).2), (0, .ref (md 0))]) hC.x hC.b d_GM_hardest_83 hl (k := 0) rfl (nI_1 _) (by decide) rfl (fun ls hl => ?_)
      refine lv_goto (pc := 86) (tgt := 31) hC.x hC.b d_GM_hardest_86 (by decide) ?_
      refine ih2 ls ⟨?_, trivial⟩
      rw [← hdI_f c_53]
      exact (lv_sub hl [0, 1, 2, 3, 4, 5] rfl)
def St.sameM (S : St) (x r : Int32) : Prop := ((x < 0 ∨ nI S.nk ≤ x) ∧ r = 0) ∨ ∃ j, j < S.nk ∧ x = nI j ∧ ((S.ks j ≠ S.n ∧ r = 0) ∨ (S.ks j = S.n ∧ r = if ∀ k, k < S.n → cnt (lkP (S.kr j) (S.row k)) (S.ks j) = cnt (lkP S.row (S.row k)) S.n then 1 else 0))
set_option maxHeartbeats 4000000 in
set_option maxRecDepth 100000 in
theorem c_GM_same (l : Launch) {A : Nat → Prop} {md : Nat → Nat} {S : St} {D : va_G} {dA : Nat → ClassId} {H : Heap} (hM : MW D dA A md S H) (hI : Inv S) {x : Int32} : Met l y_GM_same (wd y_GM_same b_GM_same 3 (some .boolean)) ({ frames := 1, cells := 0, slots := 0, locals := 25 } : Room) (va_Pc [.ref (md 0), .int x] (PX D dA H)) (QI (fun rr => S.sameM x rr) (fun H1 => MW D dA A md S H1) A) 0 0 A := by
  refine mkMet (by decide) (Nat.le_of_ble_eq_true rfl) ?_
  intro p e s m below meth c ls hC hr hlk hnm hl hH
  have hl : lv_has ls 3 [(0, .ref (md 0)), (1, .int x)] := hl
  obtain ⟨sz, br, wh, wi, sn, mi, th, hP, hD, hR⟩ := id hM
  obtain ⟨hnr, hn, hcur, hnc, hnk, hWE, hrow, hkr, hcl, hdj⟩ := id hI
  have hS : va_S A H H [] := va_S.rf
  refine lv_aload_n (pc := 0) hC.x hC.b d_GM_same_0 rfl (lv_at hl 0 rfl) ?_
  refine lv_iconst (pc := 1) (v := 0) hC.x hC.b d_GM_same_1 (by decide) ?_
  refine fp_GM_45 (pc := 2) hC hP hD hS 0 rfl (Nat.le_of_ble_eq_true rfl) d_GM_same_2 (fun H1 locs hP hD hS => ?_)
  have hP : va_P D classes (mx dA md S sz br wh wi sn mi th) H1 := hP
  have hD : va_D A (mx dA md S sz br wh wi sn mi th) := hD
  have hM : MW D dA A md S H1 := ⟨sz, br, wh, wi, sn, mi, th, hP, hD, hR⟩
  rcases pk_ix x (n := S.nk) (by omega) with hx | hx | ⟨j, hj, rfl⟩
  · refine lv_iload_n (pc := 5) hC.x hC.b d_GM_same_5 rfl (lv_at hl 1 rfl) ?_
    refine lv_if_lt (pc := 6) (tgt := 30) hC.x hC.b d_GM_same_6 (by decide) (fun c_6 => ?_) (fun c_6 => ?_)
    · refine lv_iconst (pc := 30) (v := 0) hC.x hC.b d_GM_same_30 (by decide) ?_
      exact wr_z (pc := 31) hC hr hlk (by rw [hH]; exact hS) d_GM_same_31 (by decide) (Or.inl ⟨Or.inl hx, rfl⟩) hM
    · exact absurd hx c_6
  · refine lv_iload_n (pc := 5) hC.x hC.b d_GM_same_5 rfl (lv_at hl 1 rfl) ?_
    refine lv_if_lt (pc := 6) (tgt := 30) hC.x hC.b d_GM_same_6 (by decide) (fun c_6 => ?_) (fun c_6 => ?_)
    · refine lv_iconst (pc := 30) (v := 0) hC.x hC.b d_GM_same_30 (by decide) ?_
      exact wr_z (pc := 31) hC hr hlk (by rw [hH]; exact hS) d_GM_same_31 (by decide) (Or.inl ⟨Or.inr hx, rfl⟩) hM
    refine lv_iload_n (pc := 9) hC.x hC.b d_GM_same_9 rfl (lv_at hl 1 rfl) ?_
    refine lv_aload_n (pc := 10) hC.x hC.b d_GM_same_10 rfl (lv_at hl 0 rfl) ?_
    refine fg_GM_90 (pc := 11) hC hP 0 rfl rfl d_GM_same_11 ?_
    refine lv_icmp_ge (pc := 14) (tgt := 30) hC.x hC.b d_GM_same_14 (by decide) (fun c_14 => ?_) (fun c_14 => ?_)
    · refine lv_iconst (pc := 30) (v := 0) hC.x hC.b d_GM_same_30 (by decide) ?_
      exact wr_z (pc := 31) hC hr hlk (by rw [hH]; exact hS) d_GM_same_31 (by decide) (Or.inl ⟨Or.inr hx, rfl⟩) hM
    · exact absurd hx c_14
  · have hkj := (hkr j hj).1
    refine lv_iload_n (pc := 5) hC.x hC.b d_GM_same_5 rfl (lv_at hl 1 rfl) ?_
    refine lv_if_lt (pc := 6) (tgt := 30) hC.x hC.b d_GM_same_6 (by decide) (fun c_6 => ?_) (fun c_6 => ?_)
    · exact absurd c_6 (nI_pos (by omega))
    refine lv_iload_n (pc := 9) hC.x hC.b d_GM_same_9 rfl (lv_at hl 1 rfl) ?_
    refine lv_aload_n (pc := 10) hC.x hC.b d_GM_same_10 rfl (lv_at hl 0 rfl) ?_
    refine fg_GM_90 (pc := 11) hC hP 0 rfl rfl d_GM_same_11 ?_
    refine ni_ge (pc := 14) (tgt := 30) hC d_GM_same_14 (by decide) (by omega) (by omega) (fun c_14 => ?_) (fun c_14 => ?_)
    · exact absurd c_14 (by omega)
    refine lv_aload_n (pc := 17) hC.x hC.b d_GM_same_17 rfl (lv_at hl 0 rfl) ?_
    refine fg_GM_16 (pc := 18) hC hP 0 rfl rfl d_GM_same_18 ?_
    refine lv_iload_n (pc := 21) hC.x hC.b d_GM_same_21 rfl (lv_at hl 1 rfl) ?_
    refine ald_i (pc := 22) hC hP 3 (j) rfl rfl (by omega) (by decide) d_GM_same_22 ?_
    refine tp_i (y := nI (S.ks j)) (hR.2.2 j hj).1 ?_
    refine lv_aload_n (pc := 23) hC.x hC.b d_GM_same_23 rfl (lv_at hl 0 rfl) ?_
    refine k_GM_53_GM_count (pc := 24) hC hM hI hl.1 (Nat.le_of_ble_eq_true rfl) ⟨Nat.le_of_ble_eq_true rfl, Nat.le_of_ble_eq_true rfl⟩ ⟨Nat.zero_le _, Nat.zero_le _⟩ d_GM_same_24 ?_
    refine ni_eq (pc := 27) (tgt := 32) hC d_GM_same_27 (by decide) (by omega) (by omega) (fun c_27 => ?_) (fun c_27 => ?_)
    · refine lv_iconst (pc := 32) (v := nI 0) hC.x hC.b d_GM_same_32 (by decide) ?_
      refine lv_istore_n (pc := 33) (lv' := [(2, .int (nI 0)), (0, .ref (md 0)), (1, .int (nI j))]) hC.x hC.b d_GM_same_33 rfl hl (by decide) rfl (fun ls hl => ?_)
      refine lpW (pc := 34) (I := fun i ls => lv_has ls 3 [(2, .int (nI i)), (0, .ref (md 0)), (1, .int (nI j))] ∧ (∀ q, q < i → cnt (lkP (S.kr j) (S.row q)) (S.ks j) = cnt (lkP S.row (S.row q)) S.n)) (S.n) ?_ ?_ (0) (Nat.zero_le _) ⟨(lv_sub hl [0, 1, 2] rfl), fun _ h => absurd h (Nat.not_lt_zero _)⟩
      · intro ls hI
        obtain ⟨hl, hv⟩ := hI
        refine lv_iload_n (pc := 34) hC.x hC.b d_GM_same_34 rfl (lv_at hl 0 rfl) ?_
        refine lv_aload_n (pc := 35) hC.x hC.b d_GM_same_35 rfl (lv_at hl 1 rfl) ?_
        refine k_GM_53_GM_count (pc := 36) hC hM hI hl.1 (Nat.le_of_ble_eq_true rfl) ⟨Nat.le_of_ble_eq_true rfl, Nat.le_of_ble_eq_true rfl⟩ ⟨Nat.zero_le _, Nat.zero_le _⟩ d_GM_same_36 ?_
        refine ni_ge (pc := 39) (tgt := 66) hC d_GM_same_39 (by decide) (by omega) (by omega) (fun c_39 => ?_) (fun c_39 => ?_)
        · refine lv_iconst (pc := 66) (v := 1) hC.x hC.b d_GM_same_66 (by decide) ?_
          exact wr_z (pc := 67) hC hr hlk (by rw [hH]; exact hS) d_GM_same_67 (by decide) (Or.inr ⟨j, hj, rfl, Or.inr ⟨c_27, (if_pos hv).symm⟩⟩) hM
        · exact absurd c_39 (Nat.lt_irrefl _)
      · intro i ls hj2 hI ih
        obtain ⟨hl, hv⟩ := hI
        refine lv_iload_n (pc := 34) hC.x hC.b d_GM_same_34 rfl (lv_at hl 0 rfl) ?_
        refine lv_aload_n (pc := 35) hC.x hC.b d_GM_same_35 rfl (lv_at hl 1 rfl) ?_
        refine k_GM_53_GM_count (pc := 36) hC hM hI hl.1 (Nat.le_of_ble_eq_true rfl) ⟨Nat.le_of_ble_eq_true rfl, Nat.le_of_ble_eq_true rfl⟩ ⟨Nat.zero_le _, Nat.zero_le _⟩ d_GM_same_36 ?_
        refine ni_ge (pc := 39) (tgt := 66) hC d_GM_same_39 (by decide) (by omega) (by omega) (fun c_39 => ?_) (fun c_39 => ?_)
        · exact absurd c_39 (by omega)
        refine lv_aload_n (pc := 42) hC.x hC.b d_GM_same_42 rfl (lv_at hl 1 rfl) ?_
        refine lv_iload_n (pc := 43) hC.x hC.b d_GM_same_43 rfl (lv_at hl 2 rfl) ?_
        refine lv_iload_n (pc := 44) hC.x hC.b d_GM_same_44 rfl (lv_at hl 0 rfl) ?_
        refine k_GM_97_GM_like (pc := 45) hC hM hI (RowOf.kept hj) hj2 hl.1 (Nat.le_of_ble_eq_true rfl) ⟨Nat.le_of_ble_eq_true rfl, Nat.le_of_ble_eq_true rfl⟩ ⟨Nat.zero_le _, Nat.zero_le _⟩ d_GM_same_45 ?_
        refine lv_aload_n (pc := 48) hC.x hC.b d_GM_same_48 rfl (lv_at hl 1 rfl) ?_
        refine lv_bipush (pc := 49) (v := nI 10) hC.x hC.b d_GM_same_49 (by decide) ?_
        refine lv_iload_n (pc := 51) hC.x hC.b d_GM_same_51 rfl (lv_at hl 0 rfl) ?_
        refine k_GM_97_GM_like (pc := 52) hC hM hI (RowOf.now S) hj2 hl.1 (Nat.le_of_ble_eq_true rfl) ⟨Nat.le_of_ble_eq_true rfl, Nat.le_of_ble_eq_true rfl⟩ ⟨Nat.zero_le _, Nat.zero_le _⟩ d_GM_same_52 ?_
        have hb1 := cnt_le (lkP (S.kr j) (S.row i)) (S.ks j)
        have hb2 := cnt_le (lkP S.row (S.row i)) S.n
        refine ni_eq (pc := 55) (tgt := 60) hC d_GM_same_55 (by decide) (by omega) (by omega) (fun c_55 => ?_) (fun c_55 => ?_)
        · refine lv_iinc (pc := 60) (v := nI (i + 1)) (lv' := [(2, .int (nI (i + 1))), (0, .ref (md 0)), (1, .int (nI j))]) hC.x hC.b d_GM_same_60 hl (k := 0) rfl (nI_1 _) (by decide) rfl (fun ls hl => ?_)
          refine lv_goto (pc := 63) (tgt := 34) hC.x hC.b d_GM_same_63 (by decide) ?_
          exact ih ls ⟨(lv_sub hl [0, 1, 2] rfl), fun q hq => if e1 : q = i then e1 ▸ c_55 else hv q (by omega)⟩
        refine lv_iconst (pc := 58) (v := 0) hC.x hC.b d_GM_same_58 (by decide) ?_
        exact wr_z (pc := 59) hC hr hlk (by rw [hH]; exact hS) d_GM_same_59 (by decide) (Or.inr ⟨j, hj, rfl, Or.inr ⟨c_27, (if_neg (fun z => c_55 (z i hj2))).symm⟩⟩) hM
    refine lv_iconst (pc := 30) (v := 0) hC.x hC.b d_GM_same_30 (by decide) ?_
    exact wr_z (pc := 31) hC hr hlk (by rw [hH]; exact hS) d_GM_same_31 (by decide) (Or.inr ⟨j, hj, rfl, Or.inl ⟨c_27, rfl⟩⟩) hM
end GMRO
end
section
/-! pure: choosing the dearest again and again, against a row in order -/
theorem cnt_pos {P : Nat → Prop} [DecidablePred P] {n i : Nat} (hi : i < n) (h : P i) : 0 < cnt P n := by
  induction n with
  | zero => omega
  | succ n ih =>
    unfold cnt
    by_cases hz : i = n
    · subst hz; rw [if_pos h]; omega
    · have := ih (by omega); omega
theorem cnt_ex {P : Nat → Prop} [DecidablePred P] : ∀ n, 0 < cnt P n → ∃ i, i < n ∧ P i := by
  intro n
  induction n with
  | zero => intro h; exact absurd h (Nat.lt_irrefl _)
  | succ n ih =>
    intro h
    by_cases hp : P n
    · exact ⟨n, by omega, hp⟩
    · unfold cnt at h
      rw [if_neg hp] at h
      obtain ⟨i, h1, h2⟩ := ih h
      exact ⟨i, by omega, h2⟩
/-- one place gets another value -/
theorem cnt_upd {f : Nat → Int64} {a : Nat} {x v : Int64} : ∀ n, a < n → cnt (fun i => vp_updL f a x i = v) n + (if f a = v then 1 else 0) = cnt (fun i => f i = v) n + (if x = v then 1 else 0) := by
  intro n
  induction n with
  | zero => intro h; omega
  | succ n ih =>
    intro h
    by_cases hz : a = n
    · subst hz
      have e : cnt (fun i => vp_updL f a x i = v) a = cnt (fun i => f i = v) a := cnt_congr a (fun k hk => by rw [uL_n (by omega)])
      show cnt (fun i => vp_updL f a x i = v) a + (if vp_updL f a x a = v then 1 else 0) + _ = cnt (fun i => f i = v) a + (if f a = v then 1 else 0) + _
      rw [e, uL_s]; omega
    · have h2 := ih (by omega)
      show cnt (fun i => vp_updL f a x i = v) n + (if vp_updL f a x n = v then 1 else 0) + _ = cnt (fun i => f i = v) n + (if f n = v then 1 else 0) + _
      rw [uL_n (Ne.symm hz)]; omega
/-- f with its first t places gone below 0 -/
def mk1 (f : Nat → Int64) (t : Nat) : Nat → Int64 := fun i => if i < t then -1 else f i
theorem mk1_up {f : Nat → Int64} {t i : Nat} : mk1 f (t + 1) i = vp_updL (mk1 f t) t (-1) i := by
  unfold mk1 vp_updL
  by_cases h : i = t
  · rw [if_pos (by omega), if_pos h]
  · rw [if_neg h]
    show (if i < t + 1 then -1 else f i) = if i < t then -1 else f i
    by_cases h2 : i < t
    · rw [if_pos h2, if_pos (by omega)]
    · rw [if_neg h2, if_neg (by omega)]
def Sel (m f : Nat → Int64) (n t : Nat) : Prop := ∀ v : Int64, cnt (fun i => m i = v) n = cnt (fun i => mk1 f t i = v) n
theorem Sel_0 {m C f : Nat → Int64} {n : Nat} (hm : ∀ i, i < n → m i = C i) (hf : SD f C n) : Sel m f n 0 := fun v => by
  rw [cnt_congr (P' := fun i => C i = v) n (fun k hk => by rw [hm k hk]), ← hf.2 v]
  exact cnt_congr n (fun k _ => by unfold mk1; rw [if_neg (Nat.not_lt_zero _)])
/-- the dearest of what is left -/
theorem Sel_max {m f : Nat → Int64} {n t a : Nat} (h : Sel m f n t) (hs : ∀ i j, i < j → j < n → f j ≤ f i) (h0 : ∀ i, i < n → 0 ≤ f i) (ht : t < n) (ha : a < n) (hmax : ∀ i, i < n → m i ≤ m a) : m a = f t := by
  have h1 : f t ≤ m a := by
    have hp : 0 < cnt (fun i => mk1 f t i = f t) n := cnt_pos ht (show mk1 f t t = f t by unfold mk1; rw [if_neg (Nat.lt_irrefl _)])
    rw [← h] at hp
    obtain ⟨i, hi, e⟩ := cnt_ex n hp
    rw [← e]; exact hmax i hi
  have h2 : m a ≤ f t := by
    have hp : 0 < cnt (fun i => m i = m a) n := cnt_pos ha rfl
    rw [h] at hp
    obtain ⟨i, hi, e⟩ := cnt_ex n hp
    have e : mk1 f t i = m a := e
    unfold mk1 at e
    by_cases hz : i < t
    · rw [if_pos hz] at e
      rw [← e] at h1
      exact absurd (Int64.le_trans (h0 t ht) h1) (by decide)
    · rw [if_neg hz] at e
      rw [← e]
      by_cases hz2 : i = t
      · subst hz2; exact Int64.le_refl _
      · exact hs t i (by omega) hi
  exact Int64.le_antisymm h2 h1
theorem Sel_next {m f : Nat → Int64} {n t a : Nat} (h : Sel m f n t) (ht : t < n) (ha : a < n) (e : m a = f t) : Sel (vp_updL m a (-1)) f n (t + 1) := fun v => by
  have h1 := cnt_upd (f := m) (a := a) (x := -1) (v := v) n ha
  have h2 := cnt_upd (f := mk1 f t) (a := t) (x := -1) (v := v) n ht
  have e2 : mk1 f t t = f t := by unfold mk1; rw [if_neg (Nat.lt_irrefl _)]
  rw [e2] at h2
  rw [e, h v] at h1
  rw [cnt_congr (P := fun i => mk1 f (t + 1) i = v) (P' := fun i => vp_updL (mk1 f t) t (-1) i = v) n (fun k _ => by rw [mk1_up])]
  omega
theorem l3_self (a : Int64) : l3 a a = 0 := by
  unfold l3
  rw [if_neg Int64.lt_irrefl, if_neg Int64.lt_irrefl]
theorem l3_ne {a b : Int64} (h : a ≠ b) : l3 a b ≠ 0 := fun z => h (l3_0 z)
theorem cl_diff {f g : Nat → Int64} {t : Nat} (hne : f t ≠ g t) : ∀ d k, k ≤ t → t < k + d → (∀ i, k ≤ i → i < t → f i = g i) → cl f g d k 0 = l3 (f t) (g t) := by
  intro d
  induction d with
  | zero => intro k h1 h2; omega
  | succ d ih =>
    intro k h1 h2 h3
    rw [cl_go]
    by_cases hz : k = t
    · subst hz; exact cl_ne (l3_ne hne)
    · rw [h3 k (Nat.le_refl _) (by omega), l3_self]
      exact ih (k + 1) (by omega) (by omega) (fun i a b => h3 i (by omega) b)
theorem cl_same {f g : Nat → Int64} : ∀ d k, (∀ i, k ≤ i → i < k + d → f i = g i) → cl f g d k 0 = 0 := by
  intro d
  induction d with
  | zero => intro k _; rfl
  | succ d ih =>
    intro k h
    rw [cl_go, h k (Nat.le_refl _) (by omega), l3_self]
    exact ih (k + 1) (fun i a b => h i (by omega) (by omega))
theorem i3_ne {a b : Nat} (h : a ≠ b) : i3 a b ≠ 0 := fun z => h (i3_0 z)
theorem l3_nat {a b : Nat} (ha : a < 2 ^ 31) (hb : b < 2 ^ 31) : l3 (nI a).toInt64 (nI b).toInt64 = i3 a b := by
  rw [nI_l ha, nI_l hb]
  unfold l3 i3
  by_cases h : a < b
  · rw [if_pos ((lN_lt ha hb).mpr h), if_pos h]
  · rw [if_neg (fun z => h ((lN_lt ha hb).mp z)), if_neg h]
    by_cases h2 : b < a
    · rw [if_pos ((lN_lt hb ha).mpr h2), if_pos h2]
    · rw [if_neg (fun z => h2 ((lN_lt hb ha).mp z)), if_neg h2]
/-- a step's cost as a number -/
theorem cst_nat {S : St} (hI : Inv S) {rw : Nat → T3} {k : Nat} (h : okT S.nr (rw k)) : ∃ n : Nat, n < 2 ^ 31 ∧ cst S.W S.E rw k = lN n := by
  obtain ⟨hnr, -, -, -, -, hWE, -⟩ := hI
  unfold cst
  rcases h with ⟨h1, ⟨d, hd1, hd2, hd⟩, -⟩ | ⟨r, q, w, hr, hq, hw1, hw2, ht⟩
  · rw [if_pos h1, hd, nI_l (by omega), show (1000 : Int64) = lN 1000 from rfl, lN_mul]
    by_cases h2 : 0 < k ∧ (rw (k - 1)).1 = -1
    · rw [if_pos h2, show (2 : Int64) = lN 2 from rfl, lN_mul]; exact ⟨_, by omega, rfl⟩
    · rw [if_neg h2, show (1 : Int64) = lN 1 from rfl, lN_mul]; exact ⟨_, by omega, rfl⟩
  · have e1 : (rw k).1 = nI r := by rw [ht]
    have e2 : (rw k).2.2 = nI w := by rw [ht]
    obtain ⟨⟨x, hx, ex⟩, y, hy, ey⟩ := hWE r hr
    have hne : ¬ (rw k).1 = -1 := by rw [e1]; exact nI_ne_m1 r (by omega)
    rw [if_neg hne, e1, e2, nI_clamp (by omega), ex, ey, show (12 : Int32) = nI 12 from rfl, pk_sub (by omega), nI_l (by omega), nI_l (by omega), nI_l (by omega), lN_mul, show (4 : Int64) = lN 4 from rfl]
    have hm : x * (12 - w) ≤ 10000 * 12 := Nat.mul_le_mul hx (by omega)
    rw [pk_lDiv (by omega) (by decide) (by decide)]
    have hdv : x * (12 - w) / 4 ≤ x * (12 - w) := Nat.div_le_self _ _
    split
    · rw [lN_add]; exact ⟨_, by omega, rfl⟩
    · exact ⟨_, by omega, Int64.add_zero _⟩
theorem cst_nn {S : St} (hI : Inv S) {rw : Nat → T3} {k : Nat} (h : okT S.nr (rw k)) : 0 ≤ cst S.W S.E rw k := by
  obtain ⟨n, hn, e⟩ := cst_nat hI h
  rw [e]
  exact (lN_le (a := 0) (by decide) hn).mpr (Nat.zero_le _)
theorem SD_nn {f C : Nat → Int64} {n : Nat} (h : SD f C n) (hC : ∀ k, k < n → 0 ≤ C k) : ∀ i, i < n → 0 ≤ f i := by
  intro i hi
  have hp : 0 < cnt (fun k => f k = f i) n := cnt_pos hi rfl
  rw [h.2] at hp
  obtain ⟨k, hk, e⟩ := cnt_ex n hp
  rw [← e]; exact hC k hk
end
section
section GMWR
variable {p : Program} {e : Env} {R : Room} {s : State} {m : MethodId} {args : Array Value} {below : List Frame} {meth : Method} {c : Code} {locs : List Loc} {cells slots : Nat} {Q : State → Prop}
variable {cc : ByteArray} {pc nL : Nat} {ls : Array Slot} {rest : List Value} {own : String} {l : Launch} {D : va_G} {dA : Nat → ClassId} {A : Nat → Prop} {H H0 : Heap} {S : St} {ad md : Nat → Nat}
theorem p255 {q : Int32} : 255 < q ↔ 256 ≤ q := by
  rw [Int32.lt_iff_toInt_lt, Int32.le_iff_toInt_le]
  have e1 : (255 : Int32).toInt = 255 := by decide
  have e2 : (256 : Int32).toInt = 256 := by decide
  omega
theorem Rows_add {S : St} {sz br wh wi : Nat → Int32} (hR : Rows S sz br wh wi) (hI : Inv S) (hlt : S.n < 200) (t : T3) : Rows (S.addS t) (upd sz 10 (nI (S.n + 1))) (upd br (2000 + S.n) t.1) (upd wh (2000 + S.n) t.2.1) (upd wi (2000 + S.n) t.2.2) := by
  obtain ⟨hnr, hn, hcur, hnc, hnk, hWE, hrow, hkr, hcl, hdj⟩ := hI
  refine ⟨upd_s, fun k hk => ?_, fun j hj => ⟨?_, fun k hk => ?_⟩⟩
  · have hk : k < S.n + 1 := hk
    show upd br (2000 + S.n) t.1 (200 * 10 + k) = (updT S.row S.n t k).1 ∧ upd wh (2000 + S.n) t.2.1 (200 * 10 + k) = (updT S.row S.n t k).2.1 ∧ upd wi (2000 + S.n) t.2.2 (200 * 10 + k) = (updT S.row S.n t k).2.2
    by_cases hz : k = S.n
    · subst hz
      rw [updT_s]
      exact ⟨upd_s, upd_s, upd_s⟩
    · rw [updT_n hz, upd_n (by omega), upd_n (by omega), upd_n (by omega)]
      exact hR.2.1 k (by omega)
  · have hj : j < S.nk := hj
    rw [upd_n (by omega)]; exact (hR.2.2 j hj).1
  · have hj : j < S.nk := hj
    have hk : k < S.ks j := hk
    have h1 := (hkr j hj).1
    rw [upd_n (by omega), upd_n (by omega), upd_n (by omega)]
    exact (hR.2.2 j hj).2 k hk
theorem Rows_drop {S : St} {sz br wh wi : Nat → Int32} (hR : Rows S sz br wh wi) (hI : Inv S) {S1 : St} (h1 : S1 = (S.1, (S.n - 1, S.row), min S.cur (S.n - 1), S.2.2.2)) : Rows S1 (upd sz 10 (nI (S.n - 1))) br wh wi := by
  obtain ⟨hnr, hn, hcur, hnc, hnk, hWE, hrow, hkr, hcl, hdj⟩ := hI
  subst h1
  refine ⟨upd_s, fun k hk => hR.2.1 k (by have hk : k < S.n - 1 := hk; omega), fun j hj => ⟨?_, (hR.2.2 j hj).2⟩⟩
  have hj : j < S.nk := hj
  rw [upd_n (by omega)]; exact (hR.2.2 j hj).1
/-- k places of the row that is now are copied to row j -/
def Cpy (f f0 : Nat → Int32) (j k : Nat) : Prop := (∀ i, i < k → f (200 * j + i) = f0 (2000 + i)) ∧ ∀ i, (i < 200 * j ∨ 200 * j + 200 ≤ i) → f i = f0 i
theorem Cpy_0 (f : Nat → Int32) (j : Nat) : Cpy f f j 0 := ⟨fun _ h => absurd h (Nat.not_lt_zero _), fun _ _ => rfl⟩
theorem Cpy_s {f f0 : Nat → Int32} {j k : Nat} (h : Cpy f f0 j k) (hj : j < 10) (hk : k < 200) : Cpy (upd f (200 * j + k) (f (2000 + k))) f0 j (k + 1) :=
  ⟨fun i hi => by
    by_cases hz : i = k
    · subst hz; rw [upd_s]; exact h.2 _ (by omega)
    · rw [upd_n (by omega)]; exact h.1 i (by omega), fun i hi => by rw [upd_n (by omega)]; exact h.2 i hi⟩
theorem Rows_mid {S : St} {sz br wh wi br1 wh1 wi1 : Nat → Int32} {k : Nat} (hR : Rows S sz br wh wi) (hI : Inv S) (hlt : S.nk < 10) (c1 : Cpy br1 br S.nk k) (c2 : Cpy wh1 wh S.nk k) (c3 : Cpy wi1 wi S.nk k) : Rows S sz br1 wh1 wi1 := by
  obtain ⟨hnr, hn, hcur, hnc, hnk, hWE, hrow, hkr, hcl, hdj⟩ := hI
  refine ⟨hR.1, fun k hk => ?_, fun j hj => ⟨(hR.2.2 j hj).1, fun k hk => ?_⟩⟩
  · rw [c1.2 _ (by omega), c2.2 _ (by omega), c3.2 _ (by omega)]; exact hR.2.1 k hk
  · have h1 := (hkr j hj).1
    rw [c1.2 _ (by omega), c2.2 _ (by omega), c3.2 _ (by omega)]; exact (hR.2.2 j hj).2 k hk
theorem Rows_keep {S : St} {sz br wh wi br1 wh1 wi1 : Nat → Int32} (hR : Rows S sz br wh wi) (hI : Inv S) (hlt : S.nk < 10) (c1 : Cpy br1 br S.nk 200) (c2 : Cpy wh1 wh S.nk 200) (c3 : Cpy wi1 wi S.nk 200) {S1 : St} (h1 : S1 = (S.1, S.2.1, S.cur, S.2.2.2.1, (S.nk + 1, updN S.ks S.nk S.n, updR S.kr S.nk S.row))) : Rows S1 (upd sz S.nk (nI S.n)) br1 wh1 wi1 := by
  have hM := Rows_mid hR hI hlt c1 c2 c3
  obtain ⟨hnr, hn, hcur, hnc, hnk, hWE, hrow, hkr, hcl, hdj⟩ := hI
  subst h1
  refine ⟨by rw [upd_n (by omega)]; exact hR.1, hM.2.1, fun j hj => ?_⟩
  have hj : j < S.nk + 1 := hj
  show upd sz S.nk (nI S.n) j = nI (updN S.ks S.nk S.n j) ∧ RowAt br1 wh1 wi1 j (updN S.ks S.nk S.n j) (updR S.kr S.nk S.row j)
  by_cases hz : j = S.nk
  · subst hz
    rw [updN_s, updR_s]
    refine ⟨upd_s, fun k hk => ?_⟩
    rw [c1.1 k (by omega), c2.1 k (by omega), c3.1 k (by omega)]
    exact hR.2.1 k hk
  · rw [updN_n hz, updR_n hz, upd_n hz]
    exact hM.2.2 j (by omega)
/-- the places where a step stood alone so far -/
def SeenOK (sn : Nat → Int32) (r : Nat → T3) (j : Nat) : Prop := ∀ q, q < 256 → (sn q = 0 ∧ ∀ i, i < j → ¬ (aln (r i) ∧ (r i).2.1 = nI q)) ∨ (sn q = 1 ∧ ∃ i, i < j ∧ aln (r i) ∧ (r i).2.1 = nI q)
theorem Seen_0 {sn : Nat → Int32} {r : Nat → T3} (h : ∀ q, q < 256 → sn q = 0) : SeenOK sn r 0 := fun q hq => Or.inl ⟨h q hq, fun i hi => absurd hi (Nat.not_lt_zero _)⟩
theorem Seen_skip {sn : Nat → Int32} {r : Nat → T3} {j : Nat} (h : SeenOK sn r j) (hj : ¬ nw1 r j) : SeenOK sn r (j + 1) := by
  intro q hq
  rcases h q hq with ⟨h1, h2⟩ | ⟨h1, i, h2, h3⟩
  · refine Or.inl ⟨h1, fun i hi z => ?_⟩
    by_cases e : i = j
    · subst e
      exact hj ⟨z.1, fun i2 hi2 z2 => h2 i2 hi2 ⟨z2.1, z2.2.trans z.2⟩⟩
    · exact h2 i (by omega) z
  · exact Or.inr ⟨h1, i, by omega, h3⟩
theorem Seen_put {sn : Nat → Int32} {r : Nat → T3} {j q : Nat} (h : SeenOK sn r j) (ha : aln (r j)) (hq : (r j).2.1 = nI q) (hq2 : q < 256) : SeenOK (upd sn q 1) r (j + 1) := by
  intro p hp
  by_cases e : p = q
  · subst e; exact Or.inr ⟨upd_s, j, by omega, ha, hq⟩
  · rw [upd_n e]
    rcases h p hp with ⟨h1, h2⟩ | ⟨h1, i, h2, h3⟩
    · refine Or.inl ⟨h1, fun i hi z => ?_⟩
      by_cases e2 : i = j
      · subst e2
        have := z.2.symm.trans hq
        exact e ((nI_eq (by omega) (by omega)).mp this)
      · exact h2 i (by omega) z
    · exact Or.inr ⟨h1, i, by omega, h3⟩
def St.cmpM (S : St) (x r : Int32) : Prop := ((x < 0 ∨ nI S.nk ≤ x) ∧ r = -2) ∨ ∃ j, j < S.nk ∧ x = nI j ∧ ∀ f g : Nat → Int64, SD f S.cost S.n → SD g (cst S.W S.E (S.kr j)) (S.ks j) → r = cl f g S.n 0 (cm1 (S.sum S.n) (sm S.W S.E (S.kr j) (S.ks j)) S.n (S.ks j))
set_option maxHeartbeats 4000000 in
set_option maxRecDepth 100000 in
theorem c_GM_count0 (l : Launch) {A : Nat → Prop} {md : Nat → Nat} {S : St} {D : va_G} {dA : Nat → ClassId} {H : Heap} (hM : MW D dA A md S H) : Met l y_GM_count (wd y_GM_count b_GM_count 1 (some .int)) ({ frames := 0, cells := 0, slots := 0, locals := 0 } : Room) (va_Pc [.ref (md 0)] (PX D dA H)) (vp_Si (fun r => r = nI S.n)) 0 0 (fun _ => False) := by
  refine mkMet (by decide) (Nat.le_of_ble_eq_true rfl) ?_
  intro p e s m below meth c ls hC hr hlk hnm hl hH
  have hl : lv_has ls 1 [(0, .ref (md 0))] := hl
  obtain ⟨sz, br, wh, wi, sn, mi, th, hP, hD, hR⟩ := id hM
  refine lv_aload_n (pc := 0) hC.x hC.b d_GM_count_0 rfl (lv_at hl 0 rfl) ?_
  refine fg_GM_16 (pc := 1) hC hP 0 rfl rfl d_GM_count_1 ?_
  refine lv_bipush (pc := 4) (v := nI 10) hC.x hC.b d_GM_count_4 (by decide) ?_
  refine ald_i (pc := 6) hC hP 3 (10) rfl rfl (by omega) (by decide) d_GM_count_6 ?_
  exact ro_i (pc := 7) hC hr hlk hH d_GM_count_7 hR.1
set_option maxHeartbeats 4000000 in
set_option maxRecDepth 100000 in
theorem k_GM_53_GM_count0 (hC : CX p m c cc nL s args R_GM D dA) (hM : MW D dA A md S H) (hsz : ls.size = nL) (hW : (rest.map fun v => v.category).sum ≤ 8) (hR : 0 + 1 ≤ R.frames ∧ 8 + (1 + 11) + 0 ≤ R.locals) (hf : cells + 0 ≤ R.cells ∧ slots + 0 ≤ R.slots) (hdg : decode cc pc = .ok (.invokevirtual 53, 3)) (kk : W p l e R s m args below meth c H locs cells slots Q (F0 m (pc + 3) ls (.int (nI S.n) :: rest))) : W p l e R s m args below meth c H locs cells slots Q (F0 m pc ls (.ref (md 0) :: rest)) :=
  vp_callSi (va_Run.run (runV hC (c_GM_count0 l hM) tw_355 tw_352 tw_354 ts_7 tw_2 ⟨by decide +kernel, by decide +kernel, rfl⟩ rfl rfl (ci := 4) rfl rfl ((by obtain ⟨_, _, _, _, _, _, _, hP, _⟩ := hM; exact hP 0 _ rfl)) hsz rfl hW hR hf hdg)) (fun r hr => by rw [hr]; exact kk)
set_option maxHeartbeats 4000000 in
set_option maxRecDepth 100000 in
theorem c_GM_add (l : Launch) {A : Nat → Prop} {md : Nat → Nat} {S : St} {D : va_G} {dA : Nat → ClassId} {H : Heap} (hM : MW D dA A md S H) (hI : Inv S) {r x w : Int32} (hlt : S.n < 200) : Met l y_GM_add (wd y_GM_add b_GM_add 5 (some .int)) ({ frames := 1, cells := 0, slots := 0, locals := 20 } : Room) (va_Pc [.ref (md 0), .int r, .int x, .int w] (PX D dA H)) (QI (fun rr => rr = nI S.n) (fun H1 => MW D dA A md (S.addS (r, x, w)) H1) A) 0 0 A := by
  refine mkMet (by decide) (Nat.le_of_ble_eq_true rfl) ?_
  intro p e s m below meth c ls hC hr hlk hnm hl hH
  have hl : lv_has ls 5 [(0, .ref (md 0)), (1, .int r), (2, .int x), (3, .int w)] := hl
  obtain ⟨sz, br, wh, wi, sn, mi, th, hP, hD, hR⟩ := id hM
  obtain ⟨hnr, hn, hcur, hnc, hnk, hWE, hrow, hkr, hcl, hdj⟩ := id hI
  have hS : va_S A H H [] := va_S.rf
  refine lv_sipush (pc := 0) (v := nI 2000) hC.x hC.b d_GM_add_0 (by decide) ?_
  refine lv_aload_n (pc := 3) hC.x hC.b d_GM_add_3 rfl (lv_at hl 0 rfl) ?_
  refine k_GM_53_GM_count (pc := 4) hC hM hI hl.1 (Nat.le_of_ble_eq_true rfl) ⟨Nat.le_of_ble_eq_true rfl, Nat.le_of_ble_eq_true rfl⟩ ⟨Nat.zero_le _, Nat.zero_le _⟩ d_GM_add_4 ?_
  refine lv_iadd (pc := 7) hC.x hC.b d_GM_add_7 ?_
  refine tp_i (y := nI (2000 + S.n)) (nI_add _ _) ?_
  refine lv_istore (pc := 8) (lv' := [(4, .int (nI (2000 + S.n))), (0, .ref (md 0)), (1, .int r), (2, .int x), (3, .int w)]) hC.x hC.b d_GM_add_8 hl (by decide) rfl (fun ls hl => ?_)
  refine lv_aload_n (pc := 10) hC.x hC.b d_GM_add_10 rfl (lv_at hl 1 rfl) ?_
  refine fg_GM_19 (pc := 11) hC hP 0 rfl rfl d_GM_add_11 ?_
  refine lv_iload (pc := 14) hC.x hC.b d_GM_add_14 (lv_at hl 0 rfl) ?_
  refine lv_iload_n (pc := 16) hC.x hC.b d_GM_add_16 rfl (lv_at hl 2 rfl) ?_
  refine ast_i (pc := 17) hC hP hD hS 4 (2000 + S.n) rfl rfl (by omega) (by decide) d_GM_add_17 (fun H1 locs hP hD hS => ?_)
  refine lv_aload_n (pc := 18) hC.x hC.b d_GM_add_18 rfl (lv_at hl 1 rfl) ?_
  refine fg_GM_22 (pc := 19) hC hP 0 rfl rfl d_GM_add_19 ?_
  refine lv_iload (pc := 22) hC.x hC.b d_GM_add_22 (lv_at hl 0 rfl) ?_
  refine lv_iload_n (pc := 24) hC.x hC.b d_GM_add_24 rfl (lv_at hl 3 rfl) ?_
  refine ast_i (pc := 25) hC hP hD hS 5 (2000 + S.n) rfl rfl (by omega) (by decide) d_GM_add_25 (fun H2 locs hP hD hS => ?_)
  refine lv_aload_n (pc := 26) hC.x hC.b d_GM_add_26 rfl (lv_at hl 1 rfl) ?_
  refine fg_GM_25 (pc := 27) hC hP 0 rfl rfl d_GM_add_27 ?_
  refine lv_iload (pc := 30) hC.x hC.b d_GM_add_30 (lv_at hl 0 rfl) ?_
  refine lv_iload_n (pc := 32) hC.x hC.b d_GM_add_32 rfl (lv_at hl 4 rfl) ?_
  refine ast_i (pc := 33) hC hP hD hS 6 (2000 + S.n) rfl rfl (by omega) (by decide) d_GM_add_33 (fun H3 locs hP hD hS => ?_)
  refine lv_aload_n (pc := 34) hC.x hC.b d_GM_add_34 rfl (lv_at hl 1 rfl) ?_
  refine fg_GM_16 (pc := 35) hC hP 0 rfl rfl d_GM_add_35 ?_
  refine lv_bipush (pc := 38) (v := nI 10) hC.x hC.b d_GM_add_38 (by decide) ?_
  refine lv_dup2_11 (pc := 40) hC.x hC.b d_GM_add_40 rfl rfl ?_
  refine ald_i (pc := 41) hC hP 3 (10) rfl rfl (by omega) (by decide) d_GM_add_41 ?_
  refine tp_i (y := nI S.n) hR.1 ?_
  refine lv_iconst (pc := 42) (v := 1) hC.x hC.b d_GM_add_42 (by decide) ?_
  refine lv_iadd (pc := 43) hC.x hC.b d_GM_add_43 ?_
  refine tp_i (y := nI (S.n + 1)) (nI_1 _) ?_
  refine ast_i (pc := 44) hC hP hD hS 3 (10) rfl rfl (by omega) (by decide) d_GM_add_44 (fun H4 locs hP hD hS => ?_)
  have hP : va_P D classes (mx dA md ((S.addS (r, x, w))) ((upd sz 10 (nI (S.n + 1)))) ((upd br (2000 + S.n) r)) ((upd wh (2000 + S.n) x)) ((upd wi (2000 + S.n) w)) sn mi th) H4 := hP
  have hD : va_D A (mx dA md ((S.addS (r, x, w))) ((upd sz 10 (nI (S.n + 1)))) ((upd br (2000 + S.n) r)) ((upd wh (2000 + S.n) x)) ((upd wi (2000 + S.n) w)) sn mi th) := hD
  have hM1 : MW D dA A md (S.addS (r, x, w)) H4 := ⟨_, _, _, _, _, _, _, hP, hD, Rows_add hR hI hlt (r, x, w)⟩
  refine lv_aload_n (pc := 45) hC.x hC.b d_GM_add_45 rfl (lv_at hl 1 rfl) ?_
  refine k_GM_53_GM_count0 (pc := 46) hC hM1 hl.1 (Nat.le_of_ble_eq_true rfl) ⟨Nat.le_of_ble_eq_true rfl, Nat.le_of_ble_eq_true rfl⟩ ⟨Nat.zero_le _, Nat.zero_le _⟩ d_GM_add_46 ?_
  refine lv_iconst (pc := 49) (v := 1) hC.x hC.b d_GM_add_49 (by decide) ?_
  refine lv_isub (pc := 50) hC.x hC.b d_GM_add_50 ?_
  refine tp_i (y := nI S.n) (nI_pred _) ?_
  exact wr_i (pc := 51) hC hr hlk (by rw [hH]; exact hS) d_GM_add_51 rfl hM1
set_option maxHeartbeats 4000000 in
set_option maxRecDepth 100000 in
theorem k_GM_57_GM_add (hC : CX p m c cc nL s args R_GM D dA) (hM : MW D dA A md S H) (hI : Inv S) {r x w : Int32} (hlt : S.n < 200) (hS : va_S A H0 H locs) (hsz : ls.size = nL) (hW : (rest.map fun v => v.category).sum ≤ 8) (hR : 1 + 1 ≤ R.frames ∧ 8 + (5 + 11) + 20 ≤ R.locals) (hf : cells + 0 ≤ R.cells ∧ slots + 0 ≤ R.slots) (hdg : decode cc pc = .ok (.invokevirtual 57, 3)) (kk : ∀ (H1 : Heap) (locs1 : List Loc), MW D dA A md (S.addS (r, x, w)) H1 → va_S A H0 H1 locs1 → W p l e R s m args below meth c H1 locs1 (cells + 0) (slots + 0) Q (F0 m (pc + 3) ls (.int (nI S.n) :: rest))) : W p l e R s m args below meth c H locs cells slots Q (F0 m pc ls (.int w :: .int x :: .int r :: .ref (md 0) :: rest)) :=
  va_calli (runV hC (c_GM_add l hM hI hlt) tw_359 tw_356 tw_358 ts_8 tw_2 ⟨by decide +kernel, by decide +kernel, rfl⟩ rfl rfl (ci := 4) rfl rfl (by obtain ⟨_, _, _, _, _, _, _, hP, _⟩ := hM; exact hP 0 _ rfl) hsz rfl hW hR hf hdg) hS (fun _ _ h => h) (fun _ h => h) (fun r1 u t H1 locs1 ht _ hp hB _ _ hS1 => by
    rw [show r1 = _ from hp]
    exact kk H1 locs1 (by rw [← ht]; exact hB) hS1)
set_option maxHeartbeats 4000000 in
set_option maxRecDepth 100000 in
theorem c_GM_rule (l : Launch) {A : Nat → Prop} {md : Nat → Nat} {S : St} {D : va_G} {dA : Nat → ClassId} {H : Heap} (hM : MW D dA A md S H) (hI : Inv S) {w x : Int32} : Met l y_GM_rule (wd y_GM_rule b_GM_rule 3 (some .int)) ({ frames := 0, cells := 0, slots := 0, locals := 0 } : Room) (va_Pc [.ref (md 0), .int w, .int x] (PX D dA H)) (QI (fun rr => rr = S.ruleV w x) (fun H1 => MW D dA A md (S.ruleS w x) H1) A) 0 0 A := by
  refine mkMet (by decide) (Nat.le_of_ble_eq_true rfl) ?_
  intro p e s m below meth c ls hC hr hlk hnm hl hH
  have hl : lv_has ls 3 [(0, .ref (md 0)), (1, .int w), (2, .int x)] := hl
  obtain ⟨sz, br, wh, wi, sn, mi, th, hP, hD, hR⟩ := id hM
  obtain ⟨hnr, hn, hcur, hnc, hnk, hWE, hrow, hkr, hcl, hdj⟩ := id hI
  have hS : va_S A H H [] := va_S.rf
  refine lv_aload_n (pc := 0) hC.x hC.b d_GM_rule_0 rfl (lv_at hl 0 rfl) ?_
  refine lv_iconst (pc := 1) (v := 0) hC.x hC.b d_GM_rule_1 (by decide) ?_
  refine fp_GM_45 (pc := 2) hC hP hD hS 0 rfl (Nat.le_of_ble_eq_true rfl) d_GM_rule_2 (fun H1 locs hP hD hS => ?_)
  have hP : va_P D classes (mx dA md S sz br wh wi sn mi th) H1 := hP
  have hD : va_D A (mx dA md S sz br wh wi sn mi th) := hD
  have hM : MW D dA A md S H1 := ⟨sz, br, wh, wi, sn, mi, th, hP, hD, hR⟩
  refine lv_iload_n (pc := 5) hC.x hC.b d_GM_rule_5 rfl (lv_at hl 1 rfl) ?_
  refine lv_if_lt (pc := 6) (tgt := 35) hC.x hC.b d_GM_rule_6 (by decide) (fun c_6 => ?_) (fun c_6 => ?_)
  · refine lv_iconst (pc := 35) (v := (-1)) hC.x hC.b d_GM_rule_35 (by decide) ?_
    exact wr_i (pc := 36) hC hr hlk (by rw [hH]; exact hS) d_GM_rule_36 (if_pos (Or.inl c_6)).symm (by rw [show S.ruleS w x = S from if_pos (Or.inl c_6)]; exact hM)
  refine lv_iload_n (pc := 9) hC.x hC.b d_GM_rule_9 rfl (lv_at hl 1 rfl) ?_
  refine lv_sipush (pc := 10) (v := 10000) hC.x hC.b d_GM_rule_10 (by decide) ?_
  refine lv_icmp_gt (pc := 13) (tgt := 35) hC.x hC.b d_GM_rule_13 (by decide) (fun c_13 => ?_) (fun c_13 => ?_)
  · refine lv_iconst (pc := 35) (v := (-1)) hC.x hC.b d_GM_rule_35 (by decide) ?_
    exact wr_i (pc := 36) hC hr hlk (by rw [hH]; exact hS) d_GM_rule_36 (if_pos (Or.inr (Or.inl c_13))).symm (by rw [show S.ruleS w x = S from if_pos (Or.inr (Or.inl c_13))]; exact hM)
  refine lv_iload_n (pc := 16) hC.x hC.b d_GM_rule_16 rfl (lv_at hl 2 rfl) ?_
  refine lv_if_lt (pc := 17) (tgt := 35) hC.x hC.b d_GM_rule_17 (by decide) (fun c_17 => ?_) (fun c_17 => ?_)
  · refine lv_iconst (pc := 35) (v := (-1)) hC.x hC.b d_GM_rule_35 (by decide) ?_
    exact wr_i (pc := 36) hC hr hlk (by rw [hH]; exact hS) d_GM_rule_36 (if_pos (Or.inr (Or.inr (Or.inl c_17)))).symm (by rw [show S.ruleS w x = S from if_pos (Or.inr (Or.inr (Or.inl c_17)))]; exact hM)
  refine lv_iload_n (pc := 20) hC.x hC.b d_GM_rule_20 rfl (lv_at hl 2 rfl) ?_
  refine lv_ldc (pc := 21) hC.x hC.b hC.o (hC.t _ tw_347) d_GM_rule_21 ?_
  refine lv_icmp_gt (pc := 23) (tgt := 35) hC.x hC.b d_GM_rule_23 (by decide) (fun c_23 => ?_) (fun c_23 => ?_)
  · refine lv_iconst (pc := 35) (v := (-1)) hC.x hC.b d_GM_rule_35 (by decide) ?_
    exact wr_i (pc := 36) hC hr hlk (by rw [hH]; exact hS) d_GM_rule_36 (if_pos (Or.inr (Or.inr (Or.inr (Or.inl c_23))))).symm (by rw [show S.ruleS w x = S from if_pos (Or.inr (Or.inr (Or.inr (Or.inl c_23))))]; exact hM)
  refine lv_aload_n (pc := 26) hC.x hC.b d_GM_rule_26 rfl (lv_at hl 0 rfl) ?_
  refine fg_GM_50 (pc := 27) hC hP 0 rfl rfl d_GM_rule_27 ?_
  refine lv_bipush (pc := 30) (v := nI 40) hC.x hC.b d_GM_rule_30 (by decide) ?_
  refine ni_ne (pc := 32) (tgt := 37) hC d_GM_rule_32 (by decide) (by omega) (by omega) (fun c_32 => ?_) (fun c_32 => ?_)
  · have hno : ¬ S.ruleC w x := (fun h => h.elim c_6 (fun h => h.elim c_13 (fun h => h.elim c_17 (fun h => h.elim c_23 c_32))))
    refine lv_aload_n (pc := 37) hC.x hC.b d_GM_rule_37 rfl (lv_at hl 0 rfl) ?_
    refine fg_GM_7 (pc := 38) hC hP 0 rfl rfl d_GM_rule_38 ?_
    refine lv_aload_n (pc := 41) hC.x hC.b d_GM_rule_41 rfl (lv_at hl 0 rfl) ?_
    refine fg_GM_50 (pc := 42) hC hP 0 rfl rfl d_GM_rule_42 ?_
    refine lv_iload_n (pc := 45) hC.x hC.b d_GM_rule_45 rfl (lv_at hl 1 rfl) ?_
    refine ast_i (pc := 46) hC hP hD hS 1 (S.nr) rfl rfl (by omega) (by decide) d_GM_rule_46 (fun H2 locs hP hD hS => ?_)
    refine lv_aload_n (pc := 47) hC.x hC.b d_GM_rule_47 rfl (lv_at hl 0 rfl) ?_
    refine fg_GM_13 (pc := 48) hC hP 0 rfl rfl d_GM_rule_48 ?_
    refine lv_aload_n (pc := 51) hC.x hC.b d_GM_rule_51 rfl (lv_at hl 0 rfl) ?_
    refine fg_GM_50 (pc := 52) hC hP 0 rfl rfl d_GM_rule_52 ?_
    refine lv_iload_n (pc := 55) hC.x hC.b d_GM_rule_55 rfl (lv_at hl 2 rfl) ?_
    refine ast_i (pc := 56) hC hP hD hS 2 (S.nr) rfl rfl (by omega) (by decide) d_GM_rule_56 (fun H3 locs hP hD hS => ?_)
    refine lv_aload_n (pc := 57) hC.x hC.b d_GM_rule_57 rfl (lv_at hl 0 rfl) ?_
    refine lv_dup (pc := 58) hC.x hC.b d_GM_rule_58 rfl ?_
    refine fg_GM_50 (pc := 59) hC hP 0 rfl rfl d_GM_rule_59 ?_
    refine lv_iconst (pc := 62) (v := 1) hC.x hC.b d_GM_rule_62 (by decide) ?_
    refine lv_iadd (pc := 63) hC.x hC.b d_GM_rule_63 ?_
    refine tp_i (y := nI (S.nr + 1)) (nI_1 _) ?_
    refine fp_GM_50 (pc := 64) hC hP hD hS 0 rfl (Nat.le_of_ble_eq_true rfl) d_GM_rule_64 (fun H4 locs hP hD hS => ?_)
    refine lv_aload_n (pc := 67) hC.x hC.b d_GM_rule_67 rfl (lv_at hl 0 rfl) ?_
    refine fg_GM_50 (pc := 68) hC hP 0 rfl rfl d_GM_rule_68 ?_
    refine lv_iconst (pc := 71) (v := 1) hC.x hC.b d_GM_rule_71 (by decide) ?_
    refine lv_isub (pc := 72) hC.x hC.b d_GM_rule_72 ?_
    refine tp_i (y := nI S.nr) (nI_pred _) ?_
    have hP : va_P D classes (mx dA md (((S.nr + 1, upd S.W S.nr w, upd S.E S.nr x), S.2)) sz br wh wi sn mi th) H4 := hP
    have hD : va_D A (mx dA md (((S.nr + 1, upd S.W S.nr w, upd S.E S.nr x), S.2)) sz br wh wi sn mi th) := hD
    exact wr_i (pc := 73) hC hr hlk (by rw [hH]; exact hS) d_GM_rule_73 (if_neg hno).symm (by rw [show S.ruleS w x = ((S.nr + 1, upd S.W S.nr w, upd S.E S.nr x), S.2) from if_neg hno]; exact ⟨sz, br, wh, wi, sn, mi, th, hP, hD, hR⟩)
  refine lv_iconst (pc := 35) (v := (-1)) hC.x hC.b d_GM_rule_35 (by decide) ?_
  exact wr_i (pc := 36) hC hr hlk (by rw [hH]; exact hS) d_GM_rule_36 (if_pos (Or.inr (Or.inr (Or.inr (Or.inr c_32))))).symm (by rw [show S.ruleS w x = S from if_pos (Or.inr (Or.inr (Or.inr (Or.inr c_32))))]; exact hM)
set_option maxHeartbeats 4000000 in
set_option maxRecDepth 100000 in
theorem c_GM_used (l : Launch) {A : Nat → Prop} {md : Nat → Nat} {S : St} {D : va_G} {dA : Nat → ClassId} {H : Heap} (hM : MW D dA A md S H) (hI : Inv S) {r x w : Int32} : Met l y_GM_used (wd y_GM_used b_GM_used 4 (some .int)) ({ frames := 2, cells := 0, slots := 0, locals := 44 } : Room) (va_Pc [.ref (md 0), .int r, .int x, .int w] (PX D dA H)) (QI (fun rr => rr = S.usedV r x w) (fun H1 => MW D dA A md (S.usedS r x w) H1) A) 0 0 A := by
  refine mkMet (by decide) (Nat.le_of_ble_eq_true rfl) ?_
  intro p e s m below meth c ls hC hr hlk hnm hl hH
  have hl : lv_has ls 4 [(0, .ref (md 0)), (1, .int r), (2, .int x), (3, .int w)] := hl
  obtain ⟨sz, br, wh, wi, sn, mi, th, hP, hD, hR⟩ := id hM
  obtain ⟨hnr, hn, hcur, hnc, hnk, hWE, hrow, hkr, hcl, hdj⟩ := id hI
  have hS : va_S A H H [] := va_S.rf
  refine lv_aload_n (pc := 0) hC.x hC.b d_GM_used_0 rfl (lv_at hl 0 rfl) ?_
  refine lv_iconst (pc := 1) (v := 0) hC.x hC.b d_GM_used_1 (by decide) ?_
  refine fp_GM_45 (pc := 2) hC hP hD hS 0 rfl (Nat.le_of_ble_eq_true rfl) d_GM_used_2 (fun H1 locs hP hD hS => ?_)
  have hP : va_P D classes (mx dA md S sz br wh wi sn mi th) H1 := hP
  have hD : va_D A (mx dA md S sz br wh wi sn mi th) := hD
  have hM : MW D dA A md S H1 := ⟨sz, br, wh, wi, sn, mi, th, hP, hD, hR⟩
  refine lv_iload_n (pc := 5) hC.x hC.b d_GM_used_5 rfl (lv_at hl 1 rfl) ?_
  refine lv_if_lt (pc := 6) (tgt := 49) hC.x hC.b d_GM_used_6 (by decide) (fun c_6 => ?_) (fun c_6 => ?_)
  · refine lv_iconst (pc := 49) (v := (-1)) hC.x hC.b d_GM_used_49 (by decide) ?_
    exact wr_i (pc := 50) hC hr hlk (by rw [hH]; exact hS) d_GM_used_50 (if_pos (Or.inl c_6)).symm (by rw [show S.usedS r x w = S from if_pos (Or.inl c_6)]; exact hM)
  refine lv_iload_n (pc := 9) hC.x hC.b d_GM_used_9 rfl (lv_at hl 1 rfl) ?_
  refine lv_aload_n (pc := 10) hC.x hC.b d_GM_used_10 rfl (lv_at hl 0 rfl) ?_
  refine fg_GM_50 (pc := 11) hC hP 0 rfl rfl d_GM_used_11 ?_
  refine lv_icmp_ge (pc := 14) (tgt := 49) hC.x hC.b d_GM_used_14 (by decide) (fun c_14 => ?_) (fun c_14 => ?_)
  · refine lv_iconst (pc := 49) (v := (-1)) hC.x hC.b d_GM_used_49 (by decide) ?_
    exact wr_i (pc := 50) hC hr hlk (by rw [hH]; exact hS) d_GM_used_50 (if_pos (Or.inr (Or.inl c_14))).symm (by rw [show S.usedS r x w = S from if_pos (Or.inr (Or.inl c_14))]; exact hM)
  refine lv_iload_n (pc := 17) hC.x hC.b d_GM_used_17 rfl (lv_at hl 2 rfl) ?_
  refine lv_if_lt (pc := 18) (tgt := 49) hC.x hC.b d_GM_used_18 (by decide) (fun c_18 => ?_) (fun c_18 => ?_)
  · refine lv_iconst (pc := 49) (v := (-1)) hC.x hC.b d_GM_used_49 (by decide) ?_
    exact wr_i (pc := 50) hC hr hlk (by rw [hH]; exact hS) d_GM_used_50 (if_pos (Or.inr (Or.inr (Or.inl c_18)))).symm (by rw [show S.usedS r x w = S from if_pos (Or.inr (Or.inr (Or.inl c_18)))]; exact hM)
  refine lv_iload_n (pc := 21) hC.x hC.b d_GM_used_21 rfl (lv_at hl 2 rfl) ?_
  refine lv_sipush (pc := 22) (v := 255) hC.x hC.b d_GM_used_22 (by decide) ?_
  refine lv_icmp_gt (pc := 25) (tgt := 49) hC.x hC.b d_GM_used_25 (by decide) (fun c_25 => ?_) (fun c_25 => ?_)
  · refine lv_iconst (pc := 49) (v := (-1)) hC.x hC.b d_GM_used_49 (by decide) ?_
    exact wr_i (pc := 50) hC hr hlk (by rw [hH]; exact hS) d_GM_used_50 (if_pos (Or.inr (Or.inr (Or.inr (Or.inl (p255.mp c_25)))))).symm (by rw [show S.usedS r x w = S from if_pos (Or.inr (Or.inr (Or.inr (Or.inl (p255.mp c_25)))))]; exact hM)
  refine lv_iload_n (pc := 28) hC.x hC.b d_GM_used_28 rfl (lv_at hl 3 rfl) ?_
  refine lv_iconst (pc := 29) (v := 1) hC.x hC.b d_GM_used_29 (by decide) ?_
  refine lv_icmp_lt (pc := 30) (tgt := 49) hC.x hC.b d_GM_used_30 (by decide) (fun c_30 => ?_) (fun c_30 => ?_)
  · refine lv_iconst (pc := 49) (v := (-1)) hC.x hC.b d_GM_used_49 (by decide) ?_
    exact wr_i (pc := 50) hC hr hlk (by rw [hH]; exact hS) d_GM_used_50 (if_pos (Or.inr (Or.inr (Or.inr (Or.inr (Or.inl c_30)))))).symm (by rw [show S.usedS r x w = S from if_pos (Or.inr (Or.inr (Or.inr (Or.inr (Or.inl c_30)))))]; exact hM)
  refine lv_iload_n (pc := 33) hC.x hC.b d_GM_used_33 rfl (lv_at hl 3 rfl) ?_
  refine lv_bipush (pc := 34) (v := 9) hC.x hC.b d_GM_used_34 (by decide) ?_
  refine lv_icmp_gt (pc := 36) (tgt := 49) hC.x hC.b d_GM_used_36 (by decide) (fun c_36 => ?_) (fun c_36 => ?_)
  · refine lv_iconst (pc := 49) (v := (-1)) hC.x hC.b d_GM_used_49 (by decide) ?_
    exact wr_i (pc := 50) hC hr hlk (by rw [hH]; exact hS) d_GM_used_50 (if_pos (Or.inr (Or.inr (Or.inr (Or.inr (Or.inr (Or.inl c_36))))))).symm (by rw [show S.usedS r x w = S from if_pos (Or.inr (Or.inr (Or.inr (Or.inr (Or.inr (Or.inl c_36))))))]; exact hM)
  refine lv_aload_n (pc := 39) hC.x hC.b d_GM_used_39 rfl (lv_at hl 0 rfl) ?_
  refine k_GM_53_GM_count (pc := 40) hC hM hI hl.1 (Nat.le_of_ble_eq_true rfl) ⟨Nat.le_of_ble_eq_true rfl, Nat.le_of_ble_eq_true rfl⟩ ⟨Nat.zero_le _, Nat.zero_le _⟩ d_GM_used_40 ?_
  refine lv_sipush (pc := 43) (v := nI 200) hC.x hC.b d_GM_used_43 (by decide) ?_
  refine ni_ne (pc := 46) (tgt := 51) hC d_GM_used_46 (by decide) (by omega) (by omega) (fun c_46 => ?_) (fun c_46 => ?_)
  · have hno : ¬ S.usedC r x w := (fun h => h.elim c_6 (fun h => h.elim c_14 (fun h => h.elim c_18 (fun h => h.elim (fun z => c_25 (p255.mpr z)) (fun h => h.elim c_30 (fun h => h.elim c_36 c_46))))))
    have hlt : S.n < 200 := by omega
    refine lv_aload_n (pc := 51) hC.x hC.b d_GM_used_51 rfl (lv_at hl 0 rfl) ?_
    refine lv_iload_n (pc := 52) hC.x hC.b d_GM_used_52 rfl (lv_at hl 1 rfl) ?_
    refine lv_iload_n (pc := 53) hC.x hC.b d_GM_used_53 rfl (lv_at hl 2 rfl) ?_
    refine lv_iload_n (pc := 54) hC.x hC.b d_GM_used_54 rfl (lv_at hl 3 rfl) ?_
    refine k_GM_57_GM_add (pc := 55) hC hM hI hlt hS hl.1 (Nat.le_of_ble_eq_true rfl) ⟨Nat.le_of_ble_eq_true rfl, Nat.le_of_ble_eq_true rfl⟩ ⟨Nat.zero_le _, Nat.zero_le _⟩ d_GM_used_55 (fun H2 locs hB hS => ?_)
    exact wr_i (pc := 58) hC hr hlk (by rw [hH]; exact hS) d_GM_used_58 (if_neg hno).symm (by rw [show S.usedS r x w = S.addS (r, x, w) from if_neg hno]; exact hB)
  refine lv_iconst (pc := 49) (v := (-1)) hC.x hC.b d_GM_used_49 (by decide) ?_
  exact wr_i (pc := 50) hC hr hlk (by rw [hH]; exact hS) d_GM_used_50 (if_pos (Or.inr (Or.inr (Or.inr (Or.inr (Or.inr (Or.inr (c_46)))))))).symm (by rw [show S.usedS r x w = S from if_pos (Or.inr (Or.inr (Or.inr (Or.inr (Or.inr (Or.inr (c_46)))))))]; exact hM)
set_option maxHeartbeats 4000000 in
set_option maxRecDepth 100000 in
theorem c_GM_guess (l : Launch) {A : Nat → Prop} {md : Nat → Nat} {S : St} {D : va_G} {dA : Nat → ClassId} {H : Heap} (hM : MW D dA A md S H) (hI : Inv S) {d : Int32} : Met l y_GM_guess (wd y_GM_guess b_GM_guess 2 (some .int)) ({ frames := 2, cells := 0, slots := 0, locals := 44 } : Room) (va_Pc [.ref (md 0), .int d] (PX D dA H)) (QI (fun rr => rr = S.guessV d) (fun H1 => MW D dA A md (S.guessS d) H1) A) 0 0 A := by
  refine mkMet (by decide) (Nat.le_of_ble_eq_true rfl) ?_
  intro p e s m below meth c ls hC hr hlk hnm hl hH
  have hl : lv_has ls 2 [(0, .ref (md 0)), (1, .int d)] := hl
  obtain ⟨sz, br, wh, wi, sn, mi, th, hP, hD, hR⟩ := id hM
  obtain ⟨hnr, hn, hcur, hnc, hnk, hWE, hrow, hkr, hcl, hdj⟩ := id hI
  have hS : va_S A H H [] := va_S.rf
  refine lv_aload_n (pc := 0) hC.x hC.b d_GM_guess_0 rfl (lv_at hl 0 rfl) ?_
  refine lv_iconst (pc := 1) (v := 0) hC.x hC.b d_GM_guess_1 (by decide) ?_
  refine fp_GM_45 (pc := 2) hC hP hD hS 0 rfl (Nat.le_of_ble_eq_true rfl) d_GM_guess_2 (fun H1 locs hP hD hS => ?_)
  have hP : va_P D classes (mx dA md S sz br wh wi sn mi th) H1 := hP
  have hD : va_D A (mx dA md S sz br wh wi sn mi th) := hD
  have hM : MW D dA A md S H1 := ⟨sz, br, wh, wi, sn, mi, th, hP, hD, hR⟩
  refine lv_iload_n (pc := 5) hC.x hC.b d_GM_guess_5 rfl (lv_at hl 1 rfl) ?_
  refine lv_iconst (pc := 6) (v := 1) hC.x hC.b d_GM_guess_6 (by decide) ?_
  refine lv_icmp_lt (pc := 7) (tgt := 26) hC.x hC.b d_GM_guess_7 (by decide) (fun c_7 => ?_) (fun c_7 => ?_)
  · refine lv_iconst (pc := 26) (v := (-1)) hC.x hC.b d_GM_guess_26 (by decide) ?_
    exact wr_i (pc := 27) hC hr hlk (by rw [hH]; exact hS) d_GM_guess_27 (if_pos (Or.inl c_7)).symm (by rw [show S.guessS d = S from if_pos (Or.inl c_7)]; exact hM)
  refine lv_iload_n (pc := 10) hC.x hC.b d_GM_guess_10 rfl (lv_at hl 1 rfl) ?_
  refine lv_bipush (pc := 11) (v := 20) hC.x hC.b d_GM_guess_11 (by decide) ?_
  refine lv_icmp_gt (pc := 13) (tgt := 26) hC.x hC.b d_GM_guess_13 (by decide) (fun c_13 => ?_) (fun c_13 => ?_)
  · refine lv_iconst (pc := 26) (v := (-1)) hC.x hC.b d_GM_guess_26 (by decide) ?_
    exact wr_i (pc := 27) hC hr hlk (by rw [hH]; exact hS) d_GM_guess_27 (if_pos (Or.inr (Or.inl c_13))).symm (by rw [show S.guessS d = S from if_pos (Or.inr (Or.inl c_13))]; exact hM)
  refine lv_aload_n (pc := 16) hC.x hC.b d_GM_guess_16 rfl (lv_at hl 0 rfl) ?_
  refine k_GM_53_GM_count (pc := 17) hC hM hI hl.1 (Nat.le_of_ble_eq_true rfl) ⟨Nat.le_of_ble_eq_true rfl, Nat.le_of_ble_eq_true rfl⟩ ⟨Nat.zero_le _, Nat.zero_le _⟩ d_GM_guess_17 ?_
  refine lv_sipush (pc := 20) (v := nI 200) hC.x hC.b d_GM_guess_20 (by decide) ?_
  refine ni_ne (pc := 23) (tgt := 28) hC d_GM_guess_23 (by decide) (by omega) (by omega) (fun c_23 => ?_) (fun c_23 => ?_)
  · have hno : ¬ S.guessC d := (fun h => h.elim c_7 (fun h => h.elim c_13 c_23))
    have hlt : S.n < 200 := by omega
    refine lv_aload_n (pc := 28) hC.x hC.b d_GM_guess_28 rfl (lv_at hl 0 rfl) ?_
    refine lv_iconst (pc := 29) (v := (-1)) hC.x hC.b d_GM_guess_29 (by decide) ?_
    refine lv_iload_n (pc := 30) hC.x hC.b d_GM_guess_30 rfl (lv_at hl 1 rfl) ?_
    refine lv_iconst (pc := 31) (v := 0) hC.x hC.b d_GM_guess_31 (by decide) ?_
    refine k_GM_57_GM_add (pc := 32) hC hM hI hlt hS hl.1 (Nat.le_of_ble_eq_true rfl) ⟨Nat.le_of_ble_eq_true rfl, Nat.le_of_ble_eq_true rfl⟩ ⟨Nat.zero_le _, Nat.zero_le _⟩ d_GM_guess_32 (fun H2 locs hB hS => ?_)
    exact wr_i (pc := 35) hC hr hlk (by rw [hH]; exact hS) d_GM_guess_35 (if_neg hno).symm (by rw [show S.guessS d = S.addS (-1, d, 0) from if_neg hno]; exact hB)
  refine lv_iconst (pc := 26) (v := (-1)) hC.x hC.b d_GM_guess_26 (by decide) ?_
  exact wr_i (pc := 27) hC hr hlk (by rw [hH]; exact hS) d_GM_guess_27 (if_pos (Or.inr (Or.inr c_23))).symm (by rw [show S.guessS d = S from if_pos (Or.inr (Or.inr c_23))]; exact hM)
set_option maxHeartbeats 4000000 in
set_option maxRecDepth 100000 in
theorem c_GM_drop (l : Launch) {A : Nat → Prop} {md : Nat → Nat} {S : St} {D : va_G} {dA : Nat → ClassId} {H : Heap} (hM : MW D dA A md S H) (hI : Inv S) : Met l y_GM_drop (wd y_GM_drop b_GM_drop 1 (some .boolean)) ({ frames := 1, cells := 0, slots := 0, locals := 20 } : Room) (va_Pc [.ref (md 0)] (PX D dA H)) (QI (fun rr => rr = S.dropV) (fun H1 => MW D dA A md S.dropS H1) A) 0 0 A := by
  refine mkMet (by decide) (Nat.le_of_ble_eq_true rfl) ?_
  intro p e s m below meth c ls hC hr hlk hnm hl hH
  have hl : lv_has ls 1 [(0, .ref (md 0))] := hl
  obtain ⟨sz, br, wh, wi, sn, mi, th, hP, hD, hR⟩ := id hM
  obtain ⟨hnr, hn, hcur, hnc, hnk, hWE, hrow, hkr, hcl, hdj⟩ := id hI
  have hS : va_S A H H [] := va_S.rf
  refine lv_aload_n (pc := 0) hC.x hC.b d_GM_drop_0 rfl (lv_at hl 0 rfl) ?_
  refine lv_iconst (pc := 1) (v := 0) hC.x hC.b d_GM_drop_1 (by decide) ?_
  refine fp_GM_45 (pc := 2) hC hP hD hS 0 rfl (Nat.le_of_ble_eq_true rfl) d_GM_drop_2 (fun H1 locs hP hD hS => ?_)
  have hP : va_P D classes (mx dA md S sz br wh wi sn mi th) H1 := hP
  have hD : va_D A (mx dA md S sz br wh wi sn mi th) := hD
  have hM : MW D dA A md S H1 := ⟨sz, br, wh, wi, sn, mi, th, hP, hD, hR⟩
  refine lv_aload_n (pc := 5) hC.x hC.b d_GM_drop_5 rfl (lv_at hl 0 rfl) ?_
  refine k_GM_53_GM_count (pc := 6) hC hM hI hl.1 (Nat.le_of_ble_eq_true rfl) ⟨Nat.le_of_ble_eq_true rfl, Nat.le_of_ble_eq_true rfl⟩ ⟨Nat.zero_le _, Nat.zero_le _⟩ d_GM_drop_6 ?_
  refine nz_ne (pc := 9) (tgt := 14) hC d_GM_drop_9 (by decide) (by omega) (fun c_9 => ?_) (fun c_9 => ?_)
  · refine lv_aload_n (pc := 14) hC.x hC.b d_GM_drop_14 rfl (lv_at hl 0 rfl) ?_
    refine fg_GM_61 (pc := 15) hC hP 0 rfl rfl d_GM_drop_15 ?_
    refine lv_aload_n (pc := 18) hC.x hC.b d_GM_drop_18 rfl (lv_at hl 0 rfl) ?_
    refine k_GM_53_GM_count (pc := 19) hC hM hI hl.1 (Nat.le_of_ble_eq_true rfl) ⟨Nat.le_of_ble_eq_true rfl, Nat.le_of_ble_eq_true rfl⟩ ⟨Nat.zero_le _, Nat.zero_le _⟩ d_GM_drop_19 ?_
    refine ni_ne (pc := 22) (tgt := 35) hC d_GM_drop_22 (by decide) (by omega) (by omega) (fun c_22 => ?_) (fun c_22 => ?_)
    · refine lv_aload_n (pc := 35) hC.x hC.b d_GM_drop_35 rfl (lv_at hl 0 rfl) ?_
      refine fg_GM_16 (pc := 36) hC hP 0 rfl rfl d_GM_drop_36 ?_
      refine lv_bipush (pc := 39) (v := nI 10) hC.x hC.b d_GM_drop_39 (by decide) ?_
      refine lv_dup2_11 (pc := 41) hC.x hC.b d_GM_drop_41 rfl rfl ?_
      refine ald_i (pc := 42) hC hP 3 (10) rfl rfl (by omega) (by decide) d_GM_drop_42 ?_
      refine tp_i (y := nI S.n) hR.1 ?_
      refine lv_iconst (pc := 43) (v := 1) hC.x hC.b d_GM_drop_43 (by decide) ?_
      refine lv_isub (pc := 44) hC.x hC.b d_GM_drop_44 ?_
      refine tp_i (y := nI (S.n - 1)) (nI_sub1 c_9) ?_
      refine ast_i (pc := 45) hC hP hD hS 3 (10) rfl rfl (by omega) (by decide) d_GM_drop_45 (fun H2 locs hP hD hS => ?_)
      refine lv_iconst (pc := 46) (v := 1) hC.x hC.b d_GM_drop_46 (by decide) ?_
      have hmin : S.cur = min S.cur (S.n - 1) := by omega
      have hP : va_P D classes (mx dA md ((S.1, (S.n - 1, S.row), min S.cur (S.n - 1), S.2.2.2)) ((upd sz 10 (nI (S.n - 1)))) br wh wi sn mi th) H2 := by rw [← hmin]; exact hP
      have hD : va_D A (mx dA md ((S.1, (S.n - 1, S.row), min S.cur (S.n - 1), S.2.2.2)) ((upd sz 10 (nI (S.n - 1)))) br wh wi sn mi th) := by rw [← hmin]; exact hD
      have hP : va_P D classes (mx dA md ((S.1, (S.n - 1, S.row), min S.cur (S.n - 1), S.2.2.2)) ((upd sz 10 (nI (S.n - 1)))) br wh wi sn mi th) H2 := hP
      have hD : va_D A (mx dA md ((S.1, (S.n - 1, S.row), min S.cur (S.n - 1), S.2.2.2)) ((upd sz 10 (nI (S.n - 1)))) br wh wi sn mi th) := hD
      exact wr_z (pc := 47) hC hr hlk (by rw [hH]; exact hS) d_GM_drop_47 (by decide) (if_neg (by omega)).symm (by rw [show S.dropS = (S.1, (S.n - 1, S.row), min S.cur (S.n - 1), S.2.2.2) from if_neg (by omega)]; exact ⟨_, _, _, _, _, _, _, hP, hD, Rows_drop hR hI rfl⟩)
    refine lv_aload_n (pc := 25) hC.x hC.b d_GM_drop_25 rfl (lv_at hl 0 rfl) ?_
    refine lv_dup (pc := 26) hC.x hC.b d_GM_drop_26 rfl ?_
    refine fg_GM_61 (pc := 27) hC hP 0 rfl rfl d_GM_drop_27 ?_
    refine lv_iconst (pc := 30) (v := 1) hC.x hC.b d_GM_drop_30 (by decide) ?_
    refine lv_isub (pc := 31) hC.x hC.b d_GM_drop_31 ?_
    refine tp_i (y := nI (S.cur - 1)) (nI_sub1 (by omega)) ?_
    refine fp_GM_61 (pc := 32) hC hP hD hS 0 rfl (Nat.le_of_ble_eq_true rfl) d_GM_drop_32 (fun H2 locs hP hD hS => ?_)
    refine lv_aload_n (pc := 35) hC.x hC.b d_GM_drop_35 rfl (lv_at hl 0 rfl) ?_
    refine fg_GM_16 (pc := 36) hC hP 0 rfl rfl d_GM_drop_36 ?_
    refine lv_bipush (pc := 39) (v := nI 10) hC.x hC.b d_GM_drop_39 (by decide) ?_
    refine lv_dup2_11 (pc := 41) hC.x hC.b d_GM_drop_41 rfl rfl ?_
    refine ald_i (pc := 42) hC hP 3 (10) rfl rfl (by omega) (by decide) d_GM_drop_42 ?_
    refine tp_i (y := nI S.n) hR.1 ?_
    refine lv_iconst (pc := 43) (v := 1) hC.x hC.b d_GM_drop_43 (by decide) ?_
    refine lv_isub (pc := 44) hC.x hC.b d_GM_drop_44 ?_
    refine tp_i (y := nI (S.n - 1)) (nI_sub1 c_9) ?_
    refine ast_i (pc := 45) hC hP hD hS 3 (10) rfl rfl (by omega) (by decide) d_GM_drop_45 (fun H3 locs hP hD hS => ?_)
    refine lv_iconst (pc := 46) (v := 1) hC.x hC.b d_GM_drop_46 (by decide) ?_
    have hmin : S.cur - 1 = min S.cur (S.n - 1) := by omega
    rw [hmin] at hP hD
    have hP : va_P D classes (mx dA md ((S.1, (S.n - 1, S.row), min S.cur (S.n - 1), S.2.2.2)) ((upd sz 10 (nI (S.n - 1)))) br wh wi sn mi th) H3 := hP
    have hD : va_D A (mx dA md ((S.1, (S.n - 1, S.row), min S.cur (S.n - 1), S.2.2.2)) ((upd sz 10 (nI (S.n - 1)))) br wh wi sn mi th) := hD
    exact wr_z (pc := 47) hC hr hlk (by rw [hH]; exact hS) d_GM_drop_47 (by decide) (if_neg (by omega)).symm (by rw [show S.dropS = (S.1, (S.n - 1, S.row), min S.cur (S.n - 1), S.2.2.2) from if_neg (by omega)]; exact ⟨_, _, _, _, _, _, _, hP, hD, Rows_drop hR hI rfl⟩)
  refine lv_iconst (pc := 12) (v := 0) hC.x hC.b d_GM_drop_12 (by decide) ?_
  exact wr_z (pc := 13) hC hr hlk (by rw [hH]; exact hS) d_GM_drop_13 (by decide) (if_pos c_9).symm (by rw [show S.dropS = S from if_pos c_9]; exact hM)
set_option maxHeartbeats 4000000 in
set_option maxRecDepth 100000 in
theorem c_GM_go (l : Launch) {A : Nat → Prop} {md : Nat → Nat} {S : St} {D : va_G} {dA : Nat → ClassId} {H : Heap} (hM : MW D dA A md S H) (hI : Inv S) {x : Int32} : Met l y_GM_go (wd y_GM_go b_GM_go 2 (some .boolean)) ({ frames := 1, cells := 0, slots := 0, locals := 20 } : Room) (va_Pc [.ref (md 0), .int x] (PX D dA H)) (QI (fun rr => rr = S.goV x) (fun H1 => MW D dA A md (S.goS x) H1) A) 0 0 A := by
  refine mkMet (by decide) (Nat.le_of_ble_eq_true rfl) ?_
  intro p e s m below meth c ls hC hr hlk hnm hl hH
  have hl : lv_has ls 2 [(0, .ref (md 0)), (1, .int x)] := hl
  obtain ⟨sz, br, wh, wi, sn, mi, th, hP, hD, hR⟩ := id hM
  obtain ⟨hnr, hn, hcur, hnc, hnk, hWE, hrow, hkr, hcl, hdj⟩ := id hI
  have hS : va_S A H H [] := va_S.rf
  refine lv_aload_n (pc := 0) hC.x hC.b d_GM_go_0 rfl (lv_at hl 0 rfl) ?_
  refine lv_iconst (pc := 1) (v := 0) hC.x hC.b d_GM_go_1 (by decide) ?_
  refine fp_GM_45 (pc := 2) hC hP hD hS 0 rfl (Nat.le_of_ble_eq_true rfl) d_GM_go_2 (fun H1 locs hP hD hS => ?_)
  have hP : va_P D classes (mx dA md S sz br wh wi sn mi th) H1 := hP
  have hD : va_D A (mx dA md S sz br wh wi sn mi th) := hD
  have hM : MW D dA A md S H1 := ⟨sz, br, wh, wi, sn, mi, th, hP, hD, hR⟩
  refine lv_iload_n (pc := 5) hC.x hC.b d_GM_go_5 rfl (lv_at hl 1 rfl) ?_
  refine lv_if_lt (pc := 6) (tgt := 17) hC.x hC.b d_GM_go_6 (by decide) (fun c_6 => ?_) (fun c_6 => ?_)
  · refine lv_iconst (pc := 17) (v := 0) hC.x hC.b d_GM_go_17 (by decide) ?_
    exact wr_z (pc := 18) hC hr hlk (by rw [hH]; exact hS) d_GM_go_18 (by decide) (if_pos (Or.inl c_6)).symm (by rw [show S.goS x = S from if_pos (Or.inl c_6)]; exact hM)
  refine lv_iload_n (pc := 9) hC.x hC.b d_GM_go_9 rfl (lv_at hl 1 rfl) ?_
  refine lv_aload_n (pc := 10) hC.x hC.b d_GM_go_10 rfl (lv_at hl 0 rfl) ?_
  refine k_GM_53_GM_count (pc := 11) hC hM hI hl.1 (Nat.le_of_ble_eq_true rfl) ⟨Nat.le_of_ble_eq_true rfl, Nat.le_of_ble_eq_true rfl⟩ ⟨Nat.zero_le _, Nat.zero_le _⟩ d_GM_go_11 ?_
  refine lv_icmp_le (pc := 14) (tgt := 19) hC.x hC.b d_GM_go_14 (by decide) (fun c_14 => ?_) (fun c_14 => ?_)
  · have hno : ¬ S.goC x := (fun h => h.elim c_6 (Int32.not_lt.mpr c_14))
    obtain ⟨k, hk, hxk⟩ := nI_of c_6
    have hix : x = nI x.toNatClampNeg := by rw [hxk, nI_clamp hk]
    refine lv_aload_n (pc := 19) hC.x hC.b d_GM_go_19 rfl (lv_at hl 0 rfl) ?_
    refine lv_iload_n (pc := 20) hC.x hC.b d_GM_go_20 rfl (lv_at hl 1 rfl) ?_
    refine tp_i (y := nI x.toNatClampNeg) hix ?_
    refine fp_GM_61 (pc := 21) hC hP hD hS 0 rfl (Nat.le_of_ble_eq_true rfl) d_GM_go_21 (fun H2 locs hP hD hS => ?_)
    refine lv_iconst (pc := 24) (v := 1) hC.x hC.b d_GM_go_24 (by decide) ?_
    have hP : va_P D classes (mx dA md (S.1, S.2.1, x.toNatClampNeg, S.2.2.2) sz br wh wi sn mi th) H2 := hP
    have hD : va_D A (mx dA md (S.1, S.2.1, x.toNatClampNeg, S.2.2.2) sz br wh wi sn mi th) := hD
    exact wr_z (pc := 25) hC hr hlk (by rw [hH]; exact hS) d_GM_go_25 (by decide) (if_neg hno).symm (by rw [show S.goS x = (S.1, S.2.1, x.toNatClampNeg, S.2.2.2) from if_neg hno]; exact ⟨sz, br, wh, wi, sn, mi, th, hP, hD, hR⟩)
  refine lv_iconst (pc := 17) (v := 0) hC.x hC.b d_GM_go_17 (by decide) ?_
  exact wr_z (pc := 18) hC hr hlk (by rw [hH]; exact hS) d_GM_go_18 (by decide) (if_pos (Or.inr (Int32.not_le.mp c_14))).symm (by rw [show S.goS x = S from if_pos (Or.inr (Int32.not_le.mp c_14))]; exact hM)
set_option maxHeartbeats 4000000 in
set_option maxRecDepth 100000 in
theorem c_GM_cls (l : Launch) {A : Nat → Prop} {md : Nat → Nat} {S : St} {D : va_G} {dA : Nat → ClassId} {H : Heap} (hM : MW D dA A md S H) (hI : Inv S) {v z : Int64} : Met l y_GM_cls (wd y_GM_cls b_GM_cls 6 (some .int)) ({ frames := 0, cells := 0, slots := 0, locals := 0 } : Room) (va_Pc [.ref (md 0), .long v, .long z] (PX D dA H)) (QI (fun rr => rr = S.clsV v z) (fun H1 => MW D dA A md (S.clsS v z) H1) A) 0 0 A := by
  refine mkMet (by decide) (Nat.le_of_ble_eq_true rfl) ?_
  intro p e s m below meth c ls hC hr hlk hnm hl hH
  have hl : lv_has ls 6 [(0, .ref (md 0)), (1, .long v), (3, .long z)] := hl
  obtain ⟨sz, br, wh, wi, sn, mi, th, hP, hD, hR⟩ := id hM
  obtain ⟨hnr, hn, hcur, hnc, hnk, hWE, hrow, hkr, hcl, hdj⟩ := id hI
  have hS : va_S A H H [] := va_S.rf
  refine lv_aload_n (pc := 0) hC.x hC.b d_GM_cls_0 rfl (lv_at hl 0 rfl) ?_
  refine lv_iconst (pc := 1) (v := 0) hC.x hC.b d_GM_cls_1 (by decide) ?_
  refine fp_GM_45 (pc := 2) hC hP hD hS 0 rfl (Nat.le_of_ble_eq_true rfl) d_GM_cls_2 (fun H1 locs hP hD hS => ?_)
  have hP : va_P D classes (mx dA md S sz br wh wi sn mi th) H1 := hP
  have hD : va_D A (mx dA md S sz br wh wi sn mi th) := hD
  have hM : MW D dA A md S H1 := ⟨sz, br, wh, wi, sn, mi, th, hP, hD, hR⟩
  refine lv_lload_n (pc := 5) hC.x hC.b d_GM_cls_5 rfl (lv_at hl 1 rfl) ?_
  refine lv_lconst (pc := 6) (v := 0) hC.x hC.b d_GM_cls_6 (by decide) ?_
  refine lc_lt (pc := 7) (tgt := 34) hC d_GM_cls_7 d_GM_cls_8 (by decide) (fun c_7 => ?_) (fun c_7 => ?_)
  · refine lv_iconst (pc := 34) (v := (-1)) hC.x hC.b d_GM_cls_34 (by decide) ?_
    exact wr_i (pc := 35) hC hr hlk (by rw [hH]; exact hS) d_GM_cls_35 (if_pos (Or.inl c_7)).symm (by rw [show S.clsS v z = S from if_pos (Or.inl c_7)]; exact hM)
  refine lv_lload_n (pc := 11) hC.x hC.b d_GM_cls_11 rfl (lv_at hl 2 rfl) ?_
  refine lv_lload_n (pc := 12) hC.x hC.b d_GM_cls_12 rfl (lv_at hl 1 rfl) ?_
  refine lc_lt (pc := 13) (tgt := 34) hC d_GM_cls_13 d_GM_cls_14 (by decide) (fun c_13 => ?_) (fun c_13 => ?_)
  · refine lv_iconst (pc := 34) (v := (-1)) hC.x hC.b d_GM_cls_34 (by decide) ?_
    exact wr_i (pc := 35) hC hr hlk (by rw [hH]; exact hS) d_GM_cls_35 (if_pos (Or.inr (Or.inl c_13))).symm (by rw [show S.clsS v z = S from if_pos (Or.inr (Or.inl c_13))]; exact hM)
  refine lv_lload_n (pc := 17) hC.x hC.b d_GM_cls_17 rfl (lv_at hl 2 rfl) ?_
  refine lv_ldc2 (pc := 18) hC.x hC.b hC.o (hC.t _ tw_391) d_GM_cls_18 ?_
  refine lc_gt (pc := 21) (tgt := 34) hC d_GM_cls_21 d_GM_cls_22 (by decide) (fun c_21 => ?_) (fun c_21 => ?_)
  · refine lv_iconst (pc := 34) (v := (-1)) hC.x hC.b d_GM_cls_34 (by decide) ?_
    exact wr_i (pc := 35) hC hr hlk (by rw [hH]; exact hS) d_GM_cls_35 (if_pos (Or.inr (Or.inr (Or.inl c_21)))).symm (by rw [show S.clsS v z = S from if_pos (Or.inr (Or.inr (Or.inl c_21)))]; exact hM)
  refine lv_aload_n (pc := 25) hC.x hC.b d_GM_cls_25 rfl (lv_at hl 0 rfl) ?_
  refine fg_GM_79 (pc := 26) hC hP 0 rfl rfl d_GM_cls_26 ?_
  refine lv_bipush (pc := 29) (v := nI 20) hC.x hC.b d_GM_cls_29 (by decide) ?_
  refine ni_ne (pc := 31) (tgt := 36) hC d_GM_cls_31 (by decide) (by omega) (by omega) (fun c_31 => ?_) (fun c_31 => ?_)
  · refine lv_iconst (pc := 36) (v := nI 0) hC.x hC.b d_GM_cls_36 (by decide) ?_
    refine lv_istore (pc := 37) (lv' := [(5, .int (nI 0)), (0, .ref (md 0)), (1, .long v), (3, .long z)]) hC.x hC.b d_GM_cls_37 hl (by decide) rfl (fun ls hl => ?_)
    refine lpW (pc := 39) (I := fun j ls => lv_has ls 6 [(5, .int (nI j)), (0, .ref (md 0)), (1, .long v), (3, .long z)] ∧ (∀ i, i < j → ¬ (v ≤ S.hi i ∧ S.lo i ≤ z))) (S.nc) ?_ ?_ (0) (Nat.zero_le _) ⟨(lv_sub hl [0, 1, 2, 3] rfl), fun _ h => absurd h (Nat.not_lt_zero _)⟩
    · intro ls hI
      obtain ⟨hl, hv⟩ := hI
      refine lv_iload (pc := 39) hC.x hC.b d_GM_cls_39 (lv_at hl 0 rfl) ?_
      refine lv_aload_n (pc := 41) hC.x hC.b d_GM_cls_41 rfl (lv_at hl 1 rfl) ?_
      refine fg_GM_79 (pc := 42) hC hP 0 rfl rfl d_GM_cls_42 ?_
      refine ni_ge (pc := 45) (tgt := 80) hC d_GM_cls_45 (by decide) (by omega) (by omega) (fun c_45 => ?_) (fun c_45 => ?_)
      · have hno : ¬ S.clsC v z := (fun h => h.elim c_7 (fun h => h.elim c_13 (fun h => h.elim c_21 (fun h => h.elim c_31 (absurd hv)))))
        refine lv_aload_n (pc := 80) hC.x hC.b d_GM_cls_80 rfl (lv_at hl 1 rfl) ?_
        refine fg_GM_28 (pc := 81) hC hP 0 rfl rfl d_GM_cls_81 ?_
        refine lv_aload_n (pc := 84) hC.x hC.b d_GM_cls_84 rfl (lv_at hl 1 rfl) ?_
        refine fg_GM_79 (pc := 85) hC hP 0 rfl rfl d_GM_cls_85 ?_
        refine lv_lload_n (pc := 88) hC.x hC.b d_GM_cls_88 rfl (lv_at hl 2 rfl) ?_
        refine ast_l (pc := 89) hC hP hD hS 7 (S.nc) rfl rfl (by omega) (by decide) d_GM_cls_89 (fun H2 locs hP hD hS => ?_)
        refine lv_aload_n (pc := 90) hC.x hC.b d_GM_cls_90 rfl (lv_at hl 1 rfl) ?_
        refine fg_GM_32 (pc := 91) hC hP 0 rfl rfl d_GM_cls_91 ?_
        refine lv_aload_n (pc := 94) hC.x hC.b d_GM_cls_94 rfl (lv_at hl 1 rfl) ?_
        refine fg_GM_79 (pc := 95) hC hP 0 rfl rfl d_GM_cls_95 ?_
        refine lv_lload_n (pc := 98) hC.x hC.b d_GM_cls_98 rfl (lv_at hl 3 rfl) ?_
        refine ast_l (pc := 99) hC hP hD hS 8 (S.nc) rfl rfl (by omega) (by decide) d_GM_cls_99 (fun H3 locs hP hD hS => ?_)
        refine lv_aload_n (pc := 100) hC.x hC.b d_GM_cls_100 rfl (lv_at hl 1 rfl) ?_
        refine lv_dup (pc := 101) hC.x hC.b d_GM_cls_101 rfl ?_
        refine fg_GM_79 (pc := 102) hC hP 0 rfl rfl d_GM_cls_102 ?_
        refine lv_iconst (pc := 105) (v := 1) hC.x hC.b d_GM_cls_105 (by decide) ?_
        refine lv_iadd (pc := 106) hC.x hC.b d_GM_cls_106 ?_
        refine tp_i (y := nI (S.nc + 1)) (nI_1 _) ?_
        refine fp_GM_79 (pc := 107) hC hP hD hS 0 rfl (Nat.le_of_ble_eq_true rfl) d_GM_cls_107 (fun H4 locs hP hD hS => ?_)
        refine lv_aload_n (pc := 110) hC.x hC.b d_GM_cls_110 rfl (lv_at hl 1 rfl) ?_
        refine fg_GM_79 (pc := 111) hC hP 0 rfl rfl d_GM_cls_111 ?_
        refine lv_iconst (pc := 114) (v := 1) hC.x hC.b d_GM_cls_114 (by decide) ?_
        refine lv_isub (pc := 115) hC.x hC.b d_GM_cls_115 ?_
        refine tp_i (y := nI S.nc) (nI_pred _) ?_
        have hP : va_P D classes (mx dA md ((S.1, S.2.1, S.cur, (S.nc + 1, vp_updL S.lo S.nc v, vp_updL S.hi S.nc z), S.2.2.2.2)) sz br wh wi sn mi th) H4 := hP
        have hD : va_D A (mx dA md ((S.1, S.2.1, S.cur, (S.nc + 1, vp_updL S.lo S.nc v, vp_updL S.hi S.nc z), S.2.2.2.2)) sz br wh wi sn mi th) := hD
        exact wr_i (pc := 116) hC hr hlk (by rw [hH]; exact hS) d_GM_cls_116 (if_neg hno).symm (by rw [show S.clsS v z = (S.1, S.2.1, S.cur, (S.nc + 1, vp_updL S.lo S.nc v, vp_updL S.hi S.nc z), S.2.2.2.2) from if_neg hno]; exact ⟨sz, br, wh, wi, sn, mi, th, hP, hD, hR⟩)
      · exact absurd c_45 (Nat.lt_irrefl _)
    · intro j ls hj hI ih
      obtain ⟨hl, hv⟩ := hI
      refine lv_iload (pc := 39) hC.x hC.b d_GM_cls_39 (lv_at hl 0 rfl) ?_
      refine lv_aload_n (pc := 41) hC.x hC.b d_GM_cls_41 rfl (lv_at hl 1 rfl) ?_
      refine fg_GM_79 (pc := 42) hC hP 0 rfl rfl d_GM_cls_42 ?_
      refine ni_ge (pc := 45) (tgt := 80) hC d_GM_cls_45 (by decide) (by omega) (by omega) (fun c_45 => ?_) (fun c_45 => ?_)
      · exact absurd c_45 (by omega)
      refine lv_lload_n (pc := 48) hC.x hC.b d_GM_cls_48 rfl (lv_at hl 2 rfl) ?_
      refine lv_aload_n (pc := 49) hC.x hC.b d_GM_cls_49 rfl (lv_at hl 1 rfl) ?_
      refine fg_GM_32 (pc := 50) hC hP 0 rfl rfl d_GM_cls_50 ?_
      refine lv_iload (pc := 53) hC.x hC.b d_GM_cls_53 (lv_at hl 0 rfl) ?_
      refine ald_l (pc := 55) hC hP 8 (j) rfl rfl (by omega) (by decide) d_GM_cls_55 ?_
      refine lc_gt (pc := 56) (tgt := 74) hC d_GM_cls_56 d_GM_cls_57 (by decide) (fun c_56 => ?_) (fun c_56 => ?_)
      · refine lv_iinc (pc := 74) (v := nI (j + 1)) (lv' := [(5, .int (nI (j + 1))), (0, .ref (md 0)), (1, .long v), (3, .long z)]) hC.x hC.b d_GM_cls_74 hl (k := 0) rfl (nI_1 _) (by decide) rfl (fun ls hl => ?_)
        refine lv_goto (pc := 77) (tgt := 39) hC.x hC.b d_GM_cls_77 (by decide) ?_
        exact ih ls ⟨(lv_sub hl [0, 1, 2, 3] rfl), fun i hi => if e1 : i = j then e1 ▸ (fun y => Int64.not_le.mpr c_56 y.1) else hv i (by omega)⟩
      refine lv_lload_n (pc := 60) hC.x hC.b d_GM_cls_60 rfl (lv_at hl 3 rfl) ?_
      refine lv_aload_n (pc := 61) hC.x hC.b d_GM_cls_61 rfl (lv_at hl 1 rfl) ?_
      refine fg_GM_28 (pc := 62) hC hP 0 rfl rfl d_GM_cls_62 ?_
      refine lv_iload (pc := 65) hC.x hC.b d_GM_cls_65 (lv_at hl 0 rfl) ?_
      refine ald_l (pc := 67) hC hP 7 (j) rfl rfl (by omega) (by decide) d_GM_cls_67 ?_
      refine lc_lt (pc := 68) (tgt := 74) hC d_GM_cls_68 d_GM_cls_69 (by decide) (fun c_68 => ?_) (fun c_68 => ?_)
      · refine lv_iinc (pc := 74) (v := nI (j + 1)) (lv' := [(5, .int (nI (j + 1))), (0, .ref (md 0)), (1, .long v), (3, .long z)]) hC.x hC.b d_GM_cls_74 hl (k := 0) rfl (nI_1 _) (by decide) rfl (fun ls hl => ?_)
        refine lv_goto (pc := 77) (tgt := 39) hC.x hC.b d_GM_cls_77 (by decide) ?_
        exact ih ls ⟨(lv_sub hl [0, 1, 2, 3] rfl), fun i hi => if e1 : i = j then e1 ▸ (fun y => Int64.not_le.mpr c_68 y.2) else hv i (by omega)⟩
      refine lv_iconst (pc := 72) (v := (-1)) hC.x hC.b d_GM_cls_72 (by decide) ?_
      exact wr_i (pc := 73) hC hr hlk (by rw [hH]; exact hS) d_GM_cls_73 (if_pos (Or.inr (Or.inr (Or.inr (Or.inr (fun y => y j hj ⟨Int64.not_lt.mp c_56, Int64.not_lt.mp c_68⟩)))))).symm (by rw [show S.clsS v z = S from if_pos (Or.inr (Or.inr (Or.inr (Or.inr (fun y => y j hj ⟨Int64.not_lt.mp c_56, Int64.not_lt.mp c_68⟩)))))]; exact hM)
  refine lv_iconst (pc := 34) (v := (-1)) hC.x hC.b d_GM_cls_34 (by decide) ?_
  exact wr_i (pc := 35) hC hr hlk (by rw [hH]; exact hS) d_GM_cls_35 (if_pos (Or.inr (Or.inr (Or.inr (Or.inl c_31))))).symm (by rw [show S.clsS v z = S from if_pos (Or.inr (Or.inr (Or.inr (Or.inl c_31))))]; exact hM)
set_option maxHeartbeats 4000000 in
set_option maxRecDepth 100000 in
theorem c_GM_hint (l : Launch) {A : Nat → Prop} {md : Nat → Nat} {S : St} {D : va_G} {dA : Nat → ClassId} {H : Heap} (hM : MW D dA A md S H) (hI : Inv S) {d : Int32} : Met l y_GM_hint (wd y_GM_hint b_GM_hint 3 (some .int)) ({ frames := 1, cells := 0, slots := 0, locals := 20 } : Room) (va_Pc [.ref (md 0), .int d] (PX D dA H)) (QI (fun rr => rr = S.hintV d) (fun H1 => MW D dA A md (S.hintS d) H1) A) 0 0 A := by
  refine mkMet (by decide) (Nat.le_of_ble_eq_true rfl) ?_
  intro p e s m below meth c ls hC hr hlk hnm hl hH
  have hl : lv_has ls 3 [(0, .ref (md 0)), (1, .int d)] := hl
  obtain ⟨sz, br, wh, wi, sn, mi, th, hP, hD, hR⟩ := id hM
  obtain ⟨hnr, hn, hcur, hnc, hnk, hWE, hrow, hkr, hcl, hdj⟩ := id hI
  have hS : va_S A H H [] := va_S.rf
  refine lv_aload_n (pc := 0) hC.x hC.b d_GM_hint_0 rfl (lv_at hl 0 rfl) ?_
  refine lv_iconst (pc := 1) (v := 0) hC.x hC.b d_GM_hint_1 (by decide) ?_
  refine fp_GM_45 (pc := 2) hC hP hD hS 0 rfl (Nat.le_of_ble_eq_true rfl) d_GM_hint_2 (fun H1 locs hP hD hS => ?_)
  have hP : va_P D classes (mx dA md S sz br wh wi sn mi th) H1 := hP
  have hD : va_D A (mx dA md S sz br wh wi sn mi th) := hD
  have hM : MW D dA A md S H1 := ⟨sz, br, wh, wi, sn, mi, th, hP, hD, hR⟩
  refine lv_iload_n (pc := 5) hC.x hC.b d_GM_hint_5 rfl (lv_at hl 1 rfl) ?_
  refine lv_iconst (pc := 6) (v := 1) hC.x hC.b d_GM_hint_6 (by decide) ?_
  refine lv_icmp_lt (pc := 7) (tgt := 26) hC.x hC.b d_GM_hint_7 (by decide) (fun c_7 => ?_) (fun c_7 => ?_)
  · refine lv_iconst (pc := 26) (v := (-1)) hC.x hC.b d_GM_hint_26 (by decide) ?_
    exact wr_i (pc := 27) hC hr hlk (by rw [hH]; exact hS) d_GM_hint_27 (if_pos (Or.inr (Or.inl c_7))).symm (by rw [show S.hintS d = S from if_pos (Or.inr (Or.inl c_7))]; exact hM)
  refine lv_iload_n (pc := 10) hC.x hC.b d_GM_hint_10 rfl (lv_at hl 1 rfl) ?_
  refine lv_iconst (pc := 11) (v := 4) hC.x hC.b d_GM_hint_11 (by decide) ?_
  refine lv_icmp_gt (pc := 12) (tgt := 26) hC.x hC.b d_GM_hint_12 (by decide) (fun c_12 => ?_) (fun c_12 => ?_)
  · refine lv_iconst (pc := 26) (v := (-1)) hC.x hC.b d_GM_hint_26 (by decide) ?_
    exact wr_i (pc := 27) hC hr hlk (by rw [hH]; exact hS) d_GM_hint_27 (if_pos (Or.inr (Or.inr c_12))).symm (by rw [show S.hintS d = S from if_pos (Or.inr (Or.inr c_12))]; exact hM)
  refine lv_aload_n (pc := 15) hC.x hC.b d_GM_hint_15 rfl (lv_at hl 0 rfl) ?_
  refine fg_GM_61 (pc := 16) hC hP 0 rfl rfl d_GM_hint_16 ?_
  refine lv_aload_n (pc := 19) hC.x hC.b d_GM_hint_19 rfl (lv_at hl 0 rfl) ?_
  refine k_GM_53_GM_count (pc := 20) hC hM hI hl.1 (Nat.le_of_ble_eq_true rfl) ⟨Nat.le_of_ble_eq_true rfl, Nat.le_of_ble_eq_true rfl⟩ ⟨Nat.zero_le _, Nat.zero_le _⟩ d_GM_hint_20 ?_
  refine ni_lt (pc := 23) (tgt := 28) hC d_GM_hint_23 (by decide) (by omega) (by omega) (fun c_23 => ?_) (fun c_23 => ?_)
  · have hno : ¬ S.hintC d := (fun h => h.elim (fun z => by omega) (fun h => h.elim c_7 c_12))
    have hd : d = 1 ∨ d = 2 ∨ d = 3 ∨ d = 4 := by
      have h1 := Int32.not_lt.mp c_7
      have h4 := Int32.not_lt.mp c_12
      rw [Int32.le_iff_toInt_le] at h1 h4
      have e1 : (1 : Int32).toInt = 1 := by decide
      have e4 : (4 : Int32).toInt = 4 := by decide
      have e2 : (2 : Int32).toInt = 2 := by decide
      have e3 : (3 : Int32).toInt = 3 := by decide
      simp only [← Int32.toInt_inj]
      omega
    have hrc := hR.2.1 S.cur c_23
    refine lv_sipush (pc := 28) (v := nI 2000) hC.x hC.b d_GM_hint_28 (by decide) ?_
    refine lv_aload_n (pc := 31) hC.x hC.b d_GM_hint_31 rfl (lv_at hl 0 rfl) ?_
    refine fg_GM_61 (pc := 32) hC hP 0 rfl rfl d_GM_hint_32 ?_
    refine lv_iadd (pc := 35) hC.x hC.b d_GM_hint_35 ?_
    refine tp_i (y := nI (2000 + S.cur)) (nI_add _ _) ?_
    refine lv_istore_n (pc := 36) (lv' := [(2, .int (nI (2000 + S.cur))), (0, .ref (md 0)), (1, .int d)]) hC.x hC.b d_GM_hint_36 rfl hl (by decide) rfl (fun ls hl => ?_)
    refine lv_iload_n (pc := 37) hC.x hC.b d_GM_hint_37 rfl (lv_at hl 2 rfl) ?_
    refine lv_iconst (pc := 38) (v := 4) hC.x hC.b d_GM_hint_38 (by decide) ?_
    rcases hd with rfl | rfl | rfl | rfl
    · refine lv_icmp_ne (pc := 39) (tgt := 52) hC.x hC.b d_GM_hint_39 (by decide) (fun c_39 => ?_) (fun c_39 => ?_)
      · refine lv_aload_n (pc := 52) hC.x hC.b d_GM_hint_52 rfl (lv_at hl 1 rfl) ?_
        refine fg_GM_19 (pc := 53) hC hP 0 rfl rfl d_GM_hint_53 ?_
        refine lv_iload_n (pc := 56) hC.x hC.b d_GM_hint_56 rfl (lv_at hl 0 rfl) ?_
        refine ald_i (pc := 57) hC hP 4 (2000 + S.cur) rfl rfl (by omega) (by decide) d_GM_hint_57 ?_
        refine tp_i (y := (S.row S.cur).1) hrc.1 ?_
        refine lv_iconst (pc := 58) (v := (-1)) hC.x hC.b d_GM_hint_58 (by decide) ?_
        refine lv_icmp_ne (pc := 59) (tgt := 79) hC.x hC.b d_GM_hint_59 (by decide) (fun c_59 => ?_) (fun c_59 => ?_)
        · refine lv_iload_n (pc := 79) hC.x hC.b d_GM_hint_79 rfl (lv_at hl 2 rfl) ?_
          refine lv_tableIn (pc := 80) (tgt := 108) hC.x hC.b d_GM_hint_80 (by decide) (by decide) rfl (by decide) ?_
          refine lv_aload_n (pc := 108) hC.x hC.b d_GM_hint_108 rfl (lv_at hl 1 rfl) ?_
          refine fg_GM_22 (pc := 109) hC hP 0 rfl rfl d_GM_hint_109 ?_
          refine lv_iload_n (pc := 112) hC.x hC.b d_GM_hint_112 rfl (lv_at hl 0 rfl) ?_
          refine ald_i (pc := 113) hC hP 5 (2000 + S.cur) rfl rfl (by omega) (by decide) d_GM_hint_113 ?_
          refine tp_i (y := (S.row S.cur).2.1) hrc.2.1 ?_
          refine lv_bipush (pc := 114) (v := 16) hC.x hC.b d_GM_hint_114 (by decide) ?_
          refine lv_idiv (pc := 116) hC.x hC.b d_GM_hint_116 (by decide) ?_
          exact wr_i (pc := 117) hC hr hlk (by rw [hH]; exact hS) d_GM_hint_117 (by unfold St.hintV hnt; rw [if_neg hno, if_neg c_59]; rfl) (by rw [show S.hintS 1 = S from (if_neg hno).trans (if_neg (by decide))]; exact hM)
        refine lv_iload_n (pc := 62) hC.x hC.b d_GM_hint_62 rfl (lv_at hl 2 rfl) ?_
        refine lv_iconst (pc := 63) (v := 4) hC.x hC.b d_GM_hint_63 (by decide) ?_
        refine lv_icmp_ne (pc := 64) (tgt := 76) hC.x hC.b d_GM_hint_64 (by decide) (fun c_64 => ?_) (fun c_64 => ?_)
        · refine lv_bipush (pc := 76) (v := (-2)) hC.x hC.b d_GM_hint_76 (by decide) ?_
          exact wr_i (pc := 78) hC hr hlk (by rw [hH]; exact hS) d_GM_hint_78 (by unfold St.hintV hnt; rw [if_neg hno, if_pos c_59]; rfl) (by rw [show S.hintS 1 = S from (if_neg hno).trans (if_neg (by decide))]; exact hM)
        · exact absurd c_64 (by decide)
      · exact absurd c_39 (by decide)
    · refine lv_icmp_ne (pc := 39) (tgt := 52) hC.x hC.b d_GM_hint_39 (by decide) (fun c_39 => ?_) (fun c_39 => ?_)
      · refine lv_aload_n (pc := 52) hC.x hC.b d_GM_hint_52 rfl (lv_at hl 1 rfl) ?_
        refine fg_GM_19 (pc := 53) hC hP 0 rfl rfl d_GM_hint_53 ?_
        refine lv_iload_n (pc := 56) hC.x hC.b d_GM_hint_56 rfl (lv_at hl 0 rfl) ?_
        refine ald_i (pc := 57) hC hP 4 (2000 + S.cur) rfl rfl (by omega) (by decide) d_GM_hint_57 ?_
        refine tp_i (y := (S.row S.cur).1) hrc.1 ?_
        refine lv_iconst (pc := 58) (v := (-1)) hC.x hC.b d_GM_hint_58 (by decide) ?_
        refine lv_icmp_ne (pc := 59) (tgt := 79) hC.x hC.b d_GM_hint_59 (by decide) (fun c_59 => ?_) (fun c_59 => ?_)
        · refine lv_iload_n (pc := 79) hC.x hC.b d_GM_hint_79 rfl (lv_at hl 2 rfl) ?_
          refine lv_tableIn (pc := 80) (tgt := 118) hC.x hC.b d_GM_hint_80 (by decide) (by decide) rfl (by decide) ?_
          refine lv_aload_n (pc := 118) hC.x hC.b d_GM_hint_118 rfl (lv_at hl 1 rfl) ?_
          refine fg_GM_22 (pc := 119) hC hP 0 rfl rfl d_GM_hint_119 ?_
          refine lv_iload_n (pc := 122) hC.x hC.b d_GM_hint_122 rfl (lv_at hl 0 rfl) ?_
          refine ald_i (pc := 123) hC hP 5 (2000 + S.cur) rfl rfl (by omega) (by decide) d_GM_hint_123 ?_
          refine tp_i (y := (S.row S.cur).2.1) hrc.2.1 ?_
          exact wr_i (pc := 124) hC hr hlk (by rw [hH]; exact hS) d_GM_hint_124 (by unfold St.hintV hnt; rw [if_neg hno, if_neg c_59]; rfl) (by rw [show S.hintS 2 = S from (if_neg hno).trans (if_neg (by decide))]; exact hM)
        refine lv_iload_n (pc := 62) hC.x hC.b d_GM_hint_62 rfl (lv_at hl 2 rfl) ?_
        refine lv_iconst (pc := 63) (v := 4) hC.x hC.b d_GM_hint_63 (by decide) ?_
        refine lv_icmp_ne (pc := 64) (tgt := 76) hC.x hC.b d_GM_hint_64 (by decide) (fun c_64 => ?_) (fun c_64 => ?_)
        · refine lv_bipush (pc := 76) (v := (-2)) hC.x hC.b d_GM_hint_76 (by decide) ?_
          exact wr_i (pc := 78) hC hr hlk (by rw [hH]; exact hS) d_GM_hint_78 (by unfold St.hintV hnt; rw [if_neg hno, if_pos c_59]; rfl) (by rw [show S.hintS 2 = S from (if_neg hno).trans (if_neg (by decide))]; exact hM)
        · exact absurd c_64 (by decide)
      · exact absurd c_39 (by decide)
    · refine lv_icmp_ne (pc := 39) (tgt := 52) hC.x hC.b d_GM_hint_39 (by decide) (fun c_39 => ?_) (fun c_39 => ?_)
      · refine lv_aload_n (pc := 52) hC.x hC.b d_GM_hint_52 rfl (lv_at hl 1 rfl) ?_
        refine fg_GM_19 (pc := 53) hC hP 0 rfl rfl d_GM_hint_53 ?_
        refine lv_iload_n (pc := 56) hC.x hC.b d_GM_hint_56 rfl (lv_at hl 0 rfl) ?_
        refine ald_i (pc := 57) hC hP 4 (2000 + S.cur) rfl rfl (by omega) (by decide) d_GM_hint_57 ?_
        refine tp_i (y := (S.row S.cur).1) hrc.1 ?_
        refine lv_iconst (pc := 58) (v := (-1)) hC.x hC.b d_GM_hint_58 (by decide) ?_
        refine lv_icmp_ne (pc := 59) (tgt := 79) hC.x hC.b d_GM_hint_59 (by decide) (fun c_59 => ?_) (fun c_59 => ?_)
        · refine lv_iload_n (pc := 79) hC.x hC.b d_GM_hint_79 rfl (lv_at hl 2 rfl) ?_
          refine lv_tableIn (pc := 80) (tgt := 125) hC.x hC.b d_GM_hint_80 (by decide) (by decide) rfl (by decide) ?_
          refine lv_aload_n (pc := 125) hC.x hC.b d_GM_hint_125 rfl (lv_at hl 1 rfl) ?_
          refine fg_GM_19 (pc := 126) hC hP 0 rfl rfl d_GM_hint_126 ?_
          refine lv_iload_n (pc := 129) hC.x hC.b d_GM_hint_129 rfl (lv_at hl 0 rfl) ?_
          refine ald_i (pc := 130) hC hP 4 (2000 + S.cur) rfl rfl (by omega) (by decide) d_GM_hint_130 ?_
          refine tp_i (y := (S.row S.cur).1) hrc.1 ?_
          exact wr_i (pc := 131) hC hr hlk (by rw [hH]; exact hS) d_GM_hint_131 (by unfold St.hintV hnt; rw [if_neg hno, if_neg c_59]; rfl) (by rw [show S.hintS 3 = S from (if_neg hno).trans (if_neg (by decide))]; exact hM)
        refine lv_iload_n (pc := 62) hC.x hC.b d_GM_hint_62 rfl (lv_at hl 2 rfl) ?_
        refine lv_iconst (pc := 63) (v := 4) hC.x hC.b d_GM_hint_63 (by decide) ?_
        refine lv_icmp_ne (pc := 64) (tgt := 76) hC.x hC.b d_GM_hint_64 (by decide) (fun c_64 => ?_) (fun c_64 => ?_)
        · refine lv_bipush (pc := 76) (v := (-2)) hC.x hC.b d_GM_hint_76 (by decide) ?_
          exact wr_i (pc := 78) hC hr hlk (by rw [hH]; exact hS) d_GM_hint_78 (by unfold St.hintV hnt; rw [if_neg hno, if_pos c_59]; rfl) (by rw [show S.hintS 3 = S from (if_neg hno).trans (if_neg (by decide))]; exact hM)
        · exact absurd c_64 (by decide)
      · exact absurd c_39 (by decide)
    · refine lv_icmp_ne (pc := 39) (tgt := 52) hC.x hC.b d_GM_hint_39 (by decide) (fun c_39 => ?_) (fun c_39 => ?_)
      · exact absurd rfl c_39
      refine lv_aload_n (pc := 42) hC.x hC.b d_GM_hint_42 rfl (lv_at hl 1 rfl) ?_
      refine lv_dup (pc := 43) hC.x hC.b d_GM_hint_43 rfl ?_
      refine fg_GM_61 (pc := 44) hC hP 0 rfl rfl d_GM_hint_44 ?_
      refine lv_iconst (pc := 47) (v := 1) hC.x hC.b d_GM_hint_47 (by decide) ?_
      refine lv_iadd (pc := 48) hC.x hC.b d_GM_hint_48 ?_
      refine tp_i (y := nI (S.cur + 1)) (nI_1 _) ?_
      refine fp_GM_61 (pc := 49) hC hP hD hS 0 rfl (Nat.le_of_ble_eq_true rfl) d_GM_hint_49 (fun H2 locs hP hD hS => ?_)
      have hP : va_P D classes (mx dA md (S.1, S.2.1, S.cur + 1, S.2.2.2) sz br wh wi sn mi th) H2 := hP
      have hD : va_D A (mx dA md (S.1, S.2.1, S.cur + 1, S.2.2.2) sz br wh wi sn mi th) := hD
      refine lv_aload_n (pc := 52) hC.x hC.b d_GM_hint_52 rfl (lv_at hl 1 rfl) ?_
      refine fg_GM_19 (pc := 53) hC hP 0 rfl rfl d_GM_hint_53 ?_
      refine lv_iload_n (pc := 56) hC.x hC.b d_GM_hint_56 rfl (lv_at hl 0 rfl) ?_
      refine ald_i (pc := 57) hC hP 4 (2000 + S.cur) rfl rfl (by omega) (by decide) d_GM_hint_57 ?_
      refine tp_i (y := (S.row S.cur).1) hrc.1 ?_
      refine lv_iconst (pc := 58) (v := (-1)) hC.x hC.b d_GM_hint_58 (by decide) ?_
      refine lv_icmp_ne (pc := 59) (tgt := 79) hC.x hC.b d_GM_hint_59 (by decide) (fun c_59 => ?_) (fun c_59 => ?_)
      · refine lv_iload_n (pc := 79) hC.x hC.b d_GM_hint_79 rfl (lv_at hl 2 rfl) ?_
        refine lv_tableOut (pc := 80) (tgt := 132) hC.x hC.b d_GM_hint_80 (by decide) (by decide) ?_
        refine lv_aload_n (pc := 132) hC.x hC.b d_GM_hint_132 rfl (lv_at hl 1 rfl) ?_
        refine fg_GM_25 (pc := 133) hC hP 0 rfl rfl d_GM_hint_133 ?_
        refine lv_iload_n (pc := 136) hC.x hC.b d_GM_hint_136 rfl (lv_at hl 0 rfl) ?_
        refine ald_i (pc := 137) hC hP 6 (2000 + S.cur) rfl rfl (by omega) (by decide) d_GM_hint_137 ?_
        refine tp_i (y := (S.row S.cur).2.2) hrc.2.2 ?_
        exact wr_i (pc := 138) hC hr hlk (by rw [hH]; exact hS) d_GM_hint_138 (by unfold St.hintV hnt; rw [if_neg hno, if_neg c_59]; rfl) (by rw [show S.hintS 4 = (S.1, S.2.1, S.cur + 1, S.2.2.2) from (if_neg hno).trans (if_pos rfl)]; exact ⟨sz, br, wh, wi, sn, mi, th, hP, hD, hR⟩)
      refine lv_iload_n (pc := 62) hC.x hC.b d_GM_hint_62 rfl (lv_at hl 2 rfl) ?_
      refine lv_iconst (pc := 63) (v := 4) hC.x hC.b d_GM_hint_63 (by decide) ?_
      refine lv_icmp_ne (pc := 64) (tgt := 76) hC.x hC.b d_GM_hint_64 (by decide) (fun c_64 => ?_) (fun c_64 => ?_)
      · exact absurd rfl c_64
      refine lv_aload_n (pc := 67) hC.x hC.b d_GM_hint_67 rfl (lv_at hl 1 rfl) ?_
      refine fg_GM_22 (pc := 68) hC hP 0 rfl rfl d_GM_hint_68 ?_
      refine lv_iload_n (pc := 71) hC.x hC.b d_GM_hint_71 rfl (lv_at hl 0 rfl) ?_
      refine ald_i (pc := 72) hC hP 5 (2000 + S.cur) rfl rfl (by omega) (by decide) d_GM_hint_72 ?_
      refine tp_i (y := (S.row S.cur).2.1) hrc.2.1 ?_
      refine lv_goto (pc := 73) (tgt := 78) hC.x hC.b d_GM_hint_73 (by decide) ?_
      exact wr_i (pc := 78) hC hr hlk (by rw [hH]; exact hS) d_GM_hint_78 (by unfold St.hintV hnt; rw [if_neg hno, if_pos c_59]; rfl) (by rw [show S.hintS 4 = (S.1, S.2.1, S.cur + 1, S.2.2.2) from (if_neg hno).trans (if_pos rfl)]; exact ⟨sz, br, wh, wi, sn, mi, th, hP, hD, hR⟩)
  refine lv_iconst (pc := 26) (v := (-1)) hC.x hC.b d_GM_hint_26 (by decide) ?_
  exact wr_i (pc := 27) hC hr hlk (by rw [hH]; exact hS) d_GM_hint_27 (if_pos (Or.inl (by omega))).symm (by rw [show S.hintS d = S from if_pos (Or.inl (by omega))]; exact hM)
set_option maxHeartbeats 4000000 in
set_option maxRecDepth 100000 in
theorem c_GM_keep (l : Launch) {A : Nat → Prop} {md : Nat → Nat} {S : St} {D : va_G} {dA : Nat → ClassId} {H : Heap} (hM : MW D dA A md S H) (hI : Inv S) : Met l y_GM_keep (wd y_GM_keep b_GM_keep 2 (some .int)) ({ frames := 1, cells := 0, slots := 0, locals := 20 } : Room) (va_Pc [.ref (md 0)] (PX D dA H)) (QI (fun rr => rr = S.keepV) (fun H1 => MW D dA A md S.keepS H1) A) 0 0 A := by
  refine mkMet (by decide) (Nat.le_of_ble_eq_true rfl) ?_
  intro p e s m below meth c ls hC hr hlk hnm hl hH
  have hl : lv_has ls 2 [(0, .ref (md 0))] := hl
  obtain ⟨sz, br, wh, wi, sn, mi, th, hP, hD, hR⟩ := id hM
  obtain ⟨hnr, hn, hcur, hnc, hnk, hWE, hrow, hkr, hcl, hdj⟩ := id hI
  have hS : va_S A H H [] := va_S.rf
  refine lv_aload_n (pc := 0) hC.x hC.b d_GM_keep_0 rfl (lv_at hl 0 rfl) ?_
  refine lv_iconst (pc := 1) (v := 0) hC.x hC.b d_GM_keep_1 (by decide) ?_
  refine fp_GM_45 (pc := 2) hC hP hD hS 0 rfl (Nat.le_of_ble_eq_true rfl) d_GM_keep_2 (fun H1 locs hP hD hS => ?_)
  have hP : va_P D classes (mx dA md S sz br wh wi sn mi th) H1 := hP
  have hD : va_D A (mx dA md S sz br wh wi sn mi th) := hD
  have hM : MW D dA A md S H1 := ⟨sz, br, wh, wi, sn, mi, th, hP, hD, hR⟩
  refine lv_aload_n (pc := 5) hC.x hC.b d_GM_keep_5 rfl (lv_at hl 0 rfl) ?_
  refine fg_GM_90 (pc := 6) hC hP 0 rfl rfl d_GM_keep_6 ?_
  refine lv_bipush (pc := 9) (v := nI 10) hC.x hC.b d_GM_keep_9 (by decide) ?_
  refine ni_ne (pc := 11) (tgt := 16) hC d_GM_keep_11 (by decide) (by omega) (by omega) (fun c_11 => ?_) (fun c_11 => ?_)
  · refine lv_iconst (pc := 16) (v := nI 0) hC.x hC.b d_GM_keep_16 (by decide) ?_
    refine lv_istore_n (pc := 17) (lv' := [(1, .int (nI 0)), (0, .ref (md 0))]) hC.x hC.b d_GM_keep_17 rfl hl (by decide) rfl (fun ls hl => ?_)
    have hlt : S.nk < 10 := by omega
    refine lpH (pc := 18) (I := fun k H1 locs ls => ∃ b1 w1 i1 : Nat → Int32, lv_has ls 2 [(1, .int (nI k)), (0, .ref (md 0))] ∧ va_P D classes (mx dA md S sz b1 w1 i1 sn mi th) H1 ∧ va_D A (mx dA md S sz b1 w1 i1 sn mi th) ∧ va_S A H H1 locs ∧ Cpy b1 br S.nk k ∧ Cpy w1 wh S.nk k ∧ Cpy i1 wi S.nk k) 200 ?_ ?_ 0 (Nat.zero_le _) ⟨br, wh, wi, (lv_sub hl [0, 1] rfl), hP, hD, hS, Cpy_0 _ _, Cpy_0 _ _, Cpy_0 _ _⟩
    · intro H2 locs ls hI2
      obtain ⟨b1, w1, i1, hl, hP, hD, hS, c1, c2, c3⟩ := hI2
      have hM2 : MW D dA A md S H2 := ⟨_, _, _, _, _, _, _, hP, hD, Rows_mid hR hI hlt c1 c2 c3⟩
      refine lv_iload_n (pc := 18) hC.x hC.b d_GM_keep_18 rfl (lv_at hl 0 rfl) ?_
      refine lv_sipush (pc := 19) (v := nI 200) hC.x hC.b d_GM_keep_19 (by decide) ?_
      refine ni_ge (pc := 22) (tgt := 106) hC d_GM_keep_22 (by decide) (by omega) (by omega) (fun c_22 => ?_) (fun c_22 => ?_)
      · have hM := hM2
        refine lv_aload_n (pc := 106) hC.x hC.b d_GM_keep_106 rfl (lv_at hl 1 rfl) ?_
        refine fg_GM_16 (pc := 107) hC hP 0 rfl rfl d_GM_keep_107 ?_
        refine lv_aload_n (pc := 110) hC.x hC.b d_GM_keep_110 rfl (lv_at hl 1 rfl) ?_
        refine fg_GM_90 (pc := 111) hC hP 0 rfl rfl d_GM_keep_111 ?_
        refine lv_aload_n (pc := 114) hC.x hC.b d_GM_keep_114 rfl (lv_at hl 1 rfl) ?_
        refine k_GM_53_GM_count (pc := 115) hC hM hI hl.1 (Nat.le_of_ble_eq_true rfl) ⟨Nat.le_of_ble_eq_true rfl, Nat.le_of_ble_eq_true rfl⟩ ⟨Nat.zero_le _, Nat.zero_le _⟩ d_GM_keep_115 ?_
        refine ast_i (pc := 118) hC hP hD hS 3 (S.nk) rfl rfl (by omega) (by decide) d_GM_keep_118 (fun H3 locs hP hD hS => ?_)
        refine lv_aload_n (pc := 119) hC.x hC.b d_GM_keep_119 rfl (lv_at hl 1 rfl) ?_
        refine lv_dup (pc := 120) hC.x hC.b d_GM_keep_120 rfl ?_
        refine fg_GM_90 (pc := 121) hC hP 0 rfl rfl d_GM_keep_121 ?_
        refine lv_iconst (pc := 124) (v := 1) hC.x hC.b d_GM_keep_124 (by decide) ?_
        refine lv_iadd (pc := 125) hC.x hC.b d_GM_keep_125 ?_
        refine tp_i (y := nI (S.nk + 1)) (nI_1 _) ?_
        refine fp_GM_90 (pc := 126) hC hP hD hS 0 rfl (Nat.le_of_ble_eq_true rfl) d_GM_keep_126 (fun H4 locs hP hD hS => ?_)
        refine lv_aload_n (pc := 129) hC.x hC.b d_GM_keep_129 rfl (lv_at hl 1 rfl) ?_
        refine fg_GM_90 (pc := 130) hC hP 0 rfl rfl d_GM_keep_130 ?_
        refine lv_iconst (pc := 133) (v := 1) hC.x hC.b d_GM_keep_133 (by decide) ?_
        refine lv_isub (pc := 134) hC.x hC.b d_GM_keep_134 ?_
        refine tp_i (y := nI S.nk) (nI_pred _) ?_
        have hP : va_P D classes (mx dA md ((S.1, S.2.1, S.cur, S.2.2.2.1, (S.nk + 1, updN S.ks S.nk S.n, updR S.kr S.nk S.row))) ((upd sz S.nk (nI S.n))) b1 w1 i1 sn mi th) H4 := hP
        have hD : va_D A (mx dA md ((S.1, S.2.1, S.cur, S.2.2.2.1, (S.nk + 1, updN S.ks S.nk S.n, updR S.kr S.nk S.row))) ((upd sz S.nk (nI S.n))) b1 w1 i1 sn mi th) := hD
        exact wr_i (pc := 135) hC hr hlk (by rw [hH]; exact hS) d_GM_keep_135 (if_neg c_11).symm (by rw [show S.keepS = (S.1, S.2.1, S.cur, S.2.2.2.1, (S.nk + 1, updN S.ks S.nk S.n, updR S.kr S.nk S.row)) from if_neg c_11]; exact ⟨_, _, _, _, _, _, _, hP, hD, Rows_keep hR hI hlt c1 c2 c3 rfl⟩)
      · exact absurd c_22 (Nat.lt_irrefl _)
    · intro k H2 locs ls hk hI2 ih
      obtain ⟨b1, w1, i1, hl, hP, hD, hS, c1, c2, c3⟩ := hI2
      refine lv_iload_n (pc := 18) hC.x hC.b d_GM_keep_18 rfl (lv_at hl 0 rfl) ?_
      refine lv_sipush (pc := 19) (v := nI 200) hC.x hC.b d_GM_keep_19 (by decide) ?_
      refine ni_ge (pc := 22) (tgt := 106) hC d_GM_keep_22 (by decide) (by omega) (by omega) (fun c_22 => ?_) (fun c_22 => ?_)
      · exact absurd c_22 (by omega)
      refine lv_aload_n (pc := 25) hC.x hC.b d_GM_keep_25 rfl (lv_at hl 1 rfl) ?_
      refine fg_GM_19 (pc := 26) hC hP 0 rfl rfl d_GM_keep_26 ?_
      refine lv_sipush (pc := 29) (v := nI 200) hC.x hC.b d_GM_keep_29 (by decide) ?_
      refine lv_aload_n (pc := 32) hC.x hC.b d_GM_keep_32 rfl (lv_at hl 1 rfl) ?_
      refine fg_GM_90 (pc := 33) hC hP 0 rfl rfl d_GM_keep_33 ?_
      refine lv_imul (pc := 36) hC.x hC.b d_GM_keep_36 ?_
      refine tp_i (y := nI (200 * S.nk)) (pk_mul _ _) ?_
      refine lv_iload_n (pc := 37) hC.x hC.b d_GM_keep_37 rfl (lv_at hl 0 rfl) ?_
      refine lv_iadd (pc := 38) hC.x hC.b d_GM_keep_38 ?_
      refine tp_i (y := nI (200 * S.nk + k)) (nI_add _ _) ?_
      refine lv_aload_n (pc := 39) hC.x hC.b d_GM_keep_39 rfl (lv_at hl 1 rfl) ?_
      refine fg_GM_19 (pc := 40) hC hP 0 rfl rfl d_GM_keep_40 ?_
      refine lv_sipush (pc := 43) (v := nI 2000) hC.x hC.b d_GM_keep_43 (by decide) ?_
      refine lv_iload_n (pc := 46) hC.x hC.b d_GM_keep_46 rfl (lv_at hl 0 rfl) ?_
      refine lv_iadd (pc := 47) hC.x hC.b d_GM_keep_47 ?_
      refine tp_i (y := nI (2000 + k)) (nI_add _ _) ?_
      refine ald_i (pc := 48) hC hP 4 (2000 + k) rfl rfl (by omega) (by decide) d_GM_keep_48 ?_
      refine ast_i (pc := 49) hC hP hD hS 4 (200 * S.nk + k) rfl rfl (by omega) (by decide) d_GM_keep_49 (fun H3 locs hP hD hS => ?_)
      refine lv_aload_n (pc := 50) hC.x hC.b d_GM_keep_50 rfl (lv_at hl 1 rfl) ?_
      refine fg_GM_22 (pc := 51) hC hP 0 rfl rfl d_GM_keep_51 ?_
      refine lv_sipush (pc := 54) (v := nI 200) hC.x hC.b d_GM_keep_54 (by decide) ?_
      refine lv_aload_n (pc := 57) hC.x hC.b d_GM_keep_57 rfl (lv_at hl 1 rfl) ?_
      refine fg_GM_90 (pc := 58) hC hP 0 rfl rfl d_GM_keep_58 ?_
      refine lv_imul (pc := 61) hC.x hC.b d_GM_keep_61 ?_
      refine tp_i (y := nI (200 * S.nk)) (pk_mul _ _) ?_
      refine lv_iload_n (pc := 62) hC.x hC.b d_GM_keep_62 rfl (lv_at hl 0 rfl) ?_
      refine lv_iadd (pc := 63) hC.x hC.b d_GM_keep_63 ?_
      refine tp_i (y := nI (200 * S.nk + k)) (nI_add _ _) ?_
      refine lv_aload_n (pc := 64) hC.x hC.b d_GM_keep_64 rfl (lv_at hl 1 rfl) ?_
      refine fg_GM_22 (pc := 65) hC hP 0 rfl rfl d_GM_keep_65 ?_
      refine lv_sipush (pc := 68) (v := nI 2000) hC.x hC.b d_GM_keep_68 (by decide) ?_
      refine lv_iload_n (pc := 71) hC.x hC.b d_GM_keep_71 rfl (lv_at hl 0 rfl) ?_
      refine lv_iadd (pc := 72) hC.x hC.b d_GM_keep_72 ?_
      refine tp_i (y := nI (2000 + k)) (nI_add _ _) ?_
      refine ald_i (pc := 73) hC hP 5 (2000 + k) rfl rfl (by omega) (by decide) d_GM_keep_73 ?_
      refine ast_i (pc := 74) hC hP hD hS 5 (200 * S.nk + k) rfl rfl (by omega) (by decide) d_GM_keep_74 (fun H4 locs hP hD hS => ?_)
      refine lv_aload_n (pc := 75) hC.x hC.b d_GM_keep_75 rfl (lv_at hl 1 rfl) ?_
      refine fg_GM_25 (pc := 76) hC hP 0 rfl rfl d_GM_keep_76 ?_
      refine lv_sipush (pc := 79) (v := nI 200) hC.x hC.b d_GM_keep_79 (by decide) ?_
      refine lv_aload_n (pc := 82) hC.x hC.b d_GM_keep_82 rfl (lv_at hl 1 rfl) ?_
      refine fg_GM_90 (pc := 83) hC hP 0 rfl rfl d_GM_keep_83 ?_
      refine lv_imul (pc := 86) hC.x hC.b d_GM_keep_86 ?_
      refine tp_i (y := nI (200 * S.nk)) (pk_mul _ _) ?_
      refine lv_iload_n (pc := 87) hC.x hC.b d_GM_keep_87 rfl (lv_at hl 0 rfl) ?_
      refine lv_iadd (pc := 88) hC.x hC.b d_GM_keep_88 ?_
      refine tp_i (y := nI (200 * S.nk + k)) (nI_add _ _) ?_
      refine lv_aload_n (pc := 89) hC.x hC.b d_GM_keep_89 rfl (lv_at hl 1 rfl) ?_
      refine fg_GM_25 (pc := 90) hC hP 0 rfl rfl d_GM_keep_90 ?_
      refine lv_sipush (pc := 93) (v := nI 2000) hC.x hC.b d_GM_keep_93 (by decide) ?_
      refine lv_iload_n (pc := 96) hC.x hC.b d_GM_keep_96 rfl (lv_at hl 0 rfl) ?_
      refine lv_iadd (pc := 97) hC.x hC.b d_GM_keep_97 ?_
      refine tp_i (y := nI (2000 + k)) (nI_add _ _) ?_
      refine ald_i (pc := 98) hC hP 6 (2000 + k) rfl rfl (by omega) (by decide) d_GM_keep_98 ?_
      refine ast_i (pc := 99) hC hP hD hS 6 (200 * S.nk + k) rfl rfl (by omega) (by decide) d_GM_keep_99 (fun H5 locs hP hD hS => ?_)
      refine lv_iinc (pc := 100) (v := nI (k + 1)) (lv' := [(1, .int (nI (k + 1))), (0, .ref (md 0))]) hC.x hC.b d_GM_keep_100 hl (k := 0) rfl (nI_1 _) (by decide) rfl (fun ls hl => ?_)
      refine lv_goto (pc := 103) (tgt := 18) hC.x hC.b d_GM_keep_103 (by decide) ?_
      exact ih _ _ ls ⟨_, _, _, (lv_sub hl [0, 1] rfl), hP, hD, hS, Cpy_s c1 hlt hk, Cpy_s c2 hlt hk, Cpy_s c3 hlt hk⟩
  refine lv_iconst (pc := 14) (v := (-1)) hC.x hC.b d_GM_keep_14 (by decide) ?_
  exact wr_i (pc := 15) hC hr hlk (by rw [hH]; exact hS) d_GM_keep_15 (if_pos c_11).symm (by rw [show S.keepS = S from if_pos c_11]; exact hM)
set_option maxHeartbeats 4000000 in
set_option maxRecDepth 100000 in
theorem c_GM_stuck (l : Launch) {A : Nat → Prop} {md : Nat → Nat} {S : St} {D : va_G} {dA : Nat → ClassId} {H : Heap} (hM : MW D dA A md S H) (hI : Inv S) {x : Int32} : Met l y_GM_stuck (wd y_GM_stuck b_GM_stuck 5 (some .int)) ({ frames := 1, cells := 0, slots := 0, locals := 20 } : Room) (va_Pc [.ref (md 0), .int x] (PX D dA H)) (QI (fun rr => rr = S.stuckX x) (fun H1 => MW D dA A md S H1) A) 0 0 A := by
  refine mkMet (by decide) (Nat.le_of_ble_eq_true rfl) ?_
  intro p e s m below meth c ls hC hr hlk hnm hl hH
  have hl : lv_has ls 5 [(0, .ref (md 0)), (1, .int x)] := hl
  obtain ⟨sz, br, wh, wi, sn, mi, th, hP, hD, hR⟩ := id hM
  obtain ⟨hnr, hn, hcur, hnc, hnk, hWE, hrow, hkr, hcl, hdj⟩ := id hI
  have hS : va_S A H H [] := va_S.rf
  refine lv_aload_n (pc := 0) hC.x hC.b d_GM_stuck_0 rfl (lv_at hl 0 rfl) ?_
  refine lv_iconst (pc := 1) (v := 0) hC.x hC.b d_GM_stuck_1 (by decide) ?_
  refine fp_GM_45 (pc := 2) hC hP hD hS 0 rfl (Nat.le_of_ble_eq_true rfl) d_GM_stuck_2 (fun H1 locs hP hD hS => ?_)
  have hP : va_P D classes (mx dA md S sz br wh wi sn mi th) H1 := hP
  have hD : va_D A (mx dA md S sz br wh wi sn mi th) := hD
  have hM : MW D dA A md S H1 := ⟨sz, br, wh, wi, sn, mi, th, hP, hD, hR⟩
  refine lv_iconst (pc := 5) (v := nI 0) hC.x hC.b d_GM_stuck_5 (by decide) ?_
  refine lv_istore_n (pc := 6) (lv' := [(2, .int (nI 0)), (0, .ref (md 0)), (1, .int x)]) hC.x hC.b d_GM_stuck_6 rfl hl (by decide) rfl (fun ls hl => ?_)
  refine lpH (pc := 7) (I := fun k H1 locs ls => ∃ s1 : Nat → Int32, lv_has ls 5 [(2, .int (nI k)), (0, .ref (md 0)), (1, .int x)] ∧ va_P D classes (mx dA md S sz br wh wi s1 mi th) H1 ∧ va_D A (mx dA md S sz br wh wi s1 mi th) ∧ va_S A H H1 locs ∧ ∀ q, q < k → s1 q = 0) 256 ?_ ?_ 0 (Nat.zero_le _) ⟨sn, (lv_sub hl [0, 1, 2] rfl), hP, hD, hS, fun _ h => absurd h (Nat.not_lt_zero _)⟩
  · intro H2 locs ls hI2
    obtain ⟨s1, hl, hP, hD, hS, h0⟩ := hI2
    refine lv_iload_n (pc := 7) hC.x hC.b d_GM_stuck_7 rfl (lv_at hl 0 rfl) ?_
    refine lv_sipush (pc := 8) (v := nI 256) hC.x hC.b d_GM_stuck_8 (by decide) ?_
    refine ni_ge (pc := 11) (tgt := 27) hC d_GM_stuck_11 (by decide) (by omega) (by omega) (fun c_11 => ?_) (fun c_11 => ?_)
    · refine lv_iconst (pc := 27) (v := 0) hC.x hC.b d_GM_stuck_27 (by decide) ?_
      refine lv_istore_n (pc := 28) (lv' := [(2, .int 0), (0, .ref (md 0)), (1, .int x)]) hC.x hC.b d_GM_stuck_28 rfl hl (by decide) rfl (fun ls hl => ?_)
      refine lv_iconst (pc := 29) (v := nI 0) hC.x hC.b d_GM_stuck_29 (by decide) ?_
      refine lv_istore_n (pc := 30) (lv' := [(3, .int (nI 0)), (2, .int 0), (0, .ref (md 0)), (1, .int x)]) hC.x hC.b d_GM_stuck_30 rfl hl (by decide) rfl (fun ls hl => ?_)
      refine lpH (pc := 31) (I := fun j H1 locs ls => ∃ (s2 : Nat → Int32) (c0 : Int32), lv_has ls 5 [(3, .int (nI j)), (2, .int c0), (0, .ref (md 0)), (1, .int x)] ∧ va_P D classes (mx dA md S sz br wh wi s2 mi th) H1 ∧ va_D A (mx dA md S sz br wh wi s2 mi th) ∧ va_S A H H1 locs ∧ SeenOK s2 S.row j ∧ stk S.row x (S.n - j) j c0 = S.stuckX x) (S.n) ?_ ?_ 0 (Nat.zero_le _) ⟨s1, 0, (lv_sub hl [0, 1, 2, 3] rfl), hP, hD, hS, Seen_0 h0, rfl⟩
      · intro H3 locs ls hI3
        obtain ⟨s2, c0, hl, hP, hD, hS, hsn, hv⟩ := hI3
        have hM : MW D dA A md S H3 := ⟨_, _, _, _, _, _, _, hP, hD, hR⟩
        refine lv_iload_n (pc := 31) hC.x hC.b d_GM_stuck_31 rfl (lv_at hl 0 rfl) ?_
        refine lv_aload_n (pc := 32) hC.x hC.b d_GM_stuck_32 rfl (lv_at hl 2 rfl) ?_
        refine k_GM_53_GM_count (pc := 33) hC hM hI hl.1 (Nat.le_of_ble_eq_true rfl) ⟨Nat.le_of_ble_eq_true rfl, Nat.le_of_ble_eq_true rfl⟩ ⟨Nat.zero_le _, Nat.zero_le _⟩ d_GM_stuck_33 ?_
        refine ni_ge (pc := 36) (tgt := 121) hC d_GM_stuck_36 (by decide) (by omega) (by omega) (fun c_36 => ?_) (fun c_36 => ?_)
        · refine lv_iconst (pc := 121) (v := (-1)) hC.x hC.b d_GM_stuck_121 (by decide) ?_
          exact wr_i (pc := 122) hC hr hlk (by rw [hH]; exact hS) d_GM_stuck_122 (by rw [Nat.sub_self] at hv; exact hv) hM
        · exact absurd c_36 (Nat.lt_irrefl _)
      · intro j H3 locs ls hj hI3 ih
        obtain ⟨s2, c0, hl, hP, hD, hS, hsn, hv⟩ := hI3
        have hM : MW D dA A md S H3 := ⟨_, _, _, _, _, _, _, hP, hD, hR⟩
        refine lv_iload_n (pc := 31) hC.x hC.b d_GM_stuck_31 rfl (lv_at hl 0 rfl) ?_
        refine lv_aload_n (pc := 32) hC.x hC.b d_GM_stuck_32 rfl (lv_at hl 2 rfl) ?_
        refine k_GM_53_GM_count (pc := 33) hC hM hI hl.1 (Nat.le_of_ble_eq_true rfl) ⟨Nat.le_of_ble_eq_true rfl, Nat.le_of_ble_eq_true rfl⟩ ⟨Nat.zero_le _, Nat.zero_le _⟩ d_GM_stuck_33 ?_
        refine ni_ge (pc := 36) (tgt := 121) hC d_GM_stuck_36 (by decide) (by omega) (by omega) (fun c_36 => ?_) (fun c_36 => ?_)
        · exact absurd c_36 (by omega)
        have e1 : S.n - j = (S.n - (j + 1)) + 1 := by omega
        rw [e1] at hv
        have hrj := hR.2.1 j hj
        refine lv_sipush (pc := 39) (v := nI 2000) hC.x hC.b d_GM_stuck_39 (by decide) ?_
        refine lv_iload_n (pc := 42) hC.x hC.b d_GM_stuck_42 rfl (lv_at hl 0 rfl) ?_
        refine lv_iadd (pc := 43) hC.x hC.b d_GM_stuck_43 ?_
        refine tp_i (y := nI (2000 + j)) (nI_add _ _) ?_
        refine lv_istore (pc := 44) (lv' := [(4, .int (nI (2000 + j))), (3, .int (nI j)), (2, .int c0), (0, .ref (md 0)), (1, .int x)]) hC.x hC.b d_GM_stuck_44 hl (by decide) rfl (fun ls hl => ?_)
        refine lv_aload_n (pc := 46) hC.x hC.b d_GM_stuck_46 rfl (lv_at hl 3 rfl) ?_
        refine fg_GM_19 (pc := 47) hC hP 0 rfl rfl d_GM_stuck_47 ?_
        refine lv_iload (pc := 50) hC.x hC.b d_GM_stuck_50 (lv_at hl 0 rfl) ?_
        refine ald_i (pc := 52) hC hP 4 (2000 + j) rfl rfl (by omega) (by decide) d_GM_stuck_52 ?_
        refine tp_i (y := (S.row j).1) hrj.1 ?_
        refine lv_iconst (pc := 53) (v := (-1)) hC.x hC.b d_GM_stuck_53 (by decide) ?_
        refine lv_icmp_eq (pc := 54) (tgt := 115) hC.x hC.b d_GM_stuck_54 (by decide) (fun c_54 => ?_) (fun c_54 => ?_)
        · refine lv_iinc (pc := 115) (v := nI (j + 1)) (lv' := [(3, .int (nI (j + 1))), (4, .int (nI (2000 + j))), (2, .int c0), (0, .ref (md 0)), (1, .int x)]) hC.x hC.b d_GM_stuck_115 hl (k := 1) rfl (nI_1 _) (by decide) rfl (fun ls hl => ?_)
          refine lv_goto (pc := 118) (tgt := 31) hC.x hC.b d_GM_stuck_118 (by decide) ?_
          have hq : ¬ nw1 S.row j := fun y => y.1.1 c_54
          exact ih _ _ ls ⟨_, _, (lv_sub hl [0, 2, 3, 4] rfl), hP, hD, hS, Seen_skip hsn hq, by rw [stk_old hq] at hv; exact hv⟩
        refine lv_aload_n (pc := 57) hC.x hC.b d_GM_stuck_57 rfl (lv_at hl 3 rfl) ?_
        refine fg_GM_25 (pc := 58) hC hP 0 rfl rfl d_GM_stuck_58 ?_
        refine lv_iload (pc := 61) hC.x hC.b d_GM_stuck_61 (lv_at hl 0 rfl) ?_
        refine ald_i (pc := 63) hC hP 6 (2000 + j) rfl rfl (by omega) (by decide) d_GM_stuck_63 ?_
        refine tp_i (y := (S.row j).2.2) hrj.2.2 ?_
        refine lv_iconst (pc := 64) (v := 1) hC.x hC.b d_GM_stuck_64 (by decide) ?_
        refine lv_icmp_ne (pc := 65) (tgt := 115) hC.x hC.b d_GM_stuck_65 (by decide) (fun c_65 => ?_) (fun c_65 => ?_)
        · refine lv_iinc (pc := 115) (v := nI (j + 1)) (lv' := [(3, .int (nI (j + 1))), (4, .int (nI (2000 + j))), (2, .int c0), (0, .ref (md 0)), (1, .int x)]) hC.x hC.b d_GM_stuck_115 hl (k := 1) rfl (nI_1 _) (by decide) rfl (fun ls hl => ?_)
          refine lv_goto (pc := 118) (tgt := 31) hC.x hC.b d_GM_stuck_118 (by decide) ?_
          have hq : ¬ nw1 S.row j := fun y => c_65 y.1.2
          exact ih _ _ ls ⟨_, _, (lv_sub hl [0, 2, 3, 4] rfl), hP, hD, hS, Seen_skip hsn hq, by rw [stk_old hq] at hv; exact hv⟩
        obtain ⟨h0r, -⟩ | ⟨r, q, w, hr1, hq1, hw1, hw2, ht⟩ := hrow j hj
        · exact absurd h0r c_54
        have hpq : (S.row j).2.1 = nI q := by rw [ht]
        refine lv_aload_n (pc := 68) hC.x hC.b d_GM_stuck_68 rfl (lv_at hl 3 rfl) ?_
        refine fg_GM_35 (pc := 69) hC hP 0 rfl rfl d_GM_stuck_69 ?_
        refine lv_aload_n (pc := 72) hC.x hC.b d_GM_stuck_72 rfl (lv_at hl 3 rfl) ?_
        refine fg_GM_22 (pc := 73) hC hP 0 rfl rfl d_GM_stuck_73 ?_
        refine lv_iload (pc := 76) hC.x hC.b d_GM_stuck_76 (lv_at hl 0 rfl) ?_
        refine ald_i (pc := 78) hC hP 5 (2000 + j) rfl rfl (by omega) (by decide) d_GM_stuck_78 ?_
        refine tp_i (y := (S.row j).2.1) hrj.2.1 ?_
        refine ald_z (pc := 79) hC hP 9 (q) rfl hpq (by omega) (by decide) d_GM_stuck_79 ?_
        obtain ⟨hs0, hs1⟩ | ⟨hs0, i, hi1, hi2, hi3⟩ := hsn q hq1
        · have hq : nw1 S.row j := ⟨⟨c_54, c_65⟩, fun i hi z => hs1 i hi ⟨z.1, z.2.trans hpq⟩⟩
          rw [stk_new hq] at hv
          refine lv_if_eq (pc := 80) (tgt := 86) hC.x hC.b d_GM_stuck_80 (by decide) (fun c_80 => ?_) (fun c_80 => ?_)
          · refine lv_aload_n (pc := 86) hC.x hC.b d_GM_stuck_86 rfl (lv_at hl 3 rfl) ?_
            refine fg_GM_35 (pc := 87) hC hP 0 rfl rfl d_GM_stuck_87 ?_
            refine lv_aload_n (pc := 90) hC.x hC.b d_GM_stuck_90 rfl (lv_at hl 3 rfl) ?_
            refine fg_GM_22 (pc := 91) hC hP 0 rfl rfl d_GM_stuck_91 ?_
            refine lv_iload (pc := 94) hC.x hC.b d_GM_stuck_94 (lv_at hl 0 rfl) ?_
            refine ald_i (pc := 96) hC hP 5 (2000 + j) rfl rfl (by omega) (by decide) d_GM_stuck_96 ?_
            refine tp_i (y := (S.row j).2.1) hrj.2.1 ?_
            refine lv_iconst (pc := 97) (v := 1) hC.x hC.b d_GM_stuck_97 (by decide) ?_
            refine ast_z (pc := 98) hC hP hD hS 9 (q) rfl hpq (by omega) (by decide) rfl d_GM_stuck_98 (fun H4 locs hP hD hS => ?_)
            refine lv_iload_n (pc := 99) hC.x hC.b d_GM_stuck_99 rfl (lv_at hl 2 rfl) ?_
            refine lv_iload_n (pc := 100) hC.x hC.b d_GM_stuck_100 rfl (lv_at hl 4 rfl) ?_
            have hsn2 := Seen_put hsn ⟨c_54, c_65⟩ hpq hq1
            refine lv_icmp_ne (pc := 101) (tgt := 112) hC.x hC.b d_GM_stuck_101 (by decide) (fun c_101 => ?_) (fun c_101 => ?_)
            · refine lv_iinc (pc := 112) (v := c0 + 1) (lv' := [(2, .int (c0 + 1)), (4, .int (nI (2000 + j))), (3, .int (nI j)), (0, .ref (md 0)), (1, .int x)]) hC.x hC.b d_GM_stuck_112 hl (k := 2) rfl rfl (by decide) rfl (fun ls hl => ?_)
              refine lv_iinc (pc := 115) (v := nI (j + 1)) (lv' := [(3, .int (nI (j + 1))), (2, .int (c0 + 1)), (4, .int (nI (2000 + j))), (0, .ref (md 0)), (1, .int x)]) hC.x hC.b d_GM_stuck_115 hl (k := 2) rfl (nI_1 _) (by decide) rfl (fun ls hl => ?_)
              refine lv_goto (pc := 118) (tgt := 31) hC.x hC.b d_GM_stuck_118 (by decide) ?_
              exact ih _ _ ls ⟨_, _, (lv_sub hl [0, 1, 3, 4] rfl), hP, hD, hS, hsn2, by rw [if_neg c_101] at hv; exact hv⟩
            refine lv_aload_n (pc := 104) hC.x hC.b d_GM_stuck_104 rfl (lv_at hl 3 rfl) ?_
            refine fg_GM_22 (pc := 105) hC hP 0 rfl rfl d_GM_stuck_105 ?_
            refine lv_iload (pc := 108) hC.x hC.b d_GM_stuck_108 (lv_at hl 0 rfl) ?_
            refine ald_i (pc := 110) hC hP 5 (2000 + j) rfl rfl (by omega) (by decide) d_GM_stuck_110 ?_
            refine tp_i (y := (S.row j).2.1) hrj.2.1 ?_
            exact wr_i (pc := 111) hC hr hlk (by rw [hH]; exact hS) d_GM_stuck_111 (by rw [if_pos c_101] at hv; exact hv) ⟨_, _, _, _, _, _, _, hP, hD, hR⟩
          · exact absurd hs0 c_80
        · refine lv_if_eq (pc := 80) (tgt := 86) hC.x hC.b d_GM_stuck_80 (by decide) (fun c_80 => ?_) (fun c_80 => ?_)
          · exact absurd (hs0.symm.trans c_80) (by decide)
          refine lv_goto (pc := 83) (tgt := 115) hC.x hC.b d_GM_stuck_83 (by decide) ?_
          refine lv_iinc (pc := 115) (v := nI (j + 1)) (lv' := [(3, .int (nI (j + 1))), (4, .int (nI (2000 + j))), (2, .int c0), (0, .ref (md 0)), (1, .int x)]) hC.x hC.b d_GM_stuck_115 hl (k := 1) rfl (nI_1 _) (by decide) rfl (fun ls hl => ?_)
          refine lv_goto (pc := 118) (tgt := 31) hC.x hC.b d_GM_stuck_118 (by decide) ?_
          have hq : ¬ nw1 S.row j := fun y => y.2 i hi1 ⟨hi2, hi3.trans hpq.symm⟩
          exact ih _ _ ls ⟨_, _, (lv_sub hl [0, 2, 3, 4] rfl), hP, hD, hS, Seen_skip hsn hq, by rw [stk_old hq] at hv; exact hv⟩
    · exact absurd c_11 (Nat.lt_irrefl _)
  · intro k H2 locs ls hk hI2 ih
    obtain ⟨s1, hl, hP, hD, hS, h0⟩ := hI2
    refine lv_iload_n (pc := 7) hC.x hC.b d_GM_stuck_7 rfl (lv_at hl 0 rfl) ?_
    refine lv_sipush (pc := 8) (v := nI 256) hC.x hC.b d_GM_stuck_8 (by decide) ?_
    refine ni_ge (pc := 11) (tgt := 27) hC d_GM_stuck_11 (by decide) (by omega) (by omega) (fun c_11 => ?_) (fun c_11 => ?_)
    · exact absurd c_11 (by omega)
    refine lv_aload_n (pc := 14) hC.x hC.b d_GM_stuck_14 rfl (lv_at hl 1 rfl) ?_
    refine fg_GM_35 (pc := 15) hC hP 0 rfl rfl d_GM_stuck_15 ?_
    refine lv_iload_n (pc := 18) hC.x hC.b d_GM_stuck_18 rfl (lv_at hl 0 rfl) ?_
    refine lv_iconst (pc := 19) (v := 0) hC.x hC.b d_GM_stuck_19 (by decide) ?_
    refine ast_z (pc := 20) hC hP hD hS 9 (k) rfl rfl (by omega) (by decide) rfl d_GM_stuck_20 (fun H3 locs hP hD hS => ?_)
    refine lv_iinc (pc := 21) (v := nI (k + 1)) (lv' := [(2, .int (nI (k + 1))), (0, .ref (md 0)), (1, .int x)]) hC.x hC.b d_GM_stuck_21 hl (k := 0) rfl (nI_1 _) (by decide) rfl (fun ls hl => ?_)
    refine lv_goto (pc := 24) (tgt := 7) hC.x hC.b d_GM_stuck_24 (by decide) ?_
    exact ih _ _ ls ⟨_, (lv_sub hl [0, 1, 2] rfl), hP, hD, hS, fun q hq => if z : q = k then by rw [z, upd_s] else by rw [upd_n z]; exact h0 q (by omega)⟩
set_option maxHeartbeats 4000000 in
set_option maxRecDepth 100000 in
theorem c_GM_compare (l : Launch) {A : Nat → Prop} {md : Nat → Nat} {S : St} {D : va_G} {dA : Nat → ClassId} {H : Heap} (hM : MW D dA A md S H) (hI : Inv S) {x : Int32} : Met l y_GM_compare (wd y_GM_compare b_GM_compare 10 (some .int)) ({ frames := 3, cells := 0, slots := 0, locals := 71 } : Room) (va_Pc [.ref (md 0), .int x] (PX D dA H)) (QI (fun rr => S.cmpM x rr) (fun H1 => MW D dA A md S H1) A) 0 0 A := by
  refine mkMet (by decide) (Nat.le_of_ble_eq_true rfl) ?_
  intro p e s m below meth c ls hC hr hlk hnm hl hH
  have hl : lv_has ls 10 [(0, .ref (md 0)), (1, .int x)] := hl
  obtain ⟨sz, br, wh, wi, sn, mi, th, hP, hD, hR⟩ := id hM
  obtain ⟨hnr, hn, hcur, hnc, hnk, hWE, hrow, hkr, hcl, hdj⟩ := id hI
  have hS : va_S A H H [] := va_S.rf
  refine lv_aload_n (pc := 0) hC.x hC.b d_GM_compare_0 rfl (lv_at hl 0 rfl) ?_
  refine lv_iconst (pc := 1) (v := 0) hC.x hC.b d_GM_compare_1 (by decide) ?_
  refine fp_GM_45 (pc := 2) hC hP hD hS 0 rfl (Nat.le_of_ble_eq_true rfl) d_GM_compare_2 (fun H1 locs hP hD hS => ?_)
  have hP : va_P D classes (mx dA md S sz br wh wi sn mi th) H1 := hP
  have hD : va_D A (mx dA md S sz br wh wi sn mi th) := hD
  have hM : MW D dA A md S H1 := ⟨sz, br, wh, wi, sn, mi, th, hP, hD, hR⟩
  rcases pk_ix x (n := S.nk) (by omega) with hx | hx | ⟨j, hj, rfl⟩
  · refine lv_iload_n (pc := 5) hC.x hC.b d_GM_compare_5 rfl (lv_at hl 1 rfl) ?_
    refine lv_if_lt (pc := 6) (tgt := 17) hC.x hC.b d_GM_compare_6 (by decide) (fun c_6 => ?_) (fun c_6 => ?_)
    · refine lv_bipush (pc := 17) (v := (-2)) hC.x hC.b d_GM_compare_17 (by decide) ?_
      exact wr_i (pc := 19) hC hr hlk (by rw [hH]; exact hS) d_GM_compare_19 (Or.inl ⟨Or.inl hx, rfl⟩) hM
    · exact absurd hx c_6
  · refine lv_iload_n (pc := 5) hC.x hC.b d_GM_compare_5 rfl (lv_at hl 1 rfl) ?_
    refine lv_if_lt (pc := 6) (tgt := 17) hC.x hC.b d_GM_compare_6 (by decide) (fun c_6 => ?_) (fun c_6 => ?_)
    · refine lv_bipush (pc := 17) (v := (-2)) hC.x hC.b d_GM_compare_17 (by decide) ?_
      exact wr_i (pc := 19) hC hr hlk (by rw [hH]; exact hS) d_GM_compare_19 (Or.inl ⟨Or.inr hx, rfl⟩) hM
    refine lv_iload_n (pc := 9) hC.x hC.b d_GM_compare_9 rfl (lv_at hl 1 rfl) ?_
    refine lv_aload_n (pc := 10) hC.x hC.b d_GM_compare_10 rfl (lv_at hl 0 rfl) ?_
    refine fg_GM_90 (pc := 11) hC hP 0 rfl rfl d_GM_compare_11 ?_
    refine lv_icmp_lt (pc := 14) (tgt := 20) hC.x hC.b d_GM_compare_14 (by decide) (fun c_14 => ?_) (fun c_14 => ?_)
    · exact absurd c_14 (Int32.not_lt.mpr hx)
    refine lv_bipush (pc := 17) (v := (-2)) hC.x hC.b d_GM_compare_17 (by decide) ?_
    exact wr_i (pc := 19) hC hr hlk (by rw [hH]; exact hS) d_GM_compare_19 (Or.inl ⟨Or.inr hx, rfl⟩) hM
  · have hkj := (hkr j hj).1
    refine lv_iload_n (pc := 5) hC.x hC.b d_GM_compare_5 rfl (lv_at hl 1 rfl) ?_
    refine lv_if_lt (pc := 6) (tgt := 17) hC.x hC.b d_GM_compare_6 (by decide) (fun c_6 => ?_) (fun c_6 => ?_)
    · exact absurd c_6 (nI_pos (by omega))
    refine lv_iload_n (pc := 9) hC.x hC.b d_GM_compare_9 rfl (lv_at hl 1 rfl) ?_
    refine lv_aload_n (pc := 10) hC.x hC.b d_GM_compare_10 rfl (lv_at hl 0 rfl) ?_
    refine fg_GM_90 (pc := 11) hC hP 0 rfl rfl d_GM_compare_11 ?_
    refine ni_lt (pc := 14) (tgt := 20) hC d_GM_compare_14 (by decide) (by omega) (by omega) (fun c_14 => ?_) (fun c_14 => ?_)
    · refine lv_aload_n (pc := 20) hC.x hC.b d_GM_compare_20 rfl (lv_at hl 0 rfl) ?_
      refine k_GM_82_GM_all (pc := 21) hC hM hI hl.1 (Nat.le_of_ble_eq_true rfl) ⟨Nat.le_of_ble_eq_true rfl, Nat.le_of_ble_eq_true rfl⟩ ⟨Nat.zero_le _, Nat.zero_le _⟩ d_GM_compare_21 ?_
      refine lv_lstore_n (pc := 24) (lv' := [(2, .long (S.sum S.n)), (0, .ref (md 0)), (1, .int (nI j))]) hC.x hC.b d_GM_compare_24 rfl hl (by decide) rfl (fun ls hl => ?_)
      refine lv_aload_n (pc := 25) hC.x hC.b d_GM_compare_25 rfl (lv_at hl 1 rfl) ?_
      refine lv_iload_n (pc := 26) hC.x hC.b d_GM_compare_26 rfl (lv_at hl 2 rfl) ?_
      refine lv_sipush (pc := 27) (v := nI 200) hC.x hC.b d_GM_compare_27 (by decide) ?_
      refine k_GM_72_GM_sumOf (pc := 30) hC hM hI (RowOf.kept hj) (q := 200) (by decide) hl.1 (Nat.le_of_ble_eq_true rfl) ⟨Nat.le_of_ble_eq_true rfl, Nat.le_of_ble_eq_true rfl⟩ ⟨Nat.zero_le _, Nat.zero_le _⟩ d_GM_compare_30 ?_
      refine tp_l (y := sm S.W S.E (S.kr j) (S.ks j)) (by rw [Nat.min_eq_right hkj]) ?_
      refine lv_lstore (pc := 33) (lv' := [(4, .long (sm S.W S.E (S.kr j) (S.ks j))), (2, .long (S.sum S.n)), (0, .ref (md 0)), (1, .int (nI j))]) hC.x hC.b d_GM_compare_33 hl (by decide) rfl (fun ls hl => ?_)
      refine lv_lload_n (pc := 35) hC.x hC.b d_GM_compare_35 rfl (lv_at hl 1 rfl) ?_
      refine lv_lload (pc := 36) hC.x hC.b d_GM_compare_36 (lv_at hl 0 rfl) ?_
      refine lc_eq (pc := 38) (tgt := 49) hC d_GM_compare_38 d_GM_compare_39 (by decide) (fun c_38 => ?_) (fun c_38 => ?_)
      · refine lv_aload_n (pc := 49) hC.x hC.b d_GM_compare_49 rfl (lv_at hl 2 rfl) ?_
        refine k_GM_53_GM_count (pc := 50) hC hM hI hl.1 (Nat.le_of_ble_eq_true rfl) ⟨Nat.le_of_ble_eq_true rfl, Nat.le_of_ble_eq_true rfl⟩ ⟨Nat.zero_le _, Nat.zero_le _⟩ d_GM_compare_50 ?_
        refine lv_aload_n (pc := 53) hC.x hC.b d_GM_compare_53 rfl (lv_at hl 2 rfl) ?_
        refine fg_GM_16 (pc := 54) hC hP 0 rfl rfl d_GM_compare_54 ?_
        refine lv_iload_n (pc := 57) hC.x hC.b d_GM_compare_57 rfl (lv_at hl 3 rfl) ?_
        refine ald_i (pc := 58) hC hP 3 (j) rfl rfl (by omega) (by decide) d_GM_compare_58 ?_
        refine tp_i (y := nI (S.ks j)) (hR.2.2 j hj).1 ?_
        refine ni_eq (pc := 59) (tgt := 78) hC d_GM_compare_59 (by decide) (by omega) (by omega) (fun c_59 => ?_) (fun c_59 => ?_)
        · have hc1 : cm1 (S.sum S.n) (sm S.W S.E (S.kr j) (S.ks j)) S.n (S.ks j) = 0 := by unfold cm1 i3; rw [c_38, l3_self, if_pos rfl, if_neg (by omega), if_neg (by omega)]
          refine lv_iconst (pc := 78) (v := nI 0) hC.x hC.b d_GM_compare_78 (by decide) ?_
          refine lv_istore (pc := 79) (lv' := [(6, .int (nI 0)), (4, .long (sm S.W S.E (S.kr j) (S.ks j))), (2, .long (S.sum S.n)), (0, .ref (md 0)), (1, .int (nI j))]) hC.x hC.b d_GM_compare_79 hl (by decide) rfl (fun ls hl => ?_)
          refine lpH (pc := 81) (I := fun k H1 locs ls => ∃ m1 t1 : Nat → Int64, lv_has ls 10 [(6, .int (nI k)), (0, .ref (md 0)), (1, .int (nI j))] ∧ va_P D classes (mx dA md S sz br wh wi sn m1 t1) H1 ∧ va_D A (mx dA md S sz br wh wi sn m1 t1) ∧ va_S A H H1 locs ∧ (∀ i, i < k → m1 i = S.cost i) ∧ ∀ i, i < k → t1 i = cst S.W S.E (S.kr j) i) (S.n) ?_ ?_ 0 (Nat.zero_le _) ⟨mi, th, (lv_sub hl [0, 3, 4] rfl), hP, hD, hS, fun _ h => absurd h (Nat.not_lt_zero _), fun _ h => absurd h (Nat.not_lt_zero _)⟩
          · intro H2 locs ls hI2
            obtain ⟨m1, t1, hl, hP, hD, hS, hm1, ht1⟩ := hI2
            have hM : MW D dA A md S H2 := ⟨_, _, _, _, _, _, _, hP, hD, hR⟩
            refine lv_iload (pc := 81) hC.x hC.b d_GM_compare_81 (lv_at hl 0 rfl) ?_
            refine lv_aload_n (pc := 83) hC.x hC.b d_GM_compare_83 rfl (lv_at hl 1 rfl) ?_
            refine k_GM_53_GM_count (pc := 84) hC hM hI hl.1 (Nat.le_of_ble_eq_true rfl) ⟨Nat.le_of_ble_eq_true rfl, Nat.le_of_ble_eq_true rfl⟩ ⟨Nat.zero_le _, Nat.zero_le _⟩ d_GM_compare_84 ?_
            refine ni_ge (pc := 87) (tgt := 125) hC d_GM_compare_87 (by decide) (by omega) (by omega) (fun c_87 => ?_) (fun c_87 => ?_)
            · refine lv_iconst (pc := 125) (v := nI 0) hC.x hC.b d_GM_compare_125 (by decide) ?_
              refine lv_istore (pc := 126) (lv' := [(6, .int (nI 0)), (0, .ref (md 0)), (1, .int (nI j))]) hC.x hC.b d_GM_compare_126 hl (by decide) rfl (fun ls hl => ?_)
              refine lpH (pc := 128) (I := fun t H1 locs ls => ∃ m1 t1 : Nat → Int64, lv_has ls 10 [(6, .int (nI t)), (0, .ref (md 0)), (1, .int (nI j))] ∧ va_P D classes (mx dA md S sz br wh wi sn m1 t1) H1 ∧ va_D A (mx dA md S sz br wh wi sn m1 t1) ∧ va_S A H H1 locs ∧ ∀ f g, SD f S.cost S.n → SD g (cst S.W S.E (S.kr j)) (S.ks j) → Sel m1 f S.n t ∧ Sel t1 g S.n t ∧ ∀ i, i < t → f i = g i) (S.n) ?_ ?_ 0 (Nat.zero_le _) ⟨m1, t1, (lv_sub hl [0, 1, 2] rfl), hP, hD, hS, fun f g hf hg => ⟨Sel_0 hm1 hf, Sel_0 ht1 (c_59 ▸ hg), fun _ h => absurd h (Nat.not_lt_zero _)⟩⟩
              · intro H3 locs ls hI3
                obtain ⟨m1, t1, hl, hP, hD, hS, hq⟩ := hI3
                have hM : MW D dA A md S H3 := ⟨_, _, _, _, _, _, _, hP, hD, hR⟩
                refine lv_iload (pc := 128) hC.x hC.b d_GM_compare_128 (lv_at hl 0 rfl) ?_
                refine lv_aload_n (pc := 130) hC.x hC.b d_GM_compare_130 rfl (lv_at hl 1 rfl) ?_
                refine k_GM_53_GM_count (pc := 131) hC hM hI hl.1 (Nat.le_of_ble_eq_true rfl) ⟨Nat.le_of_ble_eq_true rfl, Nat.le_of_ble_eq_true rfl⟩ ⟨Nat.zero_le _, Nat.zero_le _⟩ d_GM_compare_131 ?_
                refine ni_ge (pc := 134) (tgt := 277) hC d_GM_compare_134 (by decide) (by omega) (by omega) (fun c_134 => ?_) (fun c_134 => ?_)
                · refine lv_iconst (pc := 277) (v := 0) hC.x hC.b d_GM_compare_277 (by decide) ?_
                  exact wr_i (pc := 278) hC hr hlk (by rw [hH]; exact hS) d_GM_compare_278 (Or.inr ⟨j, hj, rfl, fun f g hf hg => (by rw [hc1]; exact (cl_same S.n 0 (fun i _ hi => (hq f g hf hg).2.2 i (by omega))).symm)⟩) hM
                · exact absurd c_134 (Nat.lt_irrefl _)
              · intro t H3 locs ls ht hI3 ih
                obtain ⟨m1, t1, hl, hP, hD, hS, hq⟩ := hI3
                have hM : MW D dA A md S H3 := ⟨_, _, _, _, _, _, _, hP, hD, hR⟩
                refine lv_iload (pc := 128) hC.x hC.b d_GM_compare_128 (lv_at hl 0 rfl) ?_
                refine lv_aload_n (pc := 130) hC.x hC.b d_GM_compare_130 rfl (lv_at hl 1 rfl) ?_
                refine k_GM_53_GM_count (pc := 131) hC hM hI hl.1 (Nat.le_of_ble_eq_true rfl) ⟨Nat.le_of_ble_eq_true rfl, Nat.le_of_ble_eq_true rfl⟩ ⟨Nat.zero_le _, Nat.zero_le _⟩ d_GM_compare_131 ?_
                refine ni_ge (pc := 134) (tgt := 277) hC d_GM_compare_134 (by decide) (by omega) (by omega) (fun c_134 => ?_) (fun c_134 => ?_)
                · exact absurd c_134 (by omega)
                refine lv_iconst (pc := 137) (v := nI 0) hC.x hC.b d_GM_compare_137 (by decide) ?_
                refine lv_istore (pc := 138) (lv' := [(7, .int (nI 0)), (6, .int (nI t)), (0, .ref (md 0)), (1, .int (nI j))]) hC.x hC.b d_GM_compare_138 hl (by decide) rfl (fun ls hl => ?_)
                refine lv_iconst (pc := 140) (v := nI 0) hC.x hC.b d_GM_compare_140 (by decide) ?_
                refine lv_istore (pc := 141) (lv' := [(8, .int (nI 0)), (7, .int (nI 0)), (6, .int (nI t)), (0, .ref (md 0)), (1, .int (nI j))]) hC.x hC.b d_GM_compare_141 hl (by decide) rfl (fun ls hl => ?_)
                refine lv_iconst (pc := 143) (v := nI 1) hC.x hC.b d_GM_compare_143 (by decide) ?_
                refine lv_istore (pc := 144) (lv' := [(9, .int (nI 1)), (8, .int (nI 0)), (7, .int (nI 0)), (6, .int (nI t)), (0, .ref (md 0)), (1, .int (nI j))]) hC.x hC.b d_GM_compare_144 hl (by decide) rfl (fun ls hl => ?_)
                refine lpW (pc := 146) (I := fun k ls => ∃ a : Nat, ∃ b : Nat, lv_has ls 10 [(9, .int (nI k)), (8, .int (nI b)), (7, .int (nI a)), (6, .int (nI t)), (0, .ref (md 0)), (1, .int (nI j))] ∧ (a < S.n ∧ b < S.n ∧ (∀ i, i < k → m1 i ≤ m1 a) ∧ ∀ i, i < k → t1 i ≤ t1 b)) (S.n) ?_ ?_ (1) (by omega) ⟨0, 0, (lv_sub hl [0, 1, 2, 3, 4, 5] rfl), by omega, by omega, fun i hi => by rw [show i = 0 by omega]; exact Int64.le_refl _, fun i hi => by rw [show i = 0 by omega]; exact Int64.le_refl _⟩
                · intro ls hI
                  obtain ⟨a, b, hl, hv2⟩ := hI
                  obtain ⟨ha, hb, hma, htb⟩ := hv2
                  refine lv_iload (pc := 146) hC.x hC.b d_GM_compare_146 (lv_at hl 0 rfl) ?_
                  refine lv_aload_n (pc := 148) hC.x hC.b d_GM_compare_148 rfl (lv_at hl 4 rfl) ?_
                  refine k_GM_53_GM_count (pc := 149) hC hM hI hl.1 (Nat.le_of_ble_eq_true rfl) ⟨Nat.le_of_ble_eq_true rfl, Nat.le_of_ble_eq_true rfl⟩ ⟨Nat.zero_le _, Nat.zero_le _⟩ d_GM_compare_149 ?_
                  refine ni_ge (pc := 152) (tgt := 215) hC d_GM_compare_152 (by decide) (by omega) (by omega) (fun c_152 => ?_) (fun c_152 => ?_)
                  · refine lv_aload_n (pc := 215) hC.x hC.b d_GM_compare_215 rfl (lv_at hl 4 rfl) ?_
                    refine fg_GM_39 (pc := 216) hC hP 0 rfl rfl d_GM_compare_216 ?_
                    refine lv_iload (pc := 219) hC.x hC.b d_GM_compare_219 (lv_at hl 2 rfl) ?_
                    refine ald_l (pc := 221) hC hP 10 (a) rfl rfl (by omega) (by decide) d_GM_compare_221 ?_
                    refine lv_aload_n (pc := 222) hC.x hC.b d_GM_compare_222 rfl (lv_at hl 4 rfl) ?_
                    refine fg_GM_42 (pc := 223) hC hP 0 rfl rfl d_GM_compare_223 ?_
                    refine lv_iload (pc := 226) hC.x hC.b d_GM_compare_226 (lv_at hl 1 rfl) ?_
                    refine ald_l (pc := 228) hC hP 11 (b) rfl rfl (by omega) (by decide) d_GM_compare_228 ?_
                    have key : ∀ f g, SD f S.cost S.n → SD g (cst S.W S.E (S.kr j)) (S.ks j) → m1 a = f t ∧ t1 b = g t := fun f g hf hg => ⟨Sel_max (hq f g hf hg).1 hf.1 (SD_nn hf (fun k hk => cst_nn hI (hrow k hk))) ht ha hma, Sel_max (hq f g hf hg).2.1 (fun i j h1 h2 => hg.1 i j h1 (by omega)) (fun i hi => SD_nn hg (fun k hk => cst_nn hI ((hkr j hj).2 k hk)) i (by omega)) ht hb htb⟩
                    refine lc_eq (pc := 229) (tgt := 251) hC d_GM_compare_229 d_GM_compare_230 (by decide) (fun c_229 => ?_) (fun c_229 => ?_)
                    · refine lv_aload_n (pc := 251) hC.x hC.b d_GM_compare_251 rfl (lv_at hl 4 rfl) ?_
                      refine fg_GM_39 (pc := 252) hC hP 0 rfl rfl d_GM_compare_252 ?_
                      refine lv_iload (pc := 255) hC.x hC.b d_GM_compare_255 (lv_at hl 2 rfl) ?_
                      refine lv_ldc2 (pc := 257) hC.x hC.b hC.o (hC.t _ tw_372) d_GM_compare_257 ?_
                      refine ast_l (pc := 260) hC hP hD hS 10 (a) rfl rfl (by omega) (by decide) d_GM_compare_260 (fun H4 locs hP hD hS => ?_)
                      refine lv_aload_n (pc := 261) hC.x hC.b d_GM_compare_261 rfl (lv_at hl 4 rfl) ?_
                      refine fg_GM_42 (pc := 262) hC hP 0 rfl rfl d_GM_compare_262 ?_
                      refine lv_iload (pc := 265) hC.x hC.b d_GM_compare_265 (lv_at hl 1 rfl) ?_
                      refine lv_ldc2 (pc := 267) hC.x hC.b hC.o (hC.t _ tw_372) d_GM_compare_267 ?_
                      refine ast_l (pc := 270) hC hP hD hS 11 (b) rfl rfl (by omega) (by decide) d_GM_compare_270 (fun H5 locs hP hD hS => ?_)
                      refine lv_iinc (pc := 271) (v := nI (t + 1)) (lv' := [(6, .int (nI (t + 1))), (9, .int (nI S.n)), (8, .int (nI b)), (7, .int (nI a)), (0, .ref (md 0)), (1, .int (nI j))]) hC.x hC.b d_GM_compare_271 hl (k := 3) rfl (nI_1 _) (by decide) rfl (fun ls hl => ?_)
                      refine lv_goto (pc := 274) (tgt := 128) hC.x hC.b d_GM_compare_274 (by decide) ?_
                      exact ih _ _ ls ⟨_, _, (lv_sub hl [0, 4, 5] rfl), hP, hD, hS, fun f g hf hg => ⟨Sel_next (hq f g hf hg).1 ht ha (key f g hf hg).1, Sel_next (hq f g hf hg).2.1 ht hb (key f g hf hg).2, fun i hi => if z : i = t then z ▸ ((key f g hf hg).1.symm.trans (c_229.trans (key f g hf hg).2)) else (hq f g hf hg).2.2 i (by omega)⟩⟩
                    refine lv_aload_n (pc := 233) hC.x hC.b d_GM_compare_233 rfl (lv_at hl 4 rfl) ?_
                    refine fg_GM_39 (pc := 234) hC hP 0 rfl rfl d_GM_compare_234 ?_
                    refine lv_iload (pc := 237) hC.x hC.b d_GM_compare_237 (lv_at hl 2 rfl) ?_
                    refine ald_l (pc := 239) hC hP 10 (a) rfl rfl (by omega) (by decide) d_GM_compare_239 ?_
                    refine lv_aload_n (pc := 240) hC.x hC.b d_GM_compare_240 rfl (lv_at hl 4 rfl) ?_
                    refine fg_GM_42 (pc := 241) hC hP 0 rfl rfl d_GM_compare_241 ?_
                    refine lv_iload (pc := 244) hC.x hC.b d_GM_compare_244 (lv_at hl 1 rfl) ?_
                    refine ald_l (pc := 246) hC hP 11 (b) rfl rfl (by omega) (by decide) d_GM_compare_246 ?_
                    refine k_GM_93_GM_way (pc := 247) hC hl.1 (Nat.le_of_ble_eq_true rfl) ⟨Nat.le_of_ble_eq_true rfl, Nat.le_of_ble_eq_true rfl⟩ ⟨Nat.zero_le _, Nat.zero_le _⟩ d_GM_compare_247 ?_
                    exact wr_i (pc := 250) hC hr hlk (by rw [hH]; exact hS) d_GM_compare_250 (Or.inr ⟨j, hj, rfl, fun f g hf hg => (by rw [hc1, cl_diff (t := t) (fun z => c_229 ((key f g hf hg).1.trans (z.trans (key f g hf hg).2.symm))) S.n 0 (Nat.zero_le _) (by omega) (fun i _ hi => (hq f g hf hg).2.2 i hi), (key f g hf hg).1, (key f g hf hg).2])⟩) hM
                  · exact absurd c_152 (Nat.lt_irrefl _)
                · intro k ls hj2 hI ih2
                  obtain ⟨a, b, hl, hv2⟩ := hI
                  obtain ⟨ha, hb, hma, htb⟩ := hv2
                  refine lv_iload (pc := 146) hC.x hC.b d_GM_compare_146 (lv_at hl 0 rfl) ?_
                  refine lv_aload_n (pc := 148) hC.x hC.b d_GM_compare_148 rfl (lv_at hl 4 rfl) ?_
                  refine k_GM_53_GM_count (pc := 149) hC hM hI hl.1 (Nat.le_of_ble_eq_true rfl) ⟨Nat.le_of_ble_eq_true rfl, Nat.le_of_ble_eq_true rfl⟩ ⟨Nat.zero_le _, Nat.zero_le _⟩ d_GM_compare_149 ?_
                  refine ni_ge (pc := 152) (tgt := 215) hC d_GM_compare_152 (by decide) (by omega) (by omega) (fun c_152 => ?_) (fun c_152 => ?_)
                  · exact absurd c_152 (by omega)
                  refine lv_aload_n (pc := 155) hC.x hC.b d_GM_compare_155 rfl (lv_at hl 4 rfl) ?_
                  refine fg_GM_39 (pc := 156) hC hP 0 rfl rfl d_GM_compare_156 ?_
                  refine lv_iload (pc := 159) hC.x hC.b d_GM_compare_159 (lv_at hl 0 rfl) ?_
                  refine ald_l (pc := 161) hC hP 10 (k) rfl rfl (by omega) (by decide) d_GM_compare_161 ?_
                  refine lv_aload_n (pc := 162) hC.x hC.b d_GM_compare_162 rfl (lv_at hl 4 rfl) ?_
                  refine fg_GM_39 (pc := 163) hC hP 0 rfl rfl d_GM_compare_163 ?_
                  refine lv_iload (pc := 166) hC.x hC.b d_GM_compare_166 (lv_at hl 2 rfl) ?_
                  refine ald_l (pc := 168) hC hP 10 (a) rfl rfl (by omega) (by decide) d_GM_compare_168 ?_
                  refine lc_le (pc := 169) (tgt := 178) hC d_GM_compare_169 d_GM_compare_170 (by decide) (fun c_169 => ?_) (fun c_169 => ?_)
                  · refine lv_iload (pc := 178) hC.x hC.b d_GM_compare_178 (lv_at hl 2 rfl) ?_
                    refine lv_istore (pc := 180) (lv' := [(7, .int (nI a)), (9, .int (nI k)), (8, .int (nI b)), (6, .int (nI t)), (0, .ref (md 0)), (1, .int (nI j))]) hC.x hC.b d_GM_compare_180 hl (by decide) rfl (fun ls hl => ?_)
                    refine lv_aload_n (pc := 182) hC.x hC.b d_GM_compare_182 rfl (lv_at hl 4 rfl) ?_
                    refine fg_GM_42 (pc := 183) hC hP 0 rfl rfl d_GM_compare_183 ?_
                    refine lv_iload (pc := 186) hC.x hC.b d_GM_compare_186 (lv_at hl 1 rfl) ?_
                    refine ald_l (pc := 188) hC hP 11 (k) rfl rfl (by omega) (by decide) d_GM_compare_188 ?_
                    refine lv_aload_n (pc := 189) hC.x hC.b d_GM_compare_189 rfl (lv_at hl 4 rfl) ?_
                    refine fg_GM_42 (pc := 190) hC hP 0 rfl rfl d_GM_compare_190 ?_
                    refine lv_iload (pc := 193) hC.x hC.b d_GM_compare_193 (lv_at hl 2 rfl) ?_
                    refine ald_l (pc := 195) hC hP 11 (b) rfl rfl (by omega) (by decide) d_GM_compare_195 ?_
                    refine lc_le (pc := 196) (tgt := 205) hC d_GM_compare_196 d_GM_compare_197 (by decide) (fun c_196 => ?_) (fun c_196 => ?_)
                    · refine lv_iload (pc := 205) hC.x hC.b d_GM_compare_205 (lv_at hl 2 rfl) ?_
                      refine lv_istore (pc := 207) (lv' := [(8, .int (nI b)), (7, .int (nI a)), (9, .int (nI k)), (6, .int (nI t)), (0, .ref (md 0)), (1, .int (nI j))]) hC.x hC.b d_GM_compare_207 hl (by decide) rfl (fun ls hl => ?_)
                      refine lv_iinc (pc := 209) (v := nI (k + 1)) (lv' := [(9, .int (nI (k + 1))), (8, .int (nI b)), (7, .int (nI a)), (6, .int (nI t)), (0, .ref (md 0)), (1, .int (nI j))]) hC.x hC.b d_GM_compare_209 hl (k := 2) rfl (nI_1 _) (by decide) rfl (fun ls hl => ?_)
                      refine lv_goto (pc := 212) (tgt := 146) hC.x hC.b d_GM_compare_212 (by decide) ?_
                      exact ih2 ls ⟨a, b, (lv_sub hl [0, 1, 2, 3, 4, 5] rfl), by omega, by omega, fun i hi => if z : i = k then z ▸ c_169 else hma i (by omega), fun i hi => if z : i = k then z ▸ c_196 else htb i (by omega)⟩
                    · refine lv_iload (pc := 200) hC.x hC.b d_GM_compare_200 (lv_at hl 1 rfl) ?_
                      refine lv_goto (pc := 202) (tgt := 207) hC.x hC.b d_GM_compare_202 (by decide) ?_
                      refine lv_istore (pc := 207) (lv' := [(8, .int (nI k)), (7, .int (nI a)), (9, .int (nI k)), (6, .int (nI t)), (0, .ref (md 0)), (1, .int (nI j))]) hC.x hC.b d_GM_compare_207 hl (by decide) rfl (fun ls hl => ?_)
                      refine lv_iinc (pc := 209) (v := nI (k + 1)) (lv' := [(9, .int (nI (k + 1))), (8, .int (nI k)), (7, .int (nI a)), (6, .int (nI t)), (0, .ref (md 0)), (1, .int (nI j))]) hC.x hC.b d_GM_compare_209 hl (k := 2) rfl (nI_1 _) (by decide) rfl (fun ls hl => ?_)
                      refine lv_goto (pc := 212) (tgt := 146) hC.x hC.b d_GM_compare_212 (by decide) ?_
                      exact ih2 ls ⟨a, k, (lv_sub hl [0, 1, 2, 3, 4, 5] rfl), by omega, by omega, fun i hi => if z : i = k then z ▸ c_169 else hma i (by omega), fun i hi => if z : i = k then z ▸ Int64.le_refl _ else Int64.le_trans (htb i (by omega)) (Int64.le_of_lt (Int64.not_le.mp c_196))⟩
                  · refine lv_iload (pc := 173) hC.x hC.b d_GM_compare_173 (lv_at hl 0 rfl) ?_
                    refine lv_goto (pc := 175) (tgt := 180) hC.x hC.b d_GM_compare_175 (by decide) ?_
                    refine lv_istore (pc := 180) (lv' := [(7, .int (nI k)), (9, .int (nI k)), (8, .int (nI b)), (6, .int (nI t)), (0, .ref (md 0)), (1, .int (nI j))]) hC.x hC.b d_GM_compare_180 hl (by decide) rfl (fun ls hl => ?_)
                    refine lv_aload_n (pc := 182) hC.x hC.b d_GM_compare_182 rfl (lv_at hl 4 rfl) ?_
                    refine fg_GM_42 (pc := 183) hC hP 0 rfl rfl d_GM_compare_183 ?_
                    refine lv_iload (pc := 186) hC.x hC.b d_GM_compare_186 (lv_at hl 1 rfl) ?_
                    refine ald_l (pc := 188) hC hP 11 (k) rfl rfl (by omega) (by decide) d_GM_compare_188 ?_
                    refine lv_aload_n (pc := 189) hC.x hC.b d_GM_compare_189 rfl (lv_at hl 4 rfl) ?_
                    refine fg_GM_42 (pc := 190) hC hP 0 rfl rfl d_GM_compare_190 ?_
                    refine lv_iload (pc := 193) hC.x hC.b d_GM_compare_193 (lv_at hl 2 rfl) ?_
                    refine ald_l (pc := 195) hC hP 11 (b) rfl rfl (by omega) (by decide) d_GM_compare_195 ?_
                    refine lc_le (pc := 196) (tgt := 205) hC d_GM_compare_196 d_GM_compare_197 (by decide) (fun c_196 => ?_) (fun c_196 => ?_)
                    · refine lv_iload (pc := 205) hC.x hC.b d_GM_compare_205 (lv_at hl 2 rfl) ?_
                      refine lv_istore (pc := 207) (lv' := [(8, .int (nI b)), (7, .int (nI k)), (9, .int (nI k)), (6, .int (nI t)), (0, .ref (md 0)), (1, .int (nI j))]) hC.x hC.b d_GM_compare_207 hl (by decide) rfl (fun ls hl => ?_)
                      refine lv_iinc (pc := 209) (v := nI (k + 1)) (lv' := [(9, .int (nI (k + 1))), (8, .int (nI b)), (7, .int (nI k)), (6, .int (nI t)), (0, .ref (md 0)), (1, .int (nI j))]) hC.x hC.b d_GM_compare_209 hl (k := 2) rfl (nI_1 _) (by decide) rfl (fun ls hl => ?_)
                      refine lv_goto (pc := 212) (tgt := 146) hC.x hC.b d_GM_compare_212 (by decide) ?_
                      exact ih2 ls ⟨k, b, (lv_sub hl [0, 1, 2, 3, 4, 5] rfl), by omega, by omega, fun i hi => if z : i = k then z ▸ Int64.le_refl _ else Int64.le_trans (hma i (by omega)) (Int64.le_of_lt (Int64.not_le.mp c_169)), fun i hi => if z : i = k then z ▸ c_196 else htb i (by omega)⟩
                    · refine lv_iload (pc := 200) hC.x hC.b d_GM_compare_200 (lv_at hl 1 rfl) ?_
                      refine lv_goto (pc := 202) (tgt := 207) hC.x hC.b d_GM_compare_202 (by decide) ?_
                      refine lv_istore (pc := 207) (lv' := [(8, .int (nI k)), (7, .int (nI k)), (9, .int (nI k)), (6, .int (nI t)), (0, .ref (md 0)), (1, .int (nI j))]) hC.x hC.b d_GM_compare_207 hl (by decide) rfl (fun ls hl => ?_)
                      refine lv_iinc (pc := 209) (v := nI (k + 1)) (lv' := [(9, .int (nI (k + 1))), (8, .int (nI k)), (7, .int (nI k)), (6, .int (nI t)), (0, .ref (md 0)), (1, .int (nI j))]) hC.x hC.b d_GM_compare_209 hl (k := 2) rfl (nI_1 _) (by decide) rfl (fun ls hl => ?_)
                      refine lv_goto (pc := 212) (tgt := 146) hC.x hC.b d_GM_compare_212 (by decide) ?_
                      exact ih2 ls ⟨k, k, (lv_sub hl [0, 1, 2, 3, 4, 5] rfl), by omega, by omega, fun i hi => if z : i = k then z ▸ Int64.le_refl _ else Int64.le_trans (hma i (by omega)) (Int64.le_of_lt (Int64.not_le.mp c_169)), fun i hi => if z : i = k then z ▸ Int64.le_refl _ else Int64.le_trans (htb i (by omega)) (Int64.le_of_lt (Int64.not_le.mp c_196))⟩
            · exact absurd c_87 (Nat.lt_irrefl _)
          · intro k H2 locs ls hk hI2 ih
            obtain ⟨m1, t1, hl, hP, hD, hS, hm1, ht1⟩ := hI2
            have hM : MW D dA A md S H2 := ⟨_, _, _, _, _, _, _, hP, hD, hR⟩
            refine lv_iload (pc := 81) hC.x hC.b d_GM_compare_81 (lv_at hl 0 rfl) ?_
            refine lv_aload_n (pc := 83) hC.x hC.b d_GM_compare_83 rfl (lv_at hl 1 rfl) ?_
            refine k_GM_53_GM_count (pc := 84) hC hM hI hl.1 (Nat.le_of_ble_eq_true rfl) ⟨Nat.le_of_ble_eq_true rfl, Nat.le_of_ble_eq_true rfl⟩ ⟨Nat.zero_le _, Nat.zero_le _⟩ d_GM_compare_84 ?_
            refine ni_ge (pc := 87) (tgt := 125) hC d_GM_compare_87 (by decide) (by omega) (by omega) (fun c_87 => ?_) (fun c_87 => ?_)
            · exact absurd c_87 (by omega)
            refine lv_aload_n (pc := 90) hC.x hC.b d_GM_compare_90 rfl (lv_at hl 1 rfl) ?_
            refine fg_GM_39 (pc := 91) hC hP 0 rfl rfl d_GM_compare_91 ?_
            refine lv_iload (pc := 94) hC.x hC.b d_GM_compare_94 (lv_at hl 0 rfl) ?_
            refine lv_aload_n (pc := 96) hC.x hC.b d_GM_compare_96 rfl (lv_at hl 1 rfl) ?_
            refine lv_bipush (pc := 97) (v := nI 10) hC.x hC.b d_GM_compare_97 (by decide) ?_
            refine lv_iload (pc := 99) hC.x hC.b d_GM_compare_99 (lv_at hl 0 rfl) ?_
            refine k_GM_68_GM_costOf (pc := 101) hC hM hI (RowOf.now S) (k := k) hk hl.1 (Nat.le_of_ble_eq_true rfl) ⟨Nat.le_of_ble_eq_true rfl, Nat.le_of_ble_eq_true rfl⟩ ⟨Nat.zero_le _, Nat.zero_le _⟩ d_GM_compare_101 ?_
            refine ast_l (pc := 104) hC hP hD hS 10 (k) rfl rfl (by omega) (by decide) d_GM_compare_104 (fun H3 locs hP hD hS => ?_)
            have hM : MW D dA A md S H3 := ⟨_, _, _, _, _, _, _, hP, hD, hR⟩
            refine lv_aload_n (pc := 105) hC.x hC.b d_GM_compare_105 rfl (lv_at hl 1 rfl) ?_
            refine fg_GM_42 (pc := 106) hC hP 0 rfl rfl d_GM_compare_106 ?_
            refine lv_iload (pc := 109) hC.x hC.b d_GM_compare_109 (lv_at hl 0 rfl) ?_
            refine lv_aload_n (pc := 111) hC.x hC.b d_GM_compare_111 rfl (lv_at hl 1 rfl) ?_
            refine lv_iload_n (pc := 112) hC.x hC.b d_GM_compare_112 rfl (lv_at hl 2 rfl) ?_
            refine lv_iload (pc := 113) hC.x hC.b d_GM_compare_113 (lv_at hl 0 rfl) ?_
            refine k_GM_68_GM_costOf (pc := 115) hC hM hI (RowOf.kept hj) (k := k) (by omega) hl.1 (Nat.le_of_ble_eq_true rfl) ⟨Nat.le_of_ble_eq_true rfl, Nat.le_of_ble_eq_true rfl⟩ ⟨Nat.zero_le _, Nat.zero_le _⟩ d_GM_compare_115 ?_
            refine ast_l (pc := 118) hC hP hD hS 11 (k) rfl rfl (by omega) (by decide) d_GM_compare_118 (fun H4 locs hP hD hS => ?_)
            refine lv_iinc (pc := 119) (v := nI (k + 1)) (lv' := [(6, .int (nI (k + 1))), (0, .ref (md 0)), (1, .int (nI j))]) hC.x hC.b d_GM_compare_119 hl (k := 0) rfl (nI_1 _) (by decide) rfl (fun ls hl => ?_)
            refine lv_goto (pc := 122) (tgt := 81) hC.x hC.b d_GM_compare_122 (by decide) ?_
            exact ih _ _ ls ⟨_, _, (lv_sub hl [0, 1, 2] rfl), hP, hD, hS, fun i hi => if z : i = k then by rw [z, uL_s] else by rw [uL_n z]; exact hm1 i (by omega), fun i hi => if z : i = k then by rw [z, uL_s] else by rw [uL_n z]; exact ht1 i (by omega)⟩
        refine lv_aload_n (pc := 62) hC.x hC.b d_GM_compare_62 rfl (lv_at hl 2 rfl) ?_
        refine k_GM_53_GM_count (pc := 63) hC hM hI hl.1 (Nat.le_of_ble_eq_true rfl) ⟨Nat.le_of_ble_eq_true rfl, Nat.le_of_ble_eq_true rfl⟩ ⟨Nat.zero_le _, Nat.zero_le _⟩ d_GM_compare_63 ?_
        refine lv_i2l (pc := 66) hC.x hC.b d_GM_compare_66 rfl ?_
        refine lv_aload_n (pc := 67) hC.x hC.b d_GM_compare_67 rfl (lv_at hl 2 rfl) ?_
        refine fg_GM_16 (pc := 68) hC hP 0 rfl rfl d_GM_compare_68 ?_
        refine lv_iload_n (pc := 71) hC.x hC.b d_GM_compare_71 rfl (lv_at hl 3 rfl) ?_
        refine ald_i (pc := 72) hC hP 3 (j) rfl rfl (by omega) (by decide) d_GM_compare_72 ?_
        refine tp_i (y := nI (S.ks j)) (hR.2.2 j hj).1 ?_
        refine lv_i2l (pc := 73) hC.x hC.b d_GM_compare_73 rfl ?_
        refine k_GM_93_GM_way (pc := 74) hC hl.1 (Nat.le_of_ble_eq_true rfl) ⟨Nat.le_of_ble_eq_true rfl, Nat.le_of_ble_eq_true rfl⟩ ⟨Nat.zero_le _, Nat.zero_le _⟩ d_GM_compare_74 ?_
        exact wr_i (pc := 77) hC hr hlk (by rw [hH]; exact hS) d_GM_compare_77 (Or.inr ⟨j, hj, rfl, fun f g hf hg => (by unfold cm1; rw [if_pos (by rw [c_38]; exact l3_self _), cl_ne (i3_ne c_59)]; exact l3_nat (by omega) (by omega))⟩) hM
      refine lv_lload_n (pc := 42) hC.x hC.b d_GM_compare_42 rfl (lv_at hl 1 rfl) ?_
      refine lv_lload (pc := 43) hC.x hC.b d_GM_compare_43 (lv_at hl 0 rfl) ?_
      refine k_GM_93_GM_way (pc := 45) hC hl.1 (Nat.le_of_ble_eq_true rfl) ⟨Nat.le_of_ble_eq_true rfl, Nat.le_of_ble_eq_true rfl⟩ ⟨Nat.zero_le _, Nat.zero_le _⟩ d_GM_compare_45 ?_
      exact wr_i (pc := 48) hC hr hlk (by rw [hH]; exact hS) d_GM_compare_48 (Or.inr ⟨j, hj, rfl, fun f g hf hg => (by unfold cm1; rw [if_neg (l3_ne c_38), cl_ne (l3_ne c_38)])⟩) hM
    · exact absurd c_14 (by omega)
end GMWR
end
section
section GMINIT
variable {p : Program} {e : Env} {R : Room} {s : State} {m : MethodId} {args : Array Value} {below : List Frame} {meth : Method} {c : Code} {locs : List Loc} {cells slots : Nat} {Q : State → Prop}
variable {cc : ByteArray} {pc nL : Nat} {ls : Array Slot} {rest : List Value} {own : String} {l : Launch} {D : va_G} {dA : Nat → ClassId} {A : Nat → Prop} {H H0 : Heap} {S : St} {ad md : Nat → Nat}
set_option maxHeartbeats 4000000 in
set_option maxRecDepth 100000 in
theorem c_GM_init (l : Launch) {A : Nat → Prop} {D : va_G} {dA : Nat → ClassId} {H : Heap} {a : Nat} (hP : va_P D classes [(a, .inr (4, [.int 0, .int 0, .null, .null, .null, .null, .null, .null, .int 0, .int 0, .null, .null, .int 0, .null, .null, .null]))] H) (hD : va_D A [(a, .inr (4, [.int 0, .int 0, .null, .null, .null, .null, .null, .null, .int 0, .int 0, .null, .null, .int 0, .null, .null, .null]))]) (hA : ∀ q, H.size ≤ q → A q) : Met l y_GM_init (wd y_GM_init b_GM_init 1 none) ({ frames := 1, cells := 11, slots := 7387, locals := 12 } : Room) (va_Pc [.ref a] (PX D dA H)) (QV (fun H1 => ∃ md : Nat → Nat, md 0 = a ∧ MW D dA A md S0 H1) A) 11 7387 A := by
  refine mkMet (by decide) (Nat.le_of_ble_eq_true rfl) ?_
  intro p e s m below meth c ls hC hr hlk hnm hl hH
  have hl : lv_has ls 1 [(0, .ref a)] := hl
  have hS : va_S A H H [] := va_S.rf
  refine lv_aload_n (pc := 0) hC.x hC.b d_GM_init_0 rfl (lv_at hl 0 rfl) ?_
  refine obj0 (pc := 1) hC tw_292 hl.1 d_GM_init_1 (Nat.le_of_ble_eq_true rfl) (Nat.le_of_ble_eq_true rfl) ?_
  refine lv_aload_n (pc := 4) hC.x hC.b d_GM_init_4 rfl (lv_at hl 0 rfl) ?_
  refine lv_bipush (pc := 5) (v := nI 40) hC.x hC.b d_GM_init_5 (by decide) ?_
  refine newa_i (pc := 7) hC hP hD hS hA (by decide) (Nat.le_of_ble_eq_true rfl) (Nat.le_of_ble_eq_true rfl) d_GM_init_7 (fun q1 K0 hP hD hS => ?_)
  have hP : va_P D classes [(a, .inr (4, [.int 0, .int 0, .null, .null, .null, .null, .null, .null, .int 0, .int 0, .null, .null, .int 0, .null, .null, .null])), (q1, .inl (dA 0, 40, .inl (fun _ => 0)))] K0 := hP
  have hD : va_D A [(a, .inr (4, [.int 0, .int 0, .null, .null, .null, .null, .null, .null, .int 0, .int 0, .null, .null, .int 0, .null, .null, .null])), (q1, .inl (dA 0, 40, .inl (fun _ => 0)))] := hD
  refine W.widen (k := 1) (n := 40) (by decide) (by decide) ?_
  refine fp_GM_7 (pc := 9) hC hnm hP hD hS 0 rfl (Nat.le_of_ble_eq_true rfl) d_GM_init_9 (fun H1 locs hP hD hS => ?_)
  have hP : va_P D classes [(a, .inr (4, [.int 0, .int 0, .ref q1, .null, .null, .null, .null, .null, .int 0, .int 0, .null, .null, .int 0, .null, .null, .null])), (q1, .inl (dA 0, 40, .inl (fun _ => 0)))] H1 := hP
  have hD : va_D A [(a, .inr (4, [.int 0, .int 0, .ref q1, .null, .null, .null, .null, .null, .int 0, .int 0, .null, .null, .int 0, .null, .null, .null])), (q1, .inl (dA 0, 40, .inl (fun _ => 0)))] := hD
  refine lv_aload_n (pc := 12) hC.x hC.b d_GM_init_12 rfl (lv_at hl 0 rfl) ?_
  refine lv_bipush (pc := 13) (v := nI 40) hC.x hC.b d_GM_init_13 (by decide) ?_
  refine newa_i (pc := 15) hC hP hD hS hA (by decide) (Nat.le_of_ble_eq_true rfl) (Nat.le_of_ble_eq_true rfl) d_GM_init_15 (fun q2 K1 hP hD hS => ?_)
  have hP : va_P D classes [(a, .inr (4, [.int 0, .int 0, .ref q1, .null, .null, .null, .null, .null, .int 0, .int 0, .null, .null, .int 0, .null, .null, .null])), (q1, .inl (dA 0, 40, .inl (fun _ => 0))), (q2, .inl (dA 0, 40, .inl (fun _ => 0)))] K1 := hP
  have hD : va_D A [(a, .inr (4, [.int 0, .int 0, .ref q1, .null, .null, .null, .null, .null, .int 0, .int 0, .null, .null, .int 0, .null, .null, .null])), (q1, .inl (dA 0, 40, .inl (fun _ => 0))), (q2, .inl (dA 0, 40, .inl (fun _ => 0)))] := hD
  refine W.widen (k := 2) (n := 80) (by decide) (by decide) ?_
  refine fp_GM_13 (pc := 17) hC hnm hP hD hS 0 rfl (Nat.le_of_ble_eq_true rfl) d_GM_init_17 (fun H2 locs hP hD hS => ?_)
  have hP : va_P D classes [(a, .inr (4, [.int 0, .int 0, .ref q1, .ref q2, .null, .null, .null, .null, .int 0, .int 0, .null, .null, .int 0, .null, .null, .null])), (q1, .inl (dA 0, 40, .inl (fun _ => 0))), (q2, .inl (dA 0, 40, .inl (fun _ => 0)))] H2 := hP
  have hD : va_D A [(a, .inr (4, [.int 0, .int 0, .ref q1, .ref q2, .null, .null, .null, .null, .int 0, .int 0, .null, .null, .int 0, .null, .null, .null])), (q1, .inl (dA 0, 40, .inl (fun _ => 0))), (q2, .inl (dA 0, 40, .inl (fun _ => 0)))] := hD
  refine lv_aload_n (pc := 20) hC.x hC.b d_GM_init_20 rfl (lv_at hl 0 rfl) ?_
  refine lv_bipush (pc := 21) (v := nI 11) hC.x hC.b d_GM_init_21 (by decide) ?_
  refine newa_i (pc := 23) hC hP hD hS hA (by decide) (Nat.le_of_ble_eq_true rfl) (Nat.le_of_ble_eq_true rfl) d_GM_init_23 (fun q3 K2 hP hD hS => ?_)
  have hP : va_P D classes [(a, .inr (4, [.int 0, .int 0, .ref q1, .ref q2, .null, .null, .null, .null, .int 0, .int 0, .null, .null, .int 0, .null, .null, .null])), (q1, .inl (dA 0, 40, .inl (fun _ => 0))), (q2, .inl (dA 0, 40, .inl (fun _ => 0))), (q3, .inl (dA 0, 11, .inl (fun _ => 0)))] K2 := hP
  have hD : va_D A [(a, .inr (4, [.int 0, .int 0, .ref q1, .ref q2, .null, .null, .null, .null, .int 0, .int 0, .null, .null, .int 0, .null, .null, .null])), (q1, .inl (dA 0, 40, .inl (fun _ => 0))), (q2, .inl (dA 0, 40, .inl (fun _ => 0))), (q3, .inl (dA 0, 11, .inl (fun _ => 0)))] := hD
  refine W.widen (k := 3) (n := 91) (by decide) (by decide) ?_
  refine fp_GM_16 (pc := 25) hC hnm hP hD hS 0 rfl (Nat.le_of_ble_eq_true rfl) d_GM_init_25 (fun H3 locs hP hD hS => ?_)
  have hP : va_P D classes [(a, .inr (4, [.int 0, .int 0, .ref q1, .ref q2, .ref q3, .null, .null, .null, .int 0, .int 0, .null, .null, .int 0, .null, .null, .null])), (q1, .inl (dA 0, 40, .inl (fun _ => 0))), (q2, .inl (dA 0, 40, .inl (fun _ => 0))), (q3, .inl (dA 0, 11, .inl (fun _ => 0)))] H3 := hP
  have hD : va_D A [(a, .inr (4, [.int 0, .int 0, .ref q1, .ref q2, .ref q3, .null, .null, .null, .int 0, .int 0, .null, .null, .int 0, .null, .null, .null])), (q1, .inl (dA 0, 40, .inl (fun _ => 0))), (q2, .inl (dA 0, 40, .inl (fun _ => 0))), (q3, .inl (dA 0, 11, .inl (fun _ => 0)))] := hD
  refine lv_aload_n (pc := 28) hC.x hC.b d_GM_init_28 rfl (lv_at hl 0 rfl) ?_
  refine lv_sipush (pc := 29) (v := nI 2200) hC.x hC.b d_GM_init_29 (by decide) ?_
  refine newa_i (pc := 32) hC hP hD hS hA (by decide) (Nat.le_of_ble_eq_true rfl) (Nat.le_of_ble_eq_true rfl) d_GM_init_32 (fun q4 K3 hP hD hS => ?_)
  have hP : va_P D classes [(a, .inr (4, [.int 0, .int 0, .ref q1, .ref q2, .ref q3, .null, .null, .null, .int 0, .int 0, .null, .null, .int 0, .null, .null, .null])), (q1, .inl (dA 0, 40, .inl (fun _ => 0))), (q2, .inl (dA 0, 40, .inl (fun _ => 0))), (q3, .inl (dA 0, 11, .inl (fun _ => 0))), (q4, .inl (dA 0, 2200, .inl (fun _ => 0)))] K3 := hP
  have hD : va_D A [(a, .inr (4, [.int 0, .int 0, .ref q1, .ref q2, .ref q3, .null, .null, .null, .int 0, .int 0, .null, .null, .int 0, .null, .null, .null])), (q1, .inl (dA 0, 40, .inl (fun _ => 0))), (q2, .inl (dA 0, 40, .inl (fun _ => 0))), (q3, .inl (dA 0, 11, .inl (fun _ => 0))), (q4, .inl (dA 0, 2200, .inl (fun _ => 0)))] := hD
  refine W.widen (k := 4) (n := 2291) (by decide) (by decide) ?_
  refine fp_GM_19 (pc := 34) hC hnm hP hD hS 0 rfl (Nat.le_of_ble_eq_true rfl) d_GM_init_34 (fun H4 locs hP hD hS => ?_)
  have hP : va_P D classes [(a, .inr (4, [.int 0, .int 0, .ref q1, .ref q2, .ref q3, .ref q4, .null, .null, .int 0, .int 0, .null, .null, .int 0, .null, .null, .null])), (q1, .inl (dA 0, 40, .inl (fun _ => 0))), (q2, .inl (dA 0, 40, .inl (fun _ => 0))), (q3, .inl (dA 0, 11, .inl (fun _ => 0))), (q4, .inl (dA 0, 2200, .inl (fun _ => 0)))] H4 := hP
  have hD : va_D A [(a, .inr (4, [.int 0, .int 0, .ref q1, .ref q2, .ref q3, .ref q4, .null, .null, .int 0, .int 0, .null, .null, .int 0, .null, .null, .null])), (q1, .inl (dA 0, 40, .inl (fun _ => 0))), (q2, .inl (dA 0, 40, .inl (fun _ => 0))), (q3, .inl (dA 0, 11, .inl (fun _ => 0))), (q4, .inl (dA 0, 2200, .inl (fun _ => 0)))] := hD
  refine lv_aload_n (pc := 37) hC.x hC.b d_GM_init_37 rfl (lv_at hl 0 rfl) ?_
  refine lv_sipush (pc := 38) (v := nI 2200) hC.x hC.b d_GM_init_38 (by decide) ?_
  refine newa_i (pc := 41) hC hP hD hS hA (by decide) (Nat.le_of_ble_eq_true rfl) (Nat.le_of_ble_eq_true rfl) d_GM_init_41 (fun q5 K4 hP hD hS => ?_)
  have hP : va_P D classes [(a, .inr (4, [.int 0, .int 0, .ref q1, .ref q2, .ref q3, .ref q4, .null, .null, .int 0, .int 0, .null, .null, .int 0, .null, .null, .null])), (q1, .inl (dA 0, 40, .inl (fun _ => 0))), (q2, .inl (dA 0, 40, .inl (fun _ => 0))), (q3, .inl (dA 0, 11, .inl (fun _ => 0))), (q4, .inl (dA 0, 2200, .inl (fun _ => 0))), (q5, .inl (dA 0, 2200, .inl (fun _ => 0)))] K4 := hP
  have hD : va_D A [(a, .inr (4, [.int 0, .int 0, .ref q1, .ref q2, .ref q3, .ref q4, .null, .null, .int 0, .int 0, .null, .null, .int 0, .null, .null, .null])), (q1, .inl (dA 0, 40, .inl (fun _ => 0))), (q2, .inl (dA 0, 40, .inl (fun _ => 0))), (q3, .inl (dA 0, 11, .inl (fun _ => 0))), (q4, .inl (dA 0, 2200, .inl (fun _ => 0))), (q5, .inl (dA 0, 2200, .inl (fun _ => 0)))] := hD
  refine W.widen (k := 5) (n := 4491) (by decide) (by decide) ?_
  refine fp_GM_22 (pc := 43) hC hnm hP hD hS 0 rfl (Nat.le_of_ble_eq_true rfl) d_GM_init_43 (fun H5 locs hP hD hS => ?_)
  have hP : va_P D classes [(a, .inr (4, [.int 0, .int 0, .ref q1, .ref q2, .ref q3, .ref q4, .ref q5, .null, .int 0, .int 0, .null, .null, .int 0, .null, .null, .null])), (q1, .inl (dA 0, 40, .inl (fun _ => 0))), (q2, .inl (dA 0, 40, .inl (fun _ => 0))), (q3, .inl (dA 0, 11, .inl (fun _ => 0))), (q4, .inl (dA 0, 2200, .inl (fun _ => 0))), (q5, .inl (dA 0, 2200, .inl (fun _ => 0)))] H5 := hP
  have hD : va_D A [(a, .inr (4, [.int 0, .int 0, .ref q1, .ref q2, .ref q3, .ref q4, .ref q5, .null, .int 0, .int 0, .null, .null, .int 0, .null, .null, .null])), (q1, .inl (dA 0, 40, .inl (fun _ => 0))), (q2, .inl (dA 0, 40, .inl (fun _ => 0))), (q3, .inl (dA 0, 11, .inl (fun _ => 0))), (q4, .inl (dA 0, 2200, .inl (fun _ => 0))), (q5, .inl (dA 0, 2200, .inl (fun _ => 0)))] := hD
  refine lv_aload_n (pc := 46) hC.x hC.b d_GM_init_46 rfl (lv_at hl 0 rfl) ?_
  refine lv_sipush (pc := 47) (v := nI 2200) hC.x hC.b d_GM_init_47 (by decide) ?_
  refine newa_i (pc := 50) hC hP hD hS hA (by decide) (Nat.le_of_ble_eq_true rfl) (Nat.le_of_ble_eq_true rfl) d_GM_init_50 (fun q6 K5 hP hD hS => ?_)
  have hP : va_P D classes [(a, .inr (4, [.int 0, .int 0, .ref q1, .ref q2, .ref q3, .ref q4, .ref q5, .null, .int 0, .int 0, .null, .null, .int 0, .null, .null, .null])), (q1, .inl (dA 0, 40, .inl (fun _ => 0))), (q2, .inl (dA 0, 40, .inl (fun _ => 0))), (q3, .inl (dA 0, 11, .inl (fun _ => 0))), (q4, .inl (dA 0, 2200, .inl (fun _ => 0))), (q5, .inl (dA 0, 2200, .inl (fun _ => 0))), (q6, .inl (dA 0, 2200, .inl (fun _ => 0)))] K5 := hP
  have hD : va_D A [(a, .inr (4, [.int 0, .int 0, .ref q1, .ref q2, .ref q3, .ref q4, .ref q5, .null, .int 0, .int 0, .null, .null, .int 0, .null, .null, .null])), (q1, .inl (dA 0, 40, .inl (fun _ => 0))), (q2, .inl (dA 0, 40, .inl (fun _ => 0))), (q3, .inl (dA 0, 11, .inl (fun _ => 0))), (q4, .inl (dA 0, 2200, .inl (fun _ => 0))), (q5, .inl (dA 0, 2200, .inl (fun _ => 0))), (q6, .inl (dA 0, 2200, .inl (fun _ => 0)))] := hD
  refine W.widen (k := 6) (n := 6691) (by decide) (by decide) ?_
  refine fp_GM_25 (pc := 52) hC hnm hP hD hS 0 rfl (Nat.le_of_ble_eq_true rfl) d_GM_init_52 (fun H6 locs hP hD hS => ?_)
  have hP : va_P D classes [(a, .inr (4, [.int 0, .int 0, .ref q1, .ref q2, .ref q3, .ref q4, .ref q5, .ref q6, .int 0, .int 0, .null, .null, .int 0, .null, .null, .null])), (q1, .inl (dA 0, 40, .inl (fun _ => 0))), (q2, .inl (dA 0, 40, .inl (fun _ => 0))), (q3, .inl (dA 0, 11, .inl (fun _ => 0))), (q4, .inl (dA 0, 2200, .inl (fun _ => 0))), (q5, .inl (dA 0, 2200, .inl (fun _ => 0))), (q6, .inl (dA 0, 2200, .inl (fun _ => 0)))] H6 := hP
  have hD : va_D A [(a, .inr (4, [.int 0, .int 0, .ref q1, .ref q2, .ref q3, .ref q4, .ref q5, .ref q6, .int 0, .int 0, .null, .null, .int 0, .null, .null, .null])), (q1, .inl (dA 0, 40, .inl (fun _ => 0))), (q2, .inl (dA 0, 40, .inl (fun _ => 0))), (q3, .inl (dA 0, 11, .inl (fun _ => 0))), (q4, .inl (dA 0, 2200, .inl (fun _ => 0))), (q5, .inl (dA 0, 2200, .inl (fun _ => 0))), (q6, .inl (dA 0, 2200, .inl (fun _ => 0)))] := hD
  refine lv_aload_n (pc := 55) hC.x hC.b d_GM_init_55 rfl (lv_at hl 0 rfl) ?_
  refine lv_bipush (pc := 56) (v := nI 20) hC.x hC.b d_GM_init_56 (by decide) ?_
  refine newa_l (pc := 58) hC hP hD hS hA (by decide) (Nat.le_of_ble_eq_true rfl) (Nat.le_of_ble_eq_true rfl) d_GM_init_58 (fun q7 K6 hP hD hS => ?_)
  have hP : va_P D classes [(a, .inr (4, [.int 0, .int 0, .ref q1, .ref q2, .ref q3, .ref q4, .ref q5, .ref q6, .int 0, .int 0, .null, .null, .int 0, .null, .null, .null])), (q1, .inl (dA 0, 40, .inl (fun _ => 0))), (q2, .inl (dA 0, 40, .inl (fun _ => 0))), (q3, .inl (dA 0, 11, .inl (fun _ => 0))), (q4, .inl (dA 0, 2200, .inl (fun _ => 0))), (q5, .inl (dA 0, 2200, .inl (fun _ => 0))), (q6, .inl (dA 0, 2200, .inl (fun _ => 0))), (q7, .inl (dA 1, 20, .inr (.inl (fun _ => 0))))] K6 := hP
  have hD : va_D A [(a, .inr (4, [.int 0, .int 0, .ref q1, .ref q2, .ref q3, .ref q4, .ref q5, .ref q6, .int 0, .int 0, .null, .null, .int 0, .null, .null, .null])), (q1, .inl (dA 0, 40, .inl (fun _ => 0))), (q2, .inl (dA 0, 40, .inl (fun _ => 0))), (q3, .inl (dA 0, 11, .inl (fun _ => 0))), (q4, .inl (dA 0, 2200, .inl (fun _ => 0))), (q5, .inl (dA 0, 2200, .inl (fun _ => 0))), (q6, .inl (dA 0, 2200, .inl (fun _ => 0))), (q7, .inl (dA 1, 20, .inr (.inl (fun _ => 0))))] := hD
  refine W.widen (k := 7) (n := 6711) (by decide) (by decide) ?_
  refine fp_GM_28 (pc := 60) hC hnm hP hD hS 0 rfl (Nat.le_of_ble_eq_true rfl) d_GM_init_60 (fun H7 locs hP hD hS => ?_)
  have hP : va_P D classes [(a, .inr (4, [.int 0, .int 0, .ref q1, .ref q2, .ref q3, .ref q4, .ref q5, .ref q6, .int 0, .int 0, .ref q7, .null, .int 0, .null, .null, .null])), (q1, .inl (dA 0, 40, .inl (fun _ => 0))), (q2, .inl (dA 0, 40, .inl (fun _ => 0))), (q3, .inl (dA 0, 11, .inl (fun _ => 0))), (q4, .inl (dA 0, 2200, .inl (fun _ => 0))), (q5, .inl (dA 0, 2200, .inl (fun _ => 0))), (q6, .inl (dA 0, 2200, .inl (fun _ => 0))), (q7, .inl (dA 1, 20, .inr (.inl (fun _ => 0))))] H7 := hP
  have hD : va_D A [(a, .inr (4, [.int 0, .int 0, .ref q1, .ref q2, .ref q3, .ref q4, .ref q5, .ref q6, .int 0, .int 0, .ref q7, .null, .int 0, .null, .null, .null])), (q1, .inl (dA 0, 40, .inl (fun _ => 0))), (q2, .inl (dA 0, 40, .inl (fun _ => 0))), (q3, .inl (dA 0, 11, .inl (fun _ => 0))), (q4, .inl (dA 0, 2200, .inl (fun _ => 0))), (q5, .inl (dA 0, 2200, .inl (fun _ => 0))), (q6, .inl (dA 0, 2200, .inl (fun _ => 0))), (q7, .inl (dA 1, 20, .inr (.inl (fun _ => 0))))] := hD
  refine lv_aload_n (pc := 63) hC.x hC.b d_GM_init_63 rfl (lv_at hl 0 rfl) ?_
  refine lv_bipush (pc := 64) (v := nI 20) hC.x hC.b d_GM_init_64 (by decide) ?_
  refine newa_l (pc := 66) hC hP hD hS hA (by decide) (Nat.le_of_ble_eq_true rfl) (Nat.le_of_ble_eq_true rfl) d_GM_init_66 (fun q8 K7 hP hD hS => ?_)
  have hP : va_P D classes [(a, .inr (4, [.int 0, .int 0, .ref q1, .ref q2, .ref q3, .ref q4, .ref q5, .ref q6, .int 0, .int 0, .ref q7, .null, .int 0, .null, .null, .null])), (q1, .inl (dA 0, 40, .inl (fun _ => 0))), (q2, .inl (dA 0, 40, .inl (fun _ => 0))), (q3, .inl (dA 0, 11, .inl (fun _ => 0))), (q4, .inl (dA 0, 2200, .inl (fun _ => 0))), (q5, .inl (dA 0, 2200, .inl (fun _ => 0))), (q6, .inl (dA 0, 2200, .inl (fun _ => 0))), (q7, .inl (dA 1, 20, .inr (.inl (fun _ => 0)))), (q8, .inl (dA 1, 20, .inr (.inl (fun _ => 0))))] K7 := hP
  have hD : va_D A [(a, .inr (4, [.int 0, .int 0, .ref q1, .ref q2, .ref q3, .ref q4, .ref q5, .ref q6, .int 0, .int 0, .ref q7, .null, .int 0, .null, .null, .null])), (q1, .inl (dA 0, 40, .inl (fun _ => 0))), (q2, .inl (dA 0, 40, .inl (fun _ => 0))), (q3, .inl (dA 0, 11, .inl (fun _ => 0))), (q4, .inl (dA 0, 2200, .inl (fun _ => 0))), (q5, .inl (dA 0, 2200, .inl (fun _ => 0))), (q6, .inl (dA 0, 2200, .inl (fun _ => 0))), (q7, .inl (dA 1, 20, .inr (.inl (fun _ => 0)))), (q8, .inl (dA 1, 20, .inr (.inl (fun _ => 0))))] := hD
  refine W.widen (k := 8) (n := 6731) (by decide) (by decide) ?_
  refine fp_GM_32 (pc := 68) hC hnm hP hD hS 0 rfl (Nat.le_of_ble_eq_true rfl) d_GM_init_68 (fun H8 locs hP hD hS => ?_)
  have hP : va_P D classes [(a, .inr (4, [.int 0, .int 0, .ref q1, .ref q2, .ref q3, .ref q4, .ref q5, .ref q6, .int 0, .int 0, .ref q7, .ref q8, .int 0, .null, .null, .null])), (q1, .inl (dA 0, 40, .inl (fun _ => 0))), (q2, .inl (dA 0, 40, .inl (fun _ => 0))), (q3, .inl (dA 0, 11, .inl (fun _ => 0))), (q4, .inl (dA 0, 2200, .inl (fun _ => 0))), (q5, .inl (dA 0, 2200, .inl (fun _ => 0))), (q6, .inl (dA 0, 2200, .inl (fun _ => 0))), (q7, .inl (dA 1, 20, .inr (.inl (fun _ => 0)))), (q8, .inl (dA 1, 20, .inr (.inl (fun _ => 0))))] H8 := hP
  have hD : va_D A [(a, .inr (4, [.int 0, .int 0, .ref q1, .ref q2, .ref q3, .ref q4, .ref q5, .ref q6, .int 0, .int 0, .ref q7, .ref q8, .int 0, .null, .null, .null])), (q1, .inl (dA 0, 40, .inl (fun _ => 0))), (q2, .inl (dA 0, 40, .inl (fun _ => 0))), (q3, .inl (dA 0, 11, .inl (fun _ => 0))), (q4, .inl (dA 0, 2200, .inl (fun _ => 0))), (q5, .inl (dA 0, 2200, .inl (fun _ => 0))), (q6, .inl (dA 0, 2200, .inl (fun _ => 0))), (q7, .inl (dA 1, 20, .inr (.inl (fun _ => 0)))), (q8, .inl (dA 1, 20, .inr (.inl (fun _ => 0))))] := hD
  refine lv_aload_n (pc := 71) hC.x hC.b d_GM_init_71 rfl (lv_at hl 0 rfl) ?_
  refine lv_sipush (pc := 72) (v := nI 256) hC.x hC.b d_GM_init_72 (by decide) ?_
  refine newa_z (pc := 75) hC hP hD hS hA (by decide) (Nat.le_of_ble_eq_true rfl) (Nat.le_of_ble_eq_true rfl) d_GM_init_75 (fun q9 K8 hP hD hS => ?_)
  have hP : va_P D classes [(a, .inr (4, [.int 0, .int 0, .ref q1, .ref q2, .ref q3, .ref q4, .ref q5, .ref q6, .int 0, .int 0, .ref q7, .ref q8, .int 0, .null, .null, .null])), (q1, .inl (dA 0, 40, .inl (fun _ => 0))), (q2, .inl (dA 0, 40, .inl (fun _ => 0))), (q3, .inl (dA 0, 11, .inl (fun _ => 0))), (q4, .inl (dA 0, 2200, .inl (fun _ => 0))), (q5, .inl (dA 0, 2200, .inl (fun _ => 0))), (q6, .inl (dA 0, 2200, .inl (fun _ => 0))), (q7, .inl (dA 1, 20, .inr (.inl (fun _ => 0)))), (q8, .inl (dA 1, 20, .inr (.inl (fun _ => 0)))), (q9, .inl (dA 2, 256, .inl (fun _ => 0)))] K8 := hP
  have hD : va_D A [(a, .inr (4, [.int 0, .int 0, .ref q1, .ref q2, .ref q3, .ref q4, .ref q5, .ref q6, .int 0, .int 0, .ref q7, .ref q8, .int 0, .null, .null, .null])), (q1, .inl (dA 0, 40, .inl (fun _ => 0))), (q2, .inl (dA 0, 40, .inl (fun _ => 0))), (q3, .inl (dA 0, 11, .inl (fun _ => 0))), (q4, .inl (dA 0, 2200, .inl (fun _ => 0))), (q5, .inl (dA 0, 2200, .inl (fun _ => 0))), (q6, .inl (dA 0, 2200, .inl (fun _ => 0))), (q7, .inl (dA 1, 20, .inr (.inl (fun _ => 0)))), (q8, .inl (dA 1, 20, .inr (.inl (fun _ => 0)))), (q9, .inl (dA 2, 256, .inl (fun _ => 0)))] := hD
  refine W.widen (k := 9) (n := 6987) (by decide) (by decide) ?_
  refine fp_GM_35 (pc := 77) hC hnm hP hD hS 0 rfl (Nat.le_of_ble_eq_true rfl) d_GM_init_77 (fun H9 locs hP hD hS => ?_)
  have hP : va_P D classes [(a, .inr (4, [.int 0, .int 0, .ref q1, .ref q2, .ref q3, .ref q4, .ref q5, .ref q6, .int 0, .int 0, .ref q7, .ref q8, .int 0, .ref q9, .null, .null])), (q1, .inl (dA 0, 40, .inl (fun _ => 0))), (q2, .inl (dA 0, 40, .inl (fun _ => 0))), (q3, .inl (dA 0, 11, .inl (fun _ => 0))), (q4, .inl (dA 0, 2200, .inl (fun _ => 0))), (q5, .inl (dA 0, 2200, .inl (fun _ => 0))), (q6, .inl (dA 0, 2200, .inl (fun _ => 0))), (q7, .inl (dA 1, 20, .inr (.inl (fun _ => 0)))), (q8, .inl (dA 1, 20, .inr (.inl (fun _ => 0)))), (q9, .inl (dA 2, 256, .inl (fun _ => 0)))] H9 := hP
  have hD : va_D A [(a, .inr (4, [.int 0, .int 0, .ref q1, .ref q2, .ref q3, .ref q4, .ref q5, .ref q6, .int 0, .int 0, .ref q7, .ref q8, .int 0, .ref q9, .null, .null])), (q1, .inl (dA 0, 40, .inl (fun _ => 0))), (q2, .inl (dA 0, 40, .inl (fun _ => 0))), (q3, .inl (dA 0, 11, .inl (fun _ => 0))), (q4, .inl (dA 0, 2200, .inl (fun _ => 0))), (q5, .inl (dA 0, 2200, .inl (fun _ => 0))), (q6, .inl (dA 0, 2200, .inl (fun _ => 0))), (q7, .inl (dA 1, 20, .inr (.inl (fun _ => 0)))), (q8, .inl (dA 1, 20, .inr (.inl (fun _ => 0)))), (q9, .inl (dA 2, 256, .inl (fun _ => 0)))] := hD
  refine lv_aload_n (pc := 80) hC.x hC.b d_GM_init_80 rfl (lv_at hl 0 rfl) ?_
  refine lv_sipush (pc := 81) (v := nI 200) hC.x hC.b d_GM_init_81 (by decide) ?_
  refine newa_l (pc := 84) hC hP hD hS hA (by decide) (Nat.le_of_ble_eq_true rfl) (Nat.le_of_ble_eq_true rfl) d_GM_init_84 (fun q10 K9 hP hD hS => ?_)
  have hP : va_P D classes [(a, .inr (4, [.int 0, .int 0, .ref q1, .ref q2, .ref q3, .ref q4, .ref q5, .ref q6, .int 0, .int 0, .ref q7, .ref q8, .int 0, .ref q9, .null, .null])), (q1, .inl (dA 0, 40, .inl (fun _ => 0))), (q2, .inl (dA 0, 40, .inl (fun _ => 0))), (q3, .inl (dA 0, 11, .inl (fun _ => 0))), (q4, .inl (dA 0, 2200, .inl (fun _ => 0))), (q5, .inl (dA 0, 2200, .inl (fun _ => 0))), (q6, .inl (dA 0, 2200, .inl (fun _ => 0))), (q7, .inl (dA 1, 20, .inr (.inl (fun _ => 0)))), (q8, .inl (dA 1, 20, .inr (.inl (fun _ => 0)))), (q9, .inl (dA 2, 256, .inl (fun _ => 0))), (q10, .inl (dA 1, 200, .inr (.inl (fun _ => 0))))] K9 := hP
  have hD : va_D A [(a, .inr (4, [.int 0, .int 0, .ref q1, .ref q2, .ref q3, .ref q4, .ref q5, .ref q6, .int 0, .int 0, .ref q7, .ref q8, .int 0, .ref q9, .null, .null])), (q1, .inl (dA 0, 40, .inl (fun _ => 0))), (q2, .inl (dA 0, 40, .inl (fun _ => 0))), (q3, .inl (dA 0, 11, .inl (fun _ => 0))), (q4, .inl (dA 0, 2200, .inl (fun _ => 0))), (q5, .inl (dA 0, 2200, .inl (fun _ => 0))), (q6, .inl (dA 0, 2200, .inl (fun _ => 0))), (q7, .inl (dA 1, 20, .inr (.inl (fun _ => 0)))), (q8, .inl (dA 1, 20, .inr (.inl (fun _ => 0)))), (q9, .inl (dA 2, 256, .inl (fun _ => 0))), (q10, .inl (dA 1, 200, .inr (.inl (fun _ => 0))))] := hD
  refine W.widen (k := 10) (n := 7187) (by decide) (by decide) ?_
  refine fp_GM_39 (pc := 86) hC hnm hP hD hS 0 rfl (Nat.le_of_ble_eq_true rfl) d_GM_init_86 (fun H10 locs hP hD hS => ?_)
  have hP : va_P D classes [(a, .inr (4, [.int 0, .int 0, .ref q1, .ref q2, .ref q3, .ref q4, .ref q5, .ref q6, .int 0, .int 0, .ref q7, .ref q8, .int 0, .ref q9, .ref q10, .null])), (q1, .inl (dA 0, 40, .inl (fun _ => 0))), (q2, .inl (dA 0, 40, .inl (fun _ => 0))), (q3, .inl (dA 0, 11, .inl (fun _ => 0))), (q4, .inl (dA 0, 2200, .inl (fun _ => 0))), (q5, .inl (dA 0, 2200, .inl (fun _ => 0))), (q6, .inl (dA 0, 2200, .inl (fun _ => 0))), (q7, .inl (dA 1, 20, .inr (.inl (fun _ => 0)))), (q8, .inl (dA 1, 20, .inr (.inl (fun _ => 0)))), (q9, .inl (dA 2, 256, .inl (fun _ => 0))), (q10, .inl (dA 1, 200, .inr (.inl (fun _ => 0))))] H10 := hP
  have hD : va_D A [(a, .inr (4, [.int 0, .int 0, .ref q1, .ref q2, .ref q3, .ref q4, .ref q5, .ref q6, .int 0, .int 0, .ref q7, .ref q8, .int 0, .ref q9, .ref q10, .null])), (q1, .inl (dA 0, 40, .inl (fun _ => 0))), (q2, .inl (dA 0, 40, .inl (fun _ => 0))), (q3, .inl (dA 0, 11, .inl (fun _ => 0))), (q4, .inl (dA 0, 2200, .inl (fun _ => 0))), (q5, .inl (dA 0, 2200, .inl (fun _ => 0))), (q6, .inl (dA 0, 2200, .inl (fun _ => 0))), (q7, .inl (dA 1, 20, .inr (.inl (fun _ => 0)))), (q8, .inl (dA 1, 20, .inr (.inl (fun _ => 0)))), (q9, .inl (dA 2, 256, .inl (fun _ => 0))), (q10, .inl (dA 1, 200, .inr (.inl (fun _ => 0))))] := hD
  refine lv_aload_n (pc := 89) hC.x hC.b d_GM_init_89 rfl (lv_at hl 0 rfl) ?_
  refine lv_sipush (pc := 90) (v := nI 200) hC.x hC.b d_GM_init_90 (by decide) ?_
  refine newa_l (pc := 93) hC hP hD hS hA (by decide) (Nat.le_of_ble_eq_true rfl) (Nat.le_of_ble_eq_true rfl) d_GM_init_93 (fun q11 K10 hP hD hS => ?_)
  have hP : va_P D classes [(a, .inr (4, [.int 0, .int 0, .ref q1, .ref q2, .ref q3, .ref q4, .ref q5, .ref q6, .int 0, .int 0, .ref q7, .ref q8, .int 0, .ref q9, .ref q10, .null])), (q1, .inl (dA 0, 40, .inl (fun _ => 0))), (q2, .inl (dA 0, 40, .inl (fun _ => 0))), (q3, .inl (dA 0, 11, .inl (fun _ => 0))), (q4, .inl (dA 0, 2200, .inl (fun _ => 0))), (q5, .inl (dA 0, 2200, .inl (fun _ => 0))), (q6, .inl (dA 0, 2200, .inl (fun _ => 0))), (q7, .inl (dA 1, 20, .inr (.inl (fun _ => 0)))), (q8, .inl (dA 1, 20, .inr (.inl (fun _ => 0)))), (q9, .inl (dA 2, 256, .inl (fun _ => 0))), (q10, .inl (dA 1, 200, .inr (.inl (fun _ => 0)))), (q11, .inl (dA 1, 200, .inr (.inl (fun _ => 0))))] K10 := hP
  have hD : va_D A [(a, .inr (4, [.int 0, .int 0, .ref q1, .ref q2, .ref q3, .ref q4, .ref q5, .ref q6, .int 0, .int 0, .ref q7, .ref q8, .int 0, .ref q9, .ref q10, .null])), (q1, .inl (dA 0, 40, .inl (fun _ => 0))), (q2, .inl (dA 0, 40, .inl (fun _ => 0))), (q3, .inl (dA 0, 11, .inl (fun _ => 0))), (q4, .inl (dA 0, 2200, .inl (fun _ => 0))), (q5, .inl (dA 0, 2200, .inl (fun _ => 0))), (q6, .inl (dA 0, 2200, .inl (fun _ => 0))), (q7, .inl (dA 1, 20, .inr (.inl (fun _ => 0)))), (q8, .inl (dA 1, 20, .inr (.inl (fun _ => 0)))), (q9, .inl (dA 2, 256, .inl (fun _ => 0))), (q10, .inl (dA 1, 200, .inr (.inl (fun _ => 0)))), (q11, .inl (dA 1, 200, .inr (.inl (fun _ => 0))))] := hD
  refine W.widen (k := 11) (n := 7387) (by decide) (by decide) ?_
  refine fp_GM_42 (pc := 95) hC hnm hP hD hS 0 rfl (Nat.le_of_ble_eq_true rfl) d_GM_init_95 (fun H11 locs hP hD hS => ?_)
  have hP : va_P D classes [(a, .inr (4, [.int 0, .int 0, .ref q1, .ref q2, .ref q3, .ref q4, .ref q5, .ref q6, .int 0, .int 0, .ref q7, .ref q8, .int 0, .ref q9, .ref q10, .ref q11])), (q1, .inl (dA 0, 40, .inl (fun _ => 0))), (q2, .inl (dA 0, 40, .inl (fun _ => 0))), (q3, .inl (dA 0, 11, .inl (fun _ => 0))), (q4, .inl (dA 0, 2200, .inl (fun _ => 0))), (q5, .inl (dA 0, 2200, .inl (fun _ => 0))), (q6, .inl (dA 0, 2200, .inl (fun _ => 0))), (q7, .inl (dA 1, 20, .inr (.inl (fun _ => 0)))), (q8, .inl (dA 1, 20, .inr (.inl (fun _ => 0)))), (q9, .inl (dA 2, 256, .inl (fun _ => 0))), (q10, .inl (dA 1, 200, .inr (.inl (fun _ => 0)))), (q11, .inl (dA 1, 200, .inr (.inl (fun _ => 0))))] H11 := hP
  have hD : va_D A [(a, .inr (4, [.int 0, .int 0, .ref q1, .ref q2, .ref q3, .ref q4, .ref q5, .ref q6, .int 0, .int 0, .ref q7, .ref q8, .int 0, .ref q9, .ref q10, .ref q11])), (q1, .inl (dA 0, 40, .inl (fun _ => 0))), (q2, .inl (dA 0, 40, .inl (fun _ => 0))), (q3, .inl (dA 0, 11, .inl (fun _ => 0))), (q4, .inl (dA 0, 2200, .inl (fun _ => 0))), (q5, .inl (dA 0, 2200, .inl (fun _ => 0))), (q6, .inl (dA 0, 2200, .inl (fun _ => 0))), (q7, .inl (dA 1, 20, .inr (.inl (fun _ => 0)))), (q8, .inl (dA 1, 20, .inr (.inl (fun _ => 0)))), (q9, .inl (dA 2, 256, .inl (fun _ => 0))), (q10, .inl (dA 1, 200, .inr (.inl (fun _ => 0)))), (q11, .inl (dA 1, 200, .inr (.inl (fun _ => 0))))] := hD
  have hP : va_P D classes (mx dA (fun i => [a, q1, q2, q3, q4, q5, q6, q7, q8, q9, q10, q11].getD i 0) S0 (fun _ => 0) (fun _ => 0) (fun _ => 0) (fun _ => 0) (fun _ => 0) (fun _ => 0) (fun _ => 0)) H11 := hP
  have hD : va_D A (mx dA (fun i => [a, q1, q2, q3, q4, q5, q6, q7, q8, q9, q10, q11].getD i 0) S0 (fun _ => 0) (fun _ => 0) (fun _ => 0) (fun _ => 0) (fun _ => 0) (fun _ => 0) (fun _ => 0)) := hD
  exact wr_v (pc := 98) hC hr hlk (by rw [hH]; exact hS) d_GM_init_98 ⟨(fun i => [a, q1, q2, q3, q4, q5, q6, q7, q8, q9, q10, q11].getD i 0), rfl, _, _, _, _, _, _, _, hP, hD, nI_0.symm, fun k hk => absurd hk (Nat.not_lt_zero _), fun k hk => absurd hk (Nat.not_lt_zero _)⟩
end GMINIT
end
section
/-! pure: both sides answer alike; the invariant is kept -/
theorem okT.up {nr nr' : Nat} {t : T3} (h : okT nr t) (hn : nr ≤ nr') : okT nr' t := by
  rcases h with h | ⟨r, q, w, h1, h2⟩
  · exact Or.inl h
  · exact Or.inr ⟨r, q, w, by omega, h2⟩
theorem Inv0 : Inv S0 := ⟨Nat.zero_le _, Nat.zero_le _, Nat.le_refl _, Nat.zero_le _, Nat.zero_le _, fun _ h => absurd h (Nat.not_lt_zero _), fun _ h => absurd h (Nat.not_lt_zero _), fun _ h => absurd h (Nat.not_lt_zero _), fun _ h => absurd h (Nat.not_lt_zero _), fun _ _ h => absurd h (Nat.not_lt_zero _)⟩
theorem Inv_rule {S : St} (hI : Inv S) (w x : Int32) : Inv (S.ruleS w x) := by
  unfold St.ruleS
  by_cases hc : S.ruleC w x
  · rw [if_pos hc]; exact hI
  · rw [if_neg hc]
    obtain ⟨hnr, hn, hcur, hnc, hnk, hWE, hrow, hkr, hcl, hdj⟩ := hI
    have h1 : ¬ w < 0 := fun h => hc (Or.inl h)
    have h2 : ¬ 10000 < w := fun h => hc (Or.inr (Or.inl h))
    have h3 : ¬ x < 0 := fun h => hc (Or.inr (Or.inr (Or.inl h)))
    have h4 : ¬ 100000 < x := fun h => hc (Or.inr (Or.inr (Or.inr (Or.inl h))))
    have h5 : S.nr ≠ 40 := fun h => hc (Or.inr (Or.inr (Or.inr (Or.inr h))))
    refine ⟨show S.nr + 1 ≤ 40 by omega, hn, hcur, hnc, hnk, fun r hr => ?_, fun k hk => (hrow k hk).up (Nat.le_succ _), fun j hj => ⟨(hkr j hj).1, fun k hk => ((hkr j hj).2 k hk).up (Nat.le_succ _)⟩, hcl, hdj⟩
    have hr : r < S.nr + 1 := hr
    show (∃ w' : Nat, w' ≤ 10000 ∧ upd S.W S.nr w r = nI w') ∧ ∃ x' : Nat, x' ≤ 100000 ∧ upd S.E S.nr x r = nI x'
    by_cases hz : r = S.nr
    · subst hz
      rw [upd_s, upd_s]
      exact ⟨nI_of2 (M := 10000) (by decide) h1 (Int32.not_lt.mp h2), nI_of2 (M := 100000) (by decide) h3 (Int32.not_lt.mp h4)⟩
    · rw [upd_n hz, upd_n hz]
      exact hWE r (by omega)
theorem Inv_add {S : St} (hI : Inv S) {t : T3} (ht : okT S.nr t) (hlt : S.n < 200) : Inv (S.addS t) := by
  obtain ⟨hnr, hn, hcur, hnc, hnk, hWE, hrow, hkr, hcl, hdj⟩ := hI
  refine ⟨hnr, show S.n + 1 ≤ 200 by omega, show S.cur ≤ S.n + 1 by omega, hnc, hnk, hWE, fun k hk => ?_, hkr, hcl, hdj⟩
  have hk : k < S.n + 1 := hk
  show okT S.nr (updT S.row S.n t k)
  by_cases hz : k = S.n
  · subst hz; rw [updT_s]; exact ht
  · rw [updT_n hz]; exact hrow k (by omega)
theorem Inv_used {S : St} (hI : Inv S) (r q w : Int32) : Inv (S.usedS r q w) := by
  unfold St.usedS
  by_cases hc : S.usedC r q w
  · rw [if_pos hc]; exact hI
  · rw [if_neg hc]
    have hI2 := hI
    obtain ⟨hnr, hn, -⟩ := hI2
    have h1 : ¬ r < 0 := fun h => hc (Or.inl h)
    have h2 : ¬ nI S.nr ≤ r := fun h => hc (Or.inr (Or.inl h))
    have h3 : ¬ q < 0 := fun h => hc (Or.inr (Or.inr (Or.inl h)))
    have h4 : ¬ 256 ≤ q := fun h => hc (Or.inr (Or.inr (Or.inr (Or.inl h))))
    have h5 : ¬ w < 1 := fun h => hc (Or.inr (Or.inr (Or.inr (Or.inr (Or.inl h)))))
    have h6 : ¬ 9 < w := fun h => hc (Or.inr (Or.inr (Or.inr (Or.inr (Or.inr (Or.inl h))))))
    have h7 : S.n ≠ 200 := fun h => hc (Or.inr (Or.inr (Or.inr (Or.inr (Or.inr (Or.inr h))))))
    rcases pk_ix r (n := S.nr) (by omega) with h | h | ⟨r', hr', rfl⟩
    · exact absurd h h1
    · exact absurd h h2
    · rcases pk_ix q (n := 256) (by decide) with h | h | ⟨q', hq', rfl⟩
      · exact absurd h h3
      · exact absurd h h4
      · rcases pk_ix w (n := 10) (by decide) with h | h | ⟨w', hw', rfl⟩
        · exact absurd (Int32.lt_trans h (by decide)) h5
        · exact absurd (Int32.lt_of_lt_of_le (by decide) h) h6
        · refine Inv_add hI (Or.inr ⟨r', q', w', hr', hq', ?_, by omega, rfl⟩) (by omega)
          rcases Nat.eq_zero_or_pos w' with h | h
          · subst h; exact absurd (by decide) h5
          · exact h
theorem Inv_guess {S : St} (hI : Inv S) (d : Int32) : Inv (S.guessS d) := by
  unfold St.guessS
  by_cases hc : S.guessC d
  · rw [if_pos hc]; exact hI
  · rw [if_neg hc]
    have hI2 := hI
    obtain ⟨hnr, hn, -⟩ := hI2
    have h1 : ¬ d < 1 := fun h => hc (Or.inl h)
    have h2 : ¬ 20 < d := fun h => hc (Or.inr (Or.inl h))
    have h3 : S.n ≠ 200 := fun h => hc (Or.inr (Or.inr h))
    rcases pk_ix d (n := 21) (by decide) with h | h | ⟨d', hd', rfl⟩
    · exact absurd (Int32.lt_trans h (by decide)) h1
    · exact absurd (Int32.lt_of_lt_of_le (by decide) h) h2
    · refine Inv_add hI (Or.inl ⟨rfl, ⟨d', ?_, by omega, rfl⟩, rfl⟩) (by omega)
      rcases Nat.eq_zero_or_pos d' with h | h
      · subst h; exact absurd (by decide) h1
      · exact h
theorem Inv_drop {S : St} (hI : Inv S) : Inv S.dropS := by
  unfold St.dropS
  by_cases hc : S.n = 0
  · rw [if_pos hc]; exact hI
  · rw [if_neg hc]
    obtain ⟨hnr, hn, hcur, hnc, hnk, hWE, hrow, hkr, hcl, hdj⟩ := hI
    exact ⟨hnr, show S.n - 1 ≤ 200 by omega, Nat.min_le_right _ _, hnc, hnk, hWE, fun k hk => hrow k (by have hk : k < S.n - 1 := hk; omega), hkr, hcl, hdj⟩
theorem Inv_cls {S : St} (hI : Inv S) (a b : Int64) : Inv (S.clsS a b) := by
  unfold St.clsS
  by_cases hc : S.clsC a b
  · rw [if_pos hc]; exact hI
  · rw [if_neg hc]
    obtain ⟨hnr, hn, hcur, hnc, hnk, hWE, hrow, hkr, hcl, hdj⟩ := hI
    have h1 : ¬ a < 0 := fun h => hc (Or.inl h)
    have h2 : ¬ b < a := fun h => hc (Or.inr (Or.inl h))
    have h3 : ¬ 100000000 < b := fun h => hc (Or.inr (Or.inr (Or.inl h)))
    have h4 : S.nc ≠ 20 := fun h => hc (Or.inr (Or.inr (Or.inr (Or.inl h))))
    have h5 : ∀ k, k < S.nc → S.hi k < a ∨ b < S.lo k := by
      intro k hk
      by_cases e1 : S.hi k < a
      · exact Or.inl e1
      · by_cases e2 : b < S.lo k
        · exact Or.inr e2
        · exact absurd (Or.inr (Or.inr (Or.inr (Or.inr (fun z => z k hk ⟨Int64.not_lt.mp e1, Int64.not_lt.mp e2⟩))))) hc
    refine ⟨hnr, hn, hcur, show S.nc + 1 ≤ 20 by omega, hnk, hWE, hrow, hkr, fun k hk => ?_, fun i j hi hj hij => ?_⟩
    · have hk : k < S.nc + 1 := hk
      show 0 ≤ vp_updL S.lo S.nc a k ∧ vp_updL S.lo S.nc a k ≤ vp_updL S.hi S.nc b k ∧ vp_updL S.hi S.nc b k ≤ 100000000
      by_cases hz : k = S.nc
      · subst hz; rw [uL_s, uL_s]; exact ⟨Int64.not_lt.mp h1, Int64.not_lt.mp h2, Int64.not_lt.mp h3⟩
      · rw [uL_n hz, uL_n hz]; exact hcl k (by omega)
    · have hi : i < S.nc + 1 := hi
      have hj : j < S.nc + 1 := hj
      show vp_updL S.hi S.nc b i < vp_updL S.lo S.nc a j ∨ vp_updL S.hi S.nc b j < vp_updL S.lo S.nc a i
      by_cases zi : i = S.nc
      · subst zi
        rw [uL_s, uL_s, uL_n (Ne.symm hij), uL_n (Ne.symm hij)]
        exact (h5 j (by omega)).symm
      · by_cases zj : j = S.nc
        · subst zj
          rw [uL_s, uL_s, uL_n hij, uL_n hij]
          exact h5 i (by omega)
        · rw [uL_n zi, uL_n zi, uL_n zj, uL_n zj]
          exact hdj i j (by omega) (by omega) hij
theorem Inv_go {S : St} (hI : Inv S) (x : Int32) : Inv (S.goS x) := by
  unfold St.goS
  by_cases hc : S.goC x
  · rw [if_pos hc]; exact hI
  · rw [if_neg hc]
    obtain ⟨hnr, hn, hcur, hnc, hnk, hWE, hrow, hkr, hcl, hdj⟩ := hI
    refine ⟨hnr, hn, ?_, hnc, hnk, hWE, hrow, hkr, hcl, hdj⟩
    obtain ⟨k, hk, rfl⟩ := nI_of (fun h => hc (Or.inl h))
    show (nI k).toNatClampNeg ≤ S.n
    rw [nI_clamp hk]
    exact (nI_leI hk (by omega)).mp (Int32.not_lt.mp (fun h => hc (Or.inr h)))
theorem Inv_hint {S : St} (hI : Inv S) (d : Int32) : Inv (S.hintS d) := by
  unfold St.hintS
  by_cases hc : S.hintC d
  · rw [if_pos hc]; exact hI
  · rw [if_neg hc]
    by_cases h4 : d = 4
    · rw [if_pos h4]
      obtain ⟨hnr, hn, hcur, hnc, hnk, hWE, hrow, hkr, hcl, hdj⟩ := hI
      have h0 : S.cur ≠ S.n := fun h => hc (Or.inl h)
      exact ⟨hnr, hn, show S.cur + 1 ≤ S.n by omega, hnc, hnk, hWE, hrow, hkr, hcl, hdj⟩
    · rw [if_neg h4]; exact hI
theorem Inv_keep {S : St} (hI : Inv S) : Inv S.keepS := by
  unfold St.keepS
  by_cases hc : S.nk = 10
  · rw [if_pos hc]; exact hI
  · rw [if_neg hc]
    obtain ⟨hnr, hn, hcur, hnc, hnk, hWE, hrow, hkr, hcl, hdj⟩ := hI
    refine ⟨hnr, hn, hcur, hnc, show S.nk + 1 ≤ 10 by omega, hWE, hrow, fun j hj => ?_, hcl, hdj⟩
    have hj : j < S.nk + 1 := hj
    show updN S.ks S.nk S.n j ≤ 200 ∧ ∀ k, k < updN S.ks S.nk S.n j → okT S.nr (updR S.kr S.nk S.row j k)
    by_cases hz : j = S.nk
    · subst hz; rw [updN_s, updR_s]; exact ⟨hn, hrow⟩
    · rw [updN_n hz, updR_n hz]; exact hkr j (by omega)
/-! rank -/
theorem rank_eq {S : St} (hI : Inv S) : S.rankX = S.rankM := by
  obtain ⟨hnr, hn, hcur, hnc, hnk, hWE, hrow, hkr, hcl, hdj⟩ := hI
  unfold St.rankX St.rankM
  rcases cls_cases hnc (S.sum S.n) with ⟨c, hc, hin, hg, hg0, hgc⟩ | ⟨hg, hg0⟩
  · rw [show S.grade = S.cls (S.sum S.n) from rfl, if_neg hg0, if_neg hg0, hgc]
    congr 1
    refine cnt_congr S.nc (fun k hk => ?_)
    obtain ⟨i1, i2⟩ := hin
    obtain ⟨-, c2, -⟩ := hcl c hc
    obtain ⟨-, k2, -⟩ := hcl k hk
    by_cases hz : k = c
    · subst hz
      constructor
      · intro h; exact absurd h (Int64.not_lt.mpr c2)
      · intro h; exact absurd h (Int64.not_lt.mpr i2)
    · rcases hdj k c hk hc hz with h | h
      · exact ⟨fun _ => Int64.lt_of_lt_of_le h i1, fun _ => h⟩
      · constructor
        · intro h2; exact absurd h2 (Int64.not_lt.mpr (Int64.le_trans c2 (Int64.le_trans (Int64.le_of_lt h) k2)))
        · intro h2; exact absurd h2 (Int64.not_lt.mpr (Int64.le_trans i2 (Int64.le_trans (Int64.le_of_lt h) k2)))
  · rw [show S.grade = S.cls (S.sum S.n) from rfl, if_pos hg0, if_pos hg0]
/-! compare -/
theorem ix_out {x : Int32} {n j : Nat} (hj : j < n) (hn : n < 2 ^ 31) (h : x < 0 ∨ nI n ≤ x) (e : x = nI j) : False := by
  subst e
  rcases h with h | h
  · exact nI_pos (by omega) h
  · exact nI_ge hj hn h
theorem cmp_eq {S : St} (hI : Inv S) {x r r' : Int32} (h : S.cmpX x r) (h' : S.cmpM x r') : r = r' := by
  obtain ⟨-, -, -, -, hnk, -⟩ := hI
  rcases h with ⟨h1, h2⟩ | ⟨j, hj, hx, f, g, hf, hg, hr⟩
  · rcases h' with ⟨-, h4⟩ | ⟨j, hj, hx, -⟩
    · rw [h2, h4]
    · exact (ix_out hj (by omega) h1 hx).elim
  · rcases h' with ⟨h3, -⟩ | ⟨j', hj', hx', h4⟩
    · exact (ix_out hj (by omega) h3 hx).elim
    · have e : j = j' := (nI_eq (by omega) (by omega)).mp (hx.symm.trans hx')
      subst e
      rw [hr, h4 f g hf hg]
/-! same -/
theorem cnt_mono {P : Nat → Prop} [DecidablePred P] {k : Nat} : ∀ n, k ≤ n → cnt P k ≤ cnt P n := by
  intro n
  induction n with
  | zero => intro h; rw [show k = 0 by omega]; exact Nat.le_refl _
  | succ n ih =>
    intro h
    by_cases hz : k = n + 1
    · rw [hz]; exact Nat.le_refl _
    · have := ih (by omega)
      show cnt P k ≤ cnt P n + _
      omega
theorem cnt_none {P : Nat → Prop} [DecidablePred P] {k : Nat} : ∀ n, k ≤ n → (∀ i, k ≤ i → i < n → ¬ P i) → cnt P n = cnt P k := by
  intro n
  induction n with
  | zero => intro h _; rw [show k = 0 by omega]
  | succ n ih =>
    intro h hn
    by_cases hz : k = n + 1
    · rw [hz]
    · show cnt P n + (if P n then 1 else 0) = _
      rw [if_neg (hn n (by omega) (by omega)), ih (by omega) (fun i a b => hn i a (by omega)), Nat.add_zero]
theorem cnt_all {P : Nat → Prop} [DecidablePred P] : ∀ n, (∀ i, i < n → P i) → cnt P n = n := by
  intro n
  induction n with
  | zero => intro _; rfl
  | succ n ih =>
    intro h
    show cnt P n + (if P n then 1 else 0) = _
    rw [ih (fun i hi => h i (by omega)), if_pos (h n (by omega))]
theorem cnt_full {P : Nat → Prop} [DecidablePred P] : ∀ n, cnt P n = n → ∀ i, i < n → P i := by
  intro n
  induction n with
  | zero => intro _ i h; exact absurd h (Nat.not_lt_zero _)
  | succ n ih =>
    intro h i hi
    have h : cnt P n + (if P n then 1 else 0) = n + 1 := h
    have hle := cnt_le P n
    by_cases hp : P n
    · rw [if_pos hp] at h
      by_cases hz : i = n
      · subst hz; exact hp
      · exact ih (by omega) i (by omega)
    · rw [if_neg hp] at h; omega
theorem ins_cntQ {α : Type} {Q : α → Prop} [DecidablePred Q] {f f0 : Nat → α} {c : α} {i : Nat} : ∀ k, i ≤ k → InsAt f f0 c i k → cnt (fun j => Q (f j)) (k + 1) = cnt (fun j => Q (f0 j)) k + (if Q c then 1 else 0) := by
  have base : ∀ k, InsAt f f0 c k k → cnt (fun j => Q (f j)) (k + 1) = cnt (fun j => Q (f0 j)) k + (if Q c then 1 else 0) := by
    intro k h
    show cnt (fun j => Q (f j)) k + (if Q (f k) then 1 else 0) = _
    rw [cnt_congr (P' := fun j => Q (f0 j)) k (fun j hj => by rw [h.1 j hj])]
    simp only [h.2.1]
  intro k
  induction k with
  | zero => intro hi h; have : i = 0 := by omega
            subst this; exact base 0 h
  | succ k ih =>
    intro hi h
    by_cases hz : i = k + 1
    · subst hz; exact base (k + 1) h
    · have h2 := ih (by omega) ⟨h.1, h.2.1, fun j a b => h.2.2 j a (by omega)⟩
      show cnt (fun j => Q (f j)) (k + 1) + (if Q (f (k + 1)) then 1 else 0) = cnt (fun j => Q (f0 j)) k + (if Q (f0 k) then 1 else 0) + _
      rw [h2]
      simp only [h.2.2 k (by omega) (by omega)]
      omega
/-- values counted alike one by one are counted alike together -/
theorem cnt_Q {Q : Int32 → Prop} [DecidablePred Q] : ∀ (n m : Nat) (f g : Nat → Int32), (∀ v, Q v → cnt (fun i => f i = v) n = cnt (fun i => g i = v) m) → cnt (fun i => Q (f i)) n = cnt (fun i => Q (g i)) m := by
  intro n
  induction n with
  | zero =>
    intro m f g h
    refine Eq.symm ?_
    rw [cnt_none (k := 0) m (Nat.zero_le _)]
    · rfl
    · intro i _ hi hq
      have h1 := h (g i) hq
      have h2 := cnt_pos (P := fun k => g k = g i) hi rfl
      rw [← h1] at h2
      exact Nat.lt_irrefl _ h2
  | succ n ih =>
    intro m f g h
    show cnt (fun i => Q (f i)) n + (if Q (f n) then 1 else 0) = _
    by_cases hq : Q (f n)
    · rw [if_pos hq]
      have h1 : 0 < cnt (fun i => g i = f n) m := by
        rw [← h (f n) hq]
        exact cnt_pos (P := fun i => f i = f n) (Nat.lt_succ_self n) rfl
      obtain ⟨i, hi, e⟩ := cnt_ex m h1
      obtain ⟨m', rfl⟩ : ∃ m', m = m' + 1 := ⟨m - 1, by omega⟩
      have hins : InsAt g (fun j => if j < i then g j else g (j + 1)) (f n) i m' := ⟨fun j hj => (if_pos hj).symm, e, fun j a b => (if_neg (by omega)).symm⟩
      rw [ins_cntQ m' (by omega) hins, if_pos hq]
      rw [ih m' f (fun j => if j < i then g j else g (j + 1)) (fun v hv => ?_)]
      have h2 := h v hv
      rw [ins_cnt m' (by omega) hins] at h2
      have h2 : cnt (fun i => f i = v) n + (if f n = v then 1 else 0) = _ := h2
      omega
    · rw [if_neg hq, Nat.add_zero]
      refine ih m f g (fun v hv => ?_)
      rw [← h v hv]
      show _ = cnt (fun i => f i = v) n + (if f n = v then 1 else 0)
      rw [if_neg (fun z : f n = v => hq (by rw [z]; exact hv)), Nat.add_zero]
/-- two rising rows with the same counts are the same -/
theorem SU_uniq {f g : Nat → Int32} {n : Nat} (hf : ∀ i j, i < j → j < n → f i ≤ f j) (hg : ∀ i j, i < j → j < n → g i ≤ g j) (h : ∀ v, cnt (fun k => f k = v) n = cnt (fun k => g k = v) n) : ∀ k, k < n → f k = g k := by
  have key : ∀ (f g : Nat → Int32), (∀ i j, i < j → j < n → g i ≤ g j) → (∀ v, cnt (fun k => f k = v) n = cnt (fun k => g k = v) n) → ∀ k, k < n → (∀ i, i < k → f i = g i) → ¬ f k < g k := by
    intro f g hg h k hk hb hlt
    have h1 : cnt (fun i => g i = f k) n = cnt (fun i => g i = f k) k := cnt_none n (by omega) (fun i a b z => by
      have h2 : g k ≤ g i := by
        by_cases hz : k = i
        · rw [hz]; exact Int32.le_refl _
        · exact hg k i (by omega) b
      exact absurd (Int32.lt_of_lt_of_le hlt h2) (by rw [z]; exact Int32.lt_irrefl))
    have h2 : cnt (fun i => f i = f k) (k + 1) ≤ cnt (fun i => f i = f k) n := cnt_mono n (by omega)
    have h3 : cnt (fun i => f i = f k) (k + 1) = cnt (fun i => f i = f k) k + 1 := by
      show cnt (fun i => f i = f k) k + (if f k = f k then 1 else 0) = _
      rw [if_pos rfl]
    have h4 : cnt (fun i => f i = f k) k = cnt (fun i => g i = f k) k := cnt_congr k (fun i hi => by rw [hb i hi])
    have h5 := h (f k)
    omega
  intro k
  induction k using Nat.strongRecOn with
  | _ k ih =>
    intro hk
    have h1 := key f g hg h k hk (fun i hi => ih i hi (by omega))
    have h2 := key g f hf (fun v => (h v).symm) k hk (fun i hi => (ih i hi (by omega)).symm)
    exact Int32.le_antisymm (Int32.not_lt.mp h2) (Int32.not_lt.mp h1)
theorem cde_use {r q w : Nat} : cde (nI r, nI q, nI w) = if nI r = -1 then -1 - nI q else nI ((r * 256 + q) * 10 + w) := by
  unfold cde
  show (if nI r = -1 then -1 - nI q else (nI r * nI 256 + nI q) * nI 10 + nI w) = _
  rw [pk_mul, nI_add, pk_mul, nI_add]
theorem m1_sub {d : Nat} (hd : d ≤ 20) : (-1 - nI d : Int32).toInt = -1 - (d : Int) := by
  have h1 : (-1 : Int32).toInt = -1 := by decide
  rw [Int32.toInt_sub, h1, nI_toInt (by omega)]
  exact Jvm.Kit.bmod32 (by omega) (by omega)
/-- a step's number tells it -/
theorem cde_inj {nr : Nat} (hnr : nr ≤ 40) {t t' : T3} (h : okT nr t) (h' : okT nr t') : (t.1 = t'.1 ∧ t.2.1 = t'.2.1 ∧ t.2.2 = t'.2.2) ↔ cde t = cde t' := by
  constructor
  · rintro ⟨e1, e2, e3⟩
    unfold cde
    rw [e1, e2, e3]
  · intro e
    rcases h with ⟨a1, ⟨d, d1, d2, a2⟩, a3⟩ | ⟨r, q, w, hr, hq, hw1, hw2, rfl⟩ <;> rcases h' with ⟨b1, ⟨d', d1', d2', b2⟩, b3⟩ | ⟨r', q', w', hr', hq', hw1', hw2', rfl⟩
    · have e1 : cde t = -1 - t.2.1 := if_pos a1
      have e2 : cde t' = -1 - t'.2.1 := if_pos b1
      rw [e1, e2, a2, b2] at e
      have e3 := congrArg Int32.toInt e
      rw [m1_sub d2, m1_sub d2'] at e3
      have : d = d' := by omega
      subst this
      exact ⟨a1.trans b1.symm, a2.trans b2.symm, a3.trans b3.symm⟩
    · have e1 : cde t = -1 - t.2.1 := if_pos a1
      rw [e1, a2, cde_use, if_neg (nI_ne_m1 r' (by omega))] at e
      have e3 := congrArg Int32.toInt e
      rw [m1_sub d2, nI_toInt (by omega)] at e3
      omega
    · have e2 : cde t' = -1 - t'.2.1 := if_pos b1
      rw [e2, b2, cde_use, if_neg (nI_ne_m1 r (by omega))] at e
      have e3 := congrArg Int32.toInt e
      rw [m1_sub d2', nI_toInt (by omega)] at e3
      omega
    · rw [cde_use, cde_use, if_neg (nI_ne_m1 r (by omega)), if_neg (nI_ne_m1 r' (by omega))] at e
      have e3 := (nI_eq (by omega) (by omega)).mp e
      have h1 : r = r' := by omega
      have h2 : q = q' := by omega
      have h3 : w = w' := by omega
      subst h1 h2 h3
      exact ⟨rfl, rfl, rfl⟩
theorem same_iff {n nr : Nat} (hnr : nr ≤ 40) {row kr : Nat → T3} (h1 : ∀ k, k < n → okT nr (row k)) (h2 : ∀ k, k < n → okT nr (kr k)) {f g : Nat → Int32} (hf : SU f (fun k => cde (row k)) n) (hg : SU g (fun k => cde (kr k)) n) : (∀ k, k < n → f k = g k) ↔ ∀ k, k < n → cnt (lkP kr (row k)) n = cnt (lkP row (row k)) n := by
  have e1 : ∀ k, k < n → cnt (lkP kr (row k)) n = cnt (fun i => g i = cde (row k)) n := fun k hk => by
    rw [hg.2]; exact cnt_congr n (fun i hi => cde_inj hnr (h2 i hi) (h1 k hk))
  have e2 : ∀ k, k < n → cnt (lkP row (row k)) n = cnt (fun i => f i = cde (row k)) n := fun k hk => by
    rw [hf.2]; exact cnt_congr n (fun i hi => cde_inj hnr (h1 i hi) (h1 k hk))
  constructor
  · intro h k hk
    rw [e1 k hk, e2 k hk]
    exact cnt_congr n (fun i hi => by rw [h i hi])
  · intro h
    have hin : ∀ i, i < n → ∃ k, k < n ∧ cde (row k) = f i := fun i hi => by
      have hp := cnt_pos (P := fun k => f k = f i) hi rfl
      rw [hf.2] at hp
      obtain ⟨k, hk, e⟩ := cnt_ex n hp
      exact ⟨k, hk, e⟩
    have hv : ∀ i, i < n → cnt (fun k => f k = f i) n = cnt (fun k => g k = f i) n := fun i hi => by
      obtain ⟨k, hk, e⟩ := hin i hi
      rw [← e, ← e1 k hk, ← e2 k hk]; exact (h k hk).symm
    have hQ : ∀ i, i < n → ∃ k, k < n ∧ f k = g i := by
      have inst : DecidablePred (fun v : Int32 => ∃ k, k < n ∧ f k = v) := fun _ => Classical.propDecidable _
      have hc := cnt_Q (Q := fun v : Int32 => ∃ k, k < n ∧ f k = v) n n f g (fun v hv2 => by
        obtain ⟨i, hi, e⟩ := hv2
        rw [← e]; exact hv i hi)
      rw [cnt_all n (fun i hi => ⟨i, hi, rfl⟩)] at hc
      exact cnt_full n hc.symm
    refine SU_uniq hf.1 hg.1 (fun v => ?_)
    by_cases hz : ∃ k, k < n ∧ f k = v
    · obtain ⟨k, hk, rfl⟩ := hz
      exact hv k hk
    · rw [cnt_none (P := fun k => f k = v) (k := 0) n (Nat.zero_le _) (fun i _ hi e => hz ⟨i, hi, e⟩), cnt_none (P := fun k => g k = v) (k := 0) n (Nat.zero_le _) (fun i _ hi e => by
        obtain ⟨k, hk, e2⟩ := hQ i hi
        exact hz ⟨k, hk, e2.trans e⟩)]
      rfl
theorem same_eq {S : St} (hI : Inv S) {x r r' : Int32} (h : S.sameX x r) (h' : S.sameM x r') : r = r' := by
  obtain ⟨hnr, hn, hcur, hnc, hnk, hWE, hrow, hkr, hcl, hdj⟩ := hI
  rcases h with ⟨h1, h2⟩ | ⟨j, hj, hx, h2⟩
  · rcases h' with ⟨-, h4⟩ | ⟨j, hj, hx, -⟩
    · rw [h2, h4]
    · exact (ix_out hj (by omega) h1 hx).elim
  · rcases h' with ⟨h3, -⟩ | ⟨j', hj', hx', h4⟩
    · exact (ix_out hj (by omega) h3 hx).elim
    · have e : j = j' := (nI_eq (by omega) (by omega)).mp (hx.symm.trans hx')
      subst e
      rcases h2 with ⟨a1, a2⟩ | ⟨a1, f, g, hf, hg, a2⟩
      · rcases h4 with ⟨-, b2⟩ | ⟨b1, -⟩
        · rw [a2, b2]
        · exact absurd b1 a1
      · rcases h4 with ⟨b1, -⟩ | ⟨-, b2⟩
        · exact absurd a1 b1
        · rw [a2, b2]
          rw [a1] at hg ⊢
          have hk2 : ∀ k, k < S.n → okT S.nr (S.kr j k) := fun k hk => (hkr j hj).2 k (by omega)
          have := same_iff hnr hrow hk2 hf hg
          by_cases hz : ∀ k, k < S.n → f k = g k
          · rw [if_pos hz, if_pos (this.mp hz)]
          · rw [if_neg hz, if_neg (fun y => hz (this.mpr y))]
end
section
section LAWC
variable {p : Program} {e : Env} {R : Room} {s : State} {m : MethodId} {args : Array Value} {below : List Frame} {meth : Method} {c : Code} {locs : List Loc} {cells slots : Nat} {Q : State → Prop}
variable {cc : ByteArray} {pc nL : Nat} {ls : Array Slot} {rest : List Value} {own : String} {l : Launch} {D : va_G} {dA : Nat → ClassId} {A : Nat → Prop} {H H0 : Heap} {S SM : St} {ad md : Nat → Nat} {m0 lo hi : Nat}
/-- the tables' facts, out of the words -/
theorem XK_of {args : Array Value} {s : State} (hts : ∀ w ∈ lw_tbl, w.before args s = true) : ∃ (D : va_G) (dA : Nat → ClassId), XK D dA s := by
  have hT : ∀ w ∈ lw_T, w.before args s = true := fun w h => hts w (List.mem_filter.mp h).1
  have hN : ∀ w ∈ tables_1, w.before args s = true := fun w h => hts w (List.mem_append_right _ h)
  obtain ⟨c0, i0, k0⟩ := u_known (C := R_GR) (T := F_GR) (N := 11) (n := 11) hT i_GR (hT _ tw_11)
  obtain ⟨c1, i1, k1⟩ := u_known (C := R_GU) (T := F_GU) (N := 3) (n := 3) hT i_GU (hT _ tw_72)
  obtain ⟨c2, i2, k2⟩ := u_known (C := R_GG) (T := F_GG) (N := 1) (n := 1) hT i_GG (hT _ tw_99)
  obtain ⟨c3, i3, k3⟩ := u_known (C := R_GK) (T := F_GK) (N := 3) (n := 3) hT i_GK (hT _ tw_231)
  obtain ⟨c4, i4, k4⟩ := u_known (C := R_GM) (T := F_GM) (N := 16) (n := 16) hT i_GM (hT _ tw_288)
  obtain ⟨a0, ka0, p0, e01, e02, e03⟩ := Cond.arrayClass_spec (hT _ tw_60)
  obtain ⟨a1, ka1, p1, e11, e12, e13⟩ := Cond.arrayClass_spec (hT _ tw_61)
  obtain ⟨a2, ka2, p2, e21, e22, e23⟩ := Cond.arrayClass_spec (hT _ tw_342)
  obtain ⟨p3, a3, ka3, e31, -, e32, e33, e34⟩ := Cond.arrayOver_spec (hN _ nw_19)
  obtain ⟨p4, a4, ka4, e41, -, e42, e43, e44⟩ := Cond.arrayOver_spec (hN _ nw_21)
  refine ⟨(fun k => match k with | 0 => c0 | 1 => c1 | 2 => c2 | 3 => c3 | _ => c4, fun k => match k with | 0 => i0 | 1 => i1 | 2 => i2 | 3 => i3 | _ => i4), (fun k => match k with | 0 => a0 | 1 => a1 | 2 => a2 | 3 => a3 | _ => a4), ⟨fun k q hq => ?_, fun k q hq => ?_⟩, fun w hw hn => va_Nw.of (nk_tab hn) (hN w hw), va_AO.of (hN _ nw_19), va_AO.of (hN _ nw_21)⟩
  · match k, hq with
    | 0, hq => cases hq; exact k0
    | 1, hq => cases hq; exact k1
    | 2, hq => cases hq; exact k2
    | 3, hq => cases hq; exact k3
    | 4, hq => cases hq; exact k4
    | k + 5, hq => simp [classes] at hq
  · match k, hq with
    | 0, hq => cases hq; exact ⟨fun n z => ⟨fun k h => (by cases h), ka0, e02, p0, e03⟩, e01⟩
    | 1, hq => cases hq; exact ⟨fun n z => ⟨fun k h => (by cases h), ka1, e12, p1, e13⟩, e11⟩
    | 2, hq => cases hq; exact ⟨fun n z => ⟨fun k h => (by cases h), ka2, e22, p2, e23⟩, e21⟩
    | 3, hq => cases hq; exact ⟨fun n z => ⟨fun k h => (by cases h), ka3, e32, p3, e33⟩, ka3, p3, e32, e33, e31, e34⟩
    | 4, hq => cases hq; exact ⟨fun n z => ⟨fun k h => (by cases h), ka4, e42, p4, e43⟩, ka4, p4, e42, e43, e41, e44⟩
    | k + 5, hq => simp at hq
/-- the model's cells; the others that came since the start -/
def AM (m0 lo hi : Nat) (q : Nat) : Prop := q = m0 ∨ (lo ≤ q ∧ q < hi)
def AG (h0 m0 lo hi : Nat) (q : Nat) : Prop := h0 ≤ q ∧ ¬ AM m0 lo hi q
/-- what stands between two instructions of the law: both worlds, the frame -/
def LI (D : va_G) (dA : Nat → ClassId) (ad md : Nat → Nat) (m0 lo hi : Nat) (H0 : Heap) (S SM : St) (H : Heap) (locs : List Loc) : Prop :=
  GW D dA (AG H0.size m0 lo hi) ad S H ∧ MW D dA (AM m0 lo hi) md SM H ∧ va_S (fun q => H0.size ≤ q) H0 H locs ∧ hi ≤ H.size ∧ H0.size ≤ m0 ∧ m0 < hi ∧ H0.size ≤ lo
theorem LI.fr {D : va_G} {dA : Nat → ClassId} {ad md : Nat → Nat} {m0 lo hi : Nat} {H0 : Heap} {S SM : St} {H : Heap} {locs : List Loc} (h : LI D dA ad md m0 lo hi H0 S SM H locs) : ∀ q, H.size ≤ q → AG H0.size m0 lo hi q := by
  obtain ⟨-, -, hS, h1, h2, h3, h4⟩ := h
  intro q hq
  refine ⟨Nat.le_trans hS.1 hq, fun z => ?_⟩
  rcases z with z | z
  · omega
  · omega
theorem xcall_i {post : Int32 → Prop} {a : Array Value} {st0 : List Value} {mc ms : Nat} {S' : St} (hr : va_Run p l e R s m args below meth c H locs cells slots mc ms (F0 m pc ls st0) rest (QI post (fun H1 => GW D dA (AG s.heap.size m0 lo hi) ad S' H1) (AG s.heap.size m0 lo hi) a) (AG s.heap.size m0 lo hi)) (hL : LI D dA ad md m0 lo hi s.heap S SM H locs)
    (kk : ∀ (r : Int32) (H1 : Heap) (locs1 : List Loc), post r → LI D dA ad md m0 lo hi s.heap S' SM H1 locs1 → W p l e R s m args below meth c H1 locs1 (cells + mc) (slots + ms) Q (F0 m (pc + 3) ls (.int r :: rest))) : W p l e R s m args below meth c H locs cells slots Q (F0 m pc ls st0) := by
  obtain ⟨hG, hM, hS, h1, h2⟩ := hL
  refine va_calli hr hS (fun q _ h => h.1) (fun q h => h.1) (fun r u t H1 locs1 ht _ hp hB hz hk hS1 => ?_)
  have hB : GW D dA (AG s.heap.size m0 lo hi) ad S' t.heap := hB
  rw [ht] at hB
  exact kk r H1 locs1 hp ⟨hB, hM.kept (fun q hq hA => hk q hq (fun z => z.2 hA)), hS1, by omega, h2⟩
theorem mcall_i {post : Int32 → Prop} {a : Array Value} {st0 : List Value} {S' : St} (hr : va_Run p l e R s m args below meth c H locs cells slots 0 0 (F0 m pc ls st0) rest (QI post (fun H1 => MW D dA (AM m0 lo hi) md S' H1) (AM m0 lo hi) a) (AM m0 lo hi)) (hL : LI D dA ad md m0 lo hi s.heap S SM H locs)
    (kk : ∀ (r : Int32) (H1 : Heap) (locs1 : List Loc), post r → LI D dA ad md m0 lo hi s.heap S S' H1 locs1 → W p l e R s m args below meth c H1 locs1 (cells + 0) (slots + 0) Q (F0 m (pc + 3) ls (.int r :: rest))) : W p l e R s m args below meth c H locs cells slots Q (F0 m pc ls st0) := by
  obtain ⟨hG, hM, hS, h1, h2, h3, h4⟩ := hL
  have hs : ∀ q, AM m0 lo hi q → s.heap.size ≤ q := fun q h => by
    rcases h with h | h
    · omega
    · omega
  refine va_calli hr hS (fun q _ h => hs q h) hs (fun r u t H1 locs1 ht _ hp hB hz hk hS1 => ?_)
  have hB : MW D dA (AM m0 lo hi) md S' t.heap := hB
  rw [ht] at hB
  exact kk r H1 locs1 hp ⟨hG.kept (fun q hq hA => hk q hq hA.2), hB, hS1, by omega, h2, h3, h4⟩
theorem mcall_l {post : Int64 → Prop} {a : Array Value} {st0 : List Value} {S' : St} (hr : va_Run p l e R s m args below meth c H locs cells slots 0 0 (F0 m pc ls st0) rest (QL post (fun H1 => MW D dA (AM m0 lo hi) md S' H1) (AM m0 lo hi) a) (AM m0 lo hi)) (hL : LI D dA ad md m0 lo hi s.heap S SM H locs)
    (kk : ∀ (r : Int64) (H1 : Heap) (locs1 : List Loc), post r → LI D dA ad md m0 lo hi s.heap S S' H1 locs1 → W p l e R s m args below meth c H1 locs1 (cells + 0) (slots + 0) Q (F0 m (pc + 3) ls (.long r :: rest))) : W p l e R s m args below meth c H locs cells slots Q (F0 m pc ls st0) := by
  obtain ⟨hG, hM, hS, h1, h2, h3, h4⟩ := hL
  have hs : ∀ q, AM m0 lo hi q → s.heap.size ≤ q := fun q h => by
    rcases h with h | h
    · omega
    · omega
  refine va_calll hr hS (fun q _ h => hs q h) hs (fun r u t H1 locs1 ht _ hp hB hz hk hS1 => ?_)
  have hB : MW D dA (AM m0 lo hi) md S' t.heap := hB
  rw [ht] at hB
  exact kk r H1 locs1 hp ⟨hG.kept (fun q hq hA => hk q hq hA.2), hB, hS1, by omega, h2, h3, h4⟩
/-- an int of the script -/
theorem sld {b Ln k : Nat} {xs : Nat → Int32} {i : Int32} (hC : CX p m c cc nL s args own D dA) (hX : va_X b Ln xs s s.heap) (hbl : b < s.heap.size) (hS : va_S (fun q => s.heap.size ≤ q) s.heap H locs) (hi : i = nI k) (hk : k < Ln) (hn : Ln < 2 ^ 31) (hdg : decode cc pc = .ok (.iaload, 1))
    (kk : W p l e R s m args below meth c H locs cells slots Q (F0 m (pc + 1) ls (.int (xs k) :: rest))) : W p l e R s m args below meth c H locs cells slots Q (F0 m pc ls (.int i :: .ref b :: rest)) := by
  subst hi
  exact va_sld hC.x hC.b hX hbl (Nat.not_le.mpr hbl) hS (vp_in_nI hk hn) hdg (by rw [nI_clamp (Nat.lt_trans hk hn)]; exact kk)
set_option maxHeartbeats 4000000 in
set_option maxRecDepth 100000 in
theorem law_c0 {b Ln t : Nat} {xs : Nat → Int32} (hC : CX p m c code 4 s args "GradeRowsLaw" D dA) (hX : va_X b Ln xs s s.heap) (hbl : b < s.heap.size) (ht : 5 * t + 5 ≤ Ln) (hLn : Ln ≤ 2560) (hl : lv_has ls 4 [(3, .int (nI (5 * t))), (2, .ref (md 0)), (1, .ref (ad 0)), (0, .ref b)]) (hI : Inv S) (hL : LI D dA ad md m0 lo hi s.heap S S H locs) (hcl : cells + 3 ≤ 600000) (hsl : slots + 403 ≤ 7302250) (next : ∀ (S1 : St) (H1 : Heap) (locs1 : List Loc), Inv S1 → LI D dA ad md m0 lo hi s.heap S1 S1 H1 locs1 → W p l e room_1 s m args below meth c H1 locs1 (cells + 3) (slots + 403) Q (F0 m 607 ls [])) : W p l e room_1 s m args below meth c H locs cells slots Q (F0 m 120 ls []) := by
  refine lv_aload_n (pc := 120) hC.x hC.b d_law_120 rfl (lv_at hl 2 rfl) ?_
  refine lv_aload_n (pc := 121) hC.x hC.b d_law_121 rfl (lv_at hl 3 rfl) ?_
  refine lv_iload_n (pc := 122) hC.x hC.b d_law_122 rfl (lv_at hl 0 rfl) ?_
  refine lv_iconst (pc := 123) (v := 1) hC.x hC.b d_law_123 (by decide) ?_
  refine lv_iadd (pc := 124) hC.x hC.b d_law_124 ?_
  refine tp_i (y := nI (5 * t + 1)) (nI_add _ _) ?_
  refine sld (pc := 125) (k := 5 * t + 1) hC hX hbl hL.2.2.1 rfl (by omega) (by omega) d_law_125 ?_
  refine lv_aload_n (pc := 126) hC.x hC.b d_law_126 rfl (lv_at hl 3 rfl) ?_
  refine lv_iload_n (pc := 127) hC.x hC.b d_law_127 rfl (lv_at hl 0 rfl) ?_
  refine lv_iconst (pc := 128) (v := 2) hC.x hC.b d_law_128 (by decide) ?_
  refine lv_iadd (pc := 129) hC.x hC.b d_law_129 ?_
  refine tp_i (y := nI (5 * t + 2)) (nI_add _ _) ?_
  refine sld (pc := 130) (k := 5 * t + 2) hC hX hbl hL.2.2.1 rfl (by omega) (by omega) d_law_130 ?_
  refine xcall_i (pc := 131) (runV hC (c_GR_rule l hL.1 hI) tw_65 tw_62 tw_63 tw_64 tw_1 ⟨by decide +kernel, by decide +kernel, rfl⟩ rfl rfl (ci := 0) rfl rfl (by obtain ⟨_, _, _, hP, _⟩ := hL.1; exact hP 0 _ rfl) hl.1 rfl (Nat.le_of_ble_eq_true rfl) ⟨Nat.le_of_ble_eq_true rfl, Nat.le_of_ble_eq_true rfl⟩ (by show cells + 0 ≤ 600000 ∧ slots + 0 ≤ 7302250; omega) d_law_131) hL (fun r1 H1 locs hr1 hL => ?_)
  refine lv_aload_n (pc := 134) hC.x hC.b d_law_134 rfl (lv_at hl 1 rfl) ?_
  refine lv_aload_n (pc := 135) hC.x hC.b d_law_135 rfl (lv_at hl 3 rfl) ?_
  refine lv_iload_n (pc := 136) hC.x hC.b d_law_136 rfl (lv_at hl 0 rfl) ?_
  refine lv_iconst (pc := 137) (v := 1) hC.x hC.b d_law_137 (by decide) ?_
  refine lv_iadd (pc := 138) hC.x hC.b d_law_138 ?_
  refine tp_i (y := nI (5 * t + 1)) (nI_add _ _) ?_
  refine sld (pc := 139) (k := 5 * t + 1) hC hX hbl hL.2.2.1 rfl (by omega) (by omega) d_law_139 ?_
  refine lv_aload_n (pc := 140) hC.x hC.b d_law_140 rfl (lv_at hl 3 rfl) ?_
  refine lv_iload_n (pc := 141) hC.x hC.b d_law_141 rfl (lv_at hl 0 rfl) ?_
  refine lv_iconst (pc := 142) (v := 2) hC.x hC.b d_law_142 (by decide) ?_
  refine lv_iadd (pc := 143) hC.x hC.b d_law_143 ?_
  refine tp_i (y := nI (5 * t + 2)) (nI_add _ _) ?_
  refine sld (pc := 144) (k := 5 * t + 2) hC hX hbl hL.2.2.1 rfl (by omega) (by omega) d_law_144 ?_
  refine mcall_i (pc := 145) (runV hC (c_GM_rule l hL.2.1 hI) tw_346 tw_343 tw_344 tw_345 tw_2 ⟨by decide +kernel, by decide +kernel, rfl⟩ rfl rfl (ci := 4) rfl rfl (by obtain ⟨_, _, _, _, _, _, _, hP, _⟩ := hL.2.1; exact hP 0 _ rfl) hl.1 rfl (Nat.le_of_ble_eq_true rfl) ⟨Nat.le_of_ble_eq_true rfl, Nat.le_of_ble_eq_true rfl⟩ (by show cells + 0 + 0 ≤ 600000 ∧ slots + 0 + 0 ≤ 7302250; omega) d_law_145) hL (fun r2 H2 locs hr2 hL => ?_)
  refine lv_icmp_eq (pc := 148) (tgt := 607) hC.x hC.b d_law_148 (by decide) (fun c_148 => ?_) (fun c_148 => ?_)
  · refine W.widen (k := cells + 3) (n := slots + 403) (by omega) (by omega) ?_
    exact next _ _ _ (Inv_rule hI _ _) hL
  · exact absurd (hr1.trans hr2.symm) c_148
set_option maxHeartbeats 4000000 in
set_option maxRecDepth 100000 in
theorem law_c1 {b Ln t : Nat} {xs : Nat → Int32} (hC : CX p m c code 4 s args "GradeRowsLaw" D dA) (hX : va_X b Ln xs s s.heap) (hbl : b < s.heap.size) (ht : 5 * t + 5 ≤ Ln) (hLn : Ln ≤ 2560) (hl : lv_has ls 4 [(3, .int (nI (5 * t))), (2, .ref (md 0)), (1, .ref (ad 0)), (0, .ref b)]) (hI : Inv S) (hL : LI D dA ad md m0 lo hi s.heap S S H locs) (hcl : cells + 3 ≤ 600000) (hsl : slots + 403 ≤ 7302250) (next : ∀ (S1 : St) (H1 : Heap) (locs1 : List Loc), Inv S1 → LI D dA ad md m0 lo hi s.heap S1 S1 H1 locs1 → W p l e room_1 s m args below meth c H1 locs1 (cells + 3) (slots + 403) Q (F0 m 607 ls [])) : W p l e room_1 s m args below meth c H locs cells slots Q (F0 m 153 ls []) := by
  refine lv_aload_n (pc := 153) hC.x hC.b d_law_153 rfl (lv_at hl 2 rfl) ?_
  refine lv_aload_n (pc := 154) hC.x hC.b d_law_154 rfl (lv_at hl 3 rfl) ?_
  refine lv_iload_n (pc := 155) hC.x hC.b d_law_155 rfl (lv_at hl 0 rfl) ?_
  refine lv_iconst (pc := 156) (v := 1) hC.x hC.b d_law_156 (by decide) ?_
  refine lv_iadd (pc := 157) hC.x hC.b d_law_157 ?_
  refine tp_i (y := nI (5 * t + 1)) (nI_add _ _) ?_
  refine sld (pc := 158) (k := 5 * t + 1) hC hX hbl hL.2.2.1 rfl (by omega) (by omega) d_law_158 ?_
  refine lv_aload_n (pc := 159) hC.x hC.b d_law_159 rfl (lv_at hl 3 rfl) ?_
  refine lv_iload_n (pc := 160) hC.x hC.b d_law_160 rfl (lv_at hl 0 rfl) ?_
  refine lv_iconst (pc := 161) (v := 2) hC.x hC.b d_law_161 (by decide) ?_
  refine lv_iadd (pc := 162) hC.x hC.b d_law_162 ?_
  refine tp_i (y := nI (5 * t + 2)) (nI_add _ _) ?_
  refine sld (pc := 163) (k := 5 * t + 2) hC hX hbl hL.2.2.1 rfl (by omega) (by omega) d_law_163 ?_
  refine lv_aload_n (pc := 164) hC.x hC.b d_law_164 rfl (lv_at hl 3 rfl) ?_
  refine lv_iload_n (pc := 165) hC.x hC.b d_law_165 rfl (lv_at hl 0 rfl) ?_
  refine lv_iconst (pc := 166) (v := 3) hC.x hC.b d_law_166 (by decide) ?_
  refine lv_iadd (pc := 167) hC.x hC.b d_law_167 ?_
  refine tp_i (y := nI (5 * t + 3)) (nI_add _ _) ?_
  refine sld (pc := 168) (k := 5 * t + 3) hC hX hbl hL.2.2.1 rfl (by omega) (by omega) d_law_168 ?_
  refine xcall_i (pc := 169) (runV hC (c_GR_used l hL.1 hI hL.fr) tw_70 tw_67 tw_68 tw_69 tw_1 ⟨by decide +kernel, by decide +kernel, rfl⟩ rfl rfl (ci := 0) rfl rfl (by obtain ⟨_, _, _, hP, _⟩ := hL.1; exact hP 0 _ rfl) hl.1 rfl (Nat.le_of_ble_eq_true rfl) ⟨Nat.le_of_ble_eq_true rfl, Nat.le_of_ble_eq_true rfl⟩ (by show cells + 1 ≤ 600000 ∧ slots + 3 ≤ 7302250; omega) d_law_169) hL (fun r1 H1 locs hr1 hL => ?_)
  refine lv_aload_n (pc := 172) hC.x hC.b d_law_172 rfl (lv_at hl 1 rfl) ?_
  refine lv_aload_n (pc := 173) hC.x hC.b d_law_173 rfl (lv_at hl 3 rfl) ?_
  refine lv_iload_n (pc := 174) hC.x hC.b d_law_174 rfl (lv_at hl 0 rfl) ?_
  refine lv_iconst (pc := 175) (v := 1) hC.x hC.b d_law_175 (by decide) ?_
  refine lv_iadd (pc := 176) hC.x hC.b d_law_176 ?_
  refine tp_i (y := nI (5 * t + 1)) (nI_add _ _) ?_
  refine sld (pc := 177) (k := 5 * t + 1) hC hX hbl hL.2.2.1 rfl (by omega) (by omega) d_law_177 ?_
  refine lv_aload_n (pc := 178) hC.x hC.b d_law_178 rfl (lv_at hl 3 rfl) ?_
  refine lv_iload_n (pc := 179) hC.x hC.b d_law_179 rfl (lv_at hl 0 rfl) ?_
  refine lv_iconst (pc := 180) (v := 2) hC.x hC.b d_law_180 (by decide) ?_
  refine lv_iadd (pc := 181) hC.x hC.b d_law_181 ?_
  refine tp_i (y := nI (5 * t + 2)) (nI_add _ _) ?_
  refine sld (pc := 182) (k := 5 * t + 2) hC hX hbl hL.2.2.1 rfl (by omega) (by omega) d_law_182 ?_
  refine lv_aload_n (pc := 183) hC.x hC.b d_law_183 rfl (lv_at hl 3 rfl) ?_
  refine lv_iload_n (pc := 184) hC.x hC.b d_law_184 rfl (lv_at hl 0 rfl) ?_
  refine lv_iconst (pc := 185) (v := 3) hC.x hC.b d_law_185 (by decide) ?_
  refine lv_iadd (pc := 186) hC.x hC.b d_law_186 ?_
  refine tp_i (y := nI (5 * t + 3)) (nI_add _ _) ?_
  refine sld (pc := 187) (k := 5 * t + 3) hC hX hbl hL.2.2.1 rfl (by omega) (by omega) d_law_187 ?_
  refine mcall_i (pc := 188) (runV hC (c_GM_used l hL.2.1 hI) tw_351 tw_348 tw_349 tw_350 tw_2 ⟨by decide +kernel, by decide +kernel, rfl⟩ rfl rfl (ci := 4) rfl rfl (by obtain ⟨_, _, _, _, _, _, _, hP, _⟩ := hL.2.1; exact hP 0 _ rfl) hl.1 rfl (Nat.le_of_ble_eq_true rfl) ⟨Nat.le_of_ble_eq_true rfl, Nat.le_of_ble_eq_true rfl⟩ (by show cells + 1 + 0 ≤ 600000 ∧ slots + 3 + 0 ≤ 7302250; omega) d_law_188) hL (fun r2 H2 locs hr2 hL => ?_)
  refine lv_icmp_eq (pc := 191) (tgt := 607) hC.x hC.b d_law_191 (by decide) (fun c_191 => ?_) (fun c_191 => ?_)
  · refine W.widen (k := cells + 3) (n := slots + 403) (by omega) (by omega) ?_
    exact next _ _ _ (Inv_used hI _ _ _) hL
  · exact absurd (hr1.trans hr2.symm) c_191
set_option maxHeartbeats 4000000 in
set_option maxRecDepth 100000 in
theorem law_c2 {b Ln t : Nat} {xs : Nat → Int32} (hC : CX p m c code 4 s args "GradeRowsLaw" D dA) (hX : va_X b Ln xs s s.heap) (hbl : b < s.heap.size) (ht : 5 * t + 5 ≤ Ln) (hLn : Ln ≤ 2560) (hl : lv_has ls 4 [(3, .int (nI (5 * t))), (2, .ref (md 0)), (1, .ref (ad 0)), (0, .ref b)]) (hI : Inv S) (hL : LI D dA ad md m0 lo hi s.heap S S H locs) (hcl : cells + 3 ≤ 600000) (hsl : slots + 403 ≤ 7302250) (next : ∀ (S1 : St) (H1 : Heap) (locs1 : List Loc), Inv S1 → LI D dA ad md m0 lo hi s.heap S1 S1 H1 locs1 → W p l e room_1 s m args below meth c H1 locs1 (cells + 3) (slots + 403) Q (F0 m 607 ls [])) : W p l e room_1 s m args below meth c H locs cells slots Q (F0 m 196 ls []) := by
  refine lv_aload_n (pc := 196) hC.x hC.b d_law_196 rfl (lv_at hl 2 rfl) ?_
  refine lv_aload_n (pc := 197) hC.x hC.b d_law_197 rfl (lv_at hl 3 rfl) ?_
  refine lv_iload_n (pc := 198) hC.x hC.b d_law_198 rfl (lv_at hl 0 rfl) ?_
  refine lv_iconst (pc := 199) (v := 1) hC.x hC.b d_law_199 (by decide) ?_
  refine lv_iadd (pc := 200) hC.x hC.b d_law_200 ?_
  refine tp_i (y := nI (5 * t + 1)) (nI_add _ _) ?_
  refine sld (pc := 201) (k := 5 * t + 1) hC hX hbl hL.2.2.1 rfl (by omega) (by omega) d_law_201 ?_
  refine xcall_i (pc := 202) (runV hC (c_GR_guess l hL.1 hI hL.fr) tw_97 tw_94 tw_95 tw_96 tw_1 ⟨by decide +kernel, by decide +kernel, rfl⟩ rfl rfl (ci := 0) rfl rfl (by obtain ⟨_, _, _, hP, _⟩ := hL.1; exact hP 0 _ rfl) hl.1 rfl (Nat.le_of_ble_eq_true rfl) ⟨Nat.le_of_ble_eq_true rfl, Nat.le_of_ble_eq_true rfl⟩ (by show cells + 1 ≤ 600000 ∧ slots + 1 ≤ 7302250; omega) d_law_202) hL (fun r1 H1 locs hr1 hL => ?_)
  refine lv_aload_n (pc := 205) hC.x hC.b d_law_205 rfl (lv_at hl 1 rfl) ?_
  refine lv_aload_n (pc := 206) hC.x hC.b d_law_206 rfl (lv_at hl 3 rfl) ?_
  refine lv_iload_n (pc := 207) hC.x hC.b d_law_207 rfl (lv_at hl 0 rfl) ?_
  refine lv_iconst (pc := 208) (v := 1) hC.x hC.b d_law_208 (by decide) ?_
  refine lv_iadd (pc := 209) hC.x hC.b d_law_209 ?_
  refine tp_i (y := nI (5 * t + 1)) (nI_add _ _) ?_
  refine sld (pc := 210) (k := 5 * t + 1) hC hX hbl hL.2.2.1 rfl (by omega) (by omega) d_law_210 ?_
  refine mcall_i (pc := 211) (runV hC (c_GM_guess l hL.2.1 hI) tw_363 tw_360 tw_361 tw_362 tw_2 ⟨by decide +kernel, by decide +kernel, rfl⟩ rfl rfl (ci := 4) rfl rfl (by obtain ⟨_, _, _, _, _, _, _, hP, _⟩ := hL.2.1; exact hP 0 _ rfl) hl.1 rfl (Nat.le_of_ble_eq_true rfl) ⟨Nat.le_of_ble_eq_true rfl, Nat.le_of_ble_eq_true rfl⟩ (by show cells + 1 + 0 ≤ 600000 ∧ slots + 1 + 0 ≤ 7302250; omega) d_law_211) hL (fun r2 H2 locs hr2 hL => ?_)
  refine lv_icmp_eq (pc := 214) (tgt := 607) hC.x hC.b d_law_214 (by decide) (fun c_214 => ?_) (fun c_214 => ?_)
  · refine W.widen (k := cells + 3) (n := slots + 403) (by omega) (by omega) ?_
    exact next _ _ _ (Inv_guess hI _) hL
  · exact absurd (hr1.trans hr2.symm) c_214
set_option maxHeartbeats 4000000 in
set_option maxRecDepth 100000 in
theorem law_c3 {b Ln t : Nat} {xs : Nat → Int32} (hC : CX p m c code 4 s args "GradeRowsLaw" D dA) (hX : va_X b Ln xs s s.heap) (hbl : b < s.heap.size) (ht : 5 * t + 5 ≤ Ln) (hLn : Ln ≤ 2560) (hl : lv_has ls 4 [(3, .int (nI (5 * t))), (2, .ref (md 0)), (1, .ref (ad 0)), (0, .ref b)]) (hI : Inv S) (hL : LI D dA ad md m0 lo hi s.heap S S H locs) (hcl : cells + 3 ≤ 600000) (hsl : slots + 403 ≤ 7302250) (next : ∀ (S1 : St) (H1 : Heap) (locs1 : List Loc), Inv S1 → LI D dA ad md m0 lo hi s.heap S1 S1 H1 locs1 → W p l e room_1 s m args below meth c H1 locs1 (cells + 3) (slots + 403) Q (F0 m 607 ls [])) : W p l e room_1 s m args below meth c H locs cells slots Q (F0 m 219 ls []) := by
  refine lv_aload_n (pc := 219) hC.x hC.b d_law_219 rfl (lv_at hl 2 rfl) ?_
  refine xcall_i (pc := 220) (runV hC (c_GR_drop l hL.1 hI) tw_111 tw_108 tw_109 tw_110 tw_1 ⟨by decide +kernel, by decide +kernel, rfl⟩ rfl rfl (ci := 0) rfl rfl (by obtain ⟨_, _, _, hP, _⟩ := hL.1; exact hP 0 _ rfl) hl.1 rfl (Nat.le_of_ble_eq_true rfl) ⟨Nat.le_of_ble_eq_true rfl, Nat.le_of_ble_eq_true rfl⟩ (by show cells + 0 ≤ 600000 ∧ slots + 0 ≤ 7302250; omega) d_law_220) hL (fun r1 H1 locs hr1 hL => ?_)
  refine lv_aload_n (pc := 223) hC.x hC.b d_law_223 rfl (lv_at hl 1 rfl) ?_
  refine mcall_i (pc := 224) (runV hC (c_GM_drop l hL.2.1 hI) tw_367 tw_364 tw_365 tw_366 tw_2 ⟨by decide +kernel, by decide +kernel, rfl⟩ rfl rfl (ci := 4) rfl rfl (by obtain ⟨_, _, _, _, _, _, _, hP, _⟩ := hL.2.1; exact hP 0 _ rfl) hl.1 rfl (Nat.le_of_ble_eq_true rfl) ⟨Nat.le_of_ble_eq_true rfl, Nat.le_of_ble_eq_true rfl⟩ (by show cells + 0 + 0 ≤ 600000 ∧ slots + 0 + 0 ≤ 7302250; omega) d_law_224) hL (fun r2 H2 locs hr2 hL => ?_)
  refine lv_icmp_eq (pc := 227) (tgt := 607) hC.x hC.b d_law_227 (by decide) (fun c_227 => ?_) (fun c_227 => ?_)
  · refine W.widen (k := cells + 3) (n := slots + 403) (by omega) (by omega) ?_
    exact next _ _ _ (Inv_drop hI) hL
  · exact absurd (hr1.trans hr2.symm) c_227
set_option maxHeartbeats 4000000 in
set_option maxRecDepth 100000 in
theorem law_c4 {b Ln t : Nat} {xs : Nat → Int32} (hC : CX p m c code 4 s args "GradeRowsLaw" D dA) (hX : va_X b Ln xs s s.heap) (hbl : b < s.heap.size) (ht : 5 * t + 5 ≤ Ln) (hLn : Ln ≤ 2560) (hl : lv_has ls 4 [(3, .int (nI (5 * t))), (2, .ref (md 0)), (1, .ref (ad 0)), (0, .ref b)]) (hI : Inv S) (hL : LI D dA ad md m0 lo hi s.heap S S H locs) (hcl : cells + 3 ≤ 600000) (hsl : slots + 403 ≤ 7302250) (next : ∀ (S1 : St) (H1 : Heap) (locs1 : List Loc), Inv S1 → LI D dA ad md m0 lo hi s.heap S1 S1 H1 locs1 → W p l e room_1 s m args below meth c H1 locs1 (cells + 3) (slots + 403) Q (F0 m 607 ls [])) : W p l e room_1 s m args below meth c H locs cells slots Q (F0 m 232 ls []) := by
  refine lv_aload_n (pc := 232) hC.x hC.b d_law_232 rfl (lv_at hl 2 rfl) ?_
  refine lv_aload_n (pc := 233) hC.x hC.b d_law_233 rfl (lv_at hl 3 rfl) ?_
  refine lv_iload_n (pc := 234) hC.x hC.b d_law_234 rfl (lv_at hl 0 rfl) ?_
  refine lv_iconst (pc := 235) (v := 1) hC.x hC.b d_law_235 (by decide) ?_
  refine lv_iadd (pc := 236) hC.x hC.b d_law_236 ?_
  refine tp_i (y := nI (5 * t + 1)) (nI_add _ _) ?_
  refine sld (pc := 237) (k := 5 * t + 1) hC hX hbl hL.2.2.1 rfl (by omega) (by omega) d_law_237 ?_
  obtain ⟨sf, kf, L9, hGX⟩ := id hL.1
  refine vp_callSl (pc := 238) (va_Run.run (runV hC (c_GR_cost l hGX hI) tw_118 tw_115 tw_116 tw_117 tw_1 ⟨by decide +kernel, by decide +kernel, rfl⟩ rfl rfl (ci := 0) rfl rfl (by obtain ⟨_, _, _, hP, _⟩ := hL.1; exact hP 0 _ rfl) hl.1 rfl (Nat.le_of_ble_eq_true rfl) ⟨Nat.le_of_ble_eq_true rfl, Nat.le_of_ble_eq_true rfl⟩ (by show cells + 0 ≤ 600000 ∧ slots + 0 ≤ 7302250; omega) d_law_238)) (fun r1 hr1 => ?_)
  refine lv_aload_n (pc := 241) hC.x hC.b d_law_241 rfl (lv_at hl 1 rfl) ?_
  refine lv_aload_n (pc := 242) hC.x hC.b d_law_242 rfl (lv_at hl 3 rfl) ?_
  refine lv_iload_n (pc := 243) hC.x hC.b d_law_243 rfl (lv_at hl 0 rfl) ?_
  refine lv_iconst (pc := 244) (v := 1) hC.x hC.b d_law_244 (by decide) ?_
  refine lv_iadd (pc := 245) hC.x hC.b d_law_245 ?_
  refine tp_i (y := nI (5 * t + 1)) (nI_add _ _) ?_
  refine sld (pc := 246) (k := 5 * t + 1) hC hX hbl hL.2.2.1 rfl (by omega) (by omega) d_law_246 ?_
  refine mcall_l (pc := 247) (runV hC (c_GM_cost l hL.2.1 hI) tw_371 tw_368 tw_369 tw_370 tw_2 ⟨by decide +kernel, by decide +kernel, rfl⟩ rfl rfl (ci := 4) rfl rfl (by obtain ⟨_, _, _, _, _, _, _, hP, _⟩ := hL.2.1; exact hP 0 _ rfl) hl.1 rfl (Nat.le_of_ble_eq_true rfl) ⟨Nat.le_of_ble_eq_true rfl, Nat.le_of_ble_eq_true rfl⟩ (by show cells + 0 ≤ 600000 ∧ slots + 0 ≤ 7302250; omega) d_law_247) hL (fun r2 H2 locs hr2 hL => ?_)
  refine lc_eq (pc := 250) (tgt := 607) hC d_law_250 d_law_251 (by decide) (fun c_250 => ?_) (fun c_250 => ?_)
  · refine W.widen (k := cells + 3) (n := slots + 403) (by omega) (by omega) ?_
    exact next _ _ _ (hI) hL
  · exact absurd (hr1.trans hr2.symm) c_250
set_option maxHeartbeats 4000000 in
set_option maxRecDepth 100000 in
theorem law_c5 {b Ln t : Nat} {xs : Nat → Int32} (hC : CX p m c code 4 s args "GradeRowsLaw" D dA) (hX : va_X b Ln xs s s.heap) (hbl : b < s.heap.size) (ht : 5 * t + 5 ≤ Ln) (hLn : Ln ≤ 2560) (hl : lv_has ls 4 [(3, .int (nI (5 * t))), (2, .ref (md 0)), (1, .ref (ad 0)), (0, .ref b)]) (hI : Inv S) (hL : LI D dA ad md m0 lo hi s.heap S S H locs) (hcl : cells + 3 ≤ 600000) (hsl : slots + 403 ≤ 7302250) (next : ∀ (S1 : St) (H1 : Heap) (locs1 : List Loc), Inv S1 → LI D dA ad md m0 lo hi s.heap S1 S1 H1 locs1 → W p l e room_1 s m args below meth c H1 locs1 (cells + 3) (slots + 403) Q (F0 m 607 ls [])) : W p l e room_1 s m args below meth c H locs cells slots Q (F0 m 256 ls []) := by
  refine lv_aload_n (pc := 256) hC.x hC.b d_law_256 rfl (lv_at hl 2 rfl) ?_
  refine lv_aload_n (pc := 257) hC.x hC.b d_law_257 rfl (lv_at hl 3 rfl) ?_
  refine lv_iload_n (pc := 258) hC.x hC.b d_law_258 rfl (lv_at hl 0 rfl) ?_
  refine lv_iconst (pc := 259) (v := 1) hC.x hC.b d_law_259 (by decide) ?_
  refine lv_iadd (pc := 260) hC.x hC.b d_law_260 ?_
  refine tp_i (y := nI (5 * t + 1)) (nI_add _ _) ?_
  refine sld (pc := 261) (k := 5 * t + 1) hC hX hbl hL.2.2.1 rfl (by omega) (by omega) d_law_261 ?_
  obtain ⟨sf, kf, L9, hGX⟩ := id hL.1
  refine vp_callSl (pc := 262) (va_Run.run (runV hC (c_GR_sum l hGX hI) tw_147 tw_144 tw_145 tw_146 tw_1 ⟨by decide +kernel, by decide +kernel, rfl⟩ rfl rfl (ci := 0) rfl rfl (by obtain ⟨_, _, _, hP, _⟩ := hL.1; exact hP 0 _ rfl) hl.1 rfl (Nat.le_of_ble_eq_true rfl) ⟨Nat.le_of_ble_eq_true rfl, Nat.le_of_ble_eq_true rfl⟩ (by show cells + 0 ≤ 600000 ∧ slots + 0 ≤ 7302250; omega) d_law_262)) (fun r1 hr1 => ?_)
  refine lv_aload_n (pc := 265) hC.x hC.b d_law_265 rfl (lv_at hl 1 rfl) ?_
  refine lv_aload_n (pc := 266) hC.x hC.b d_law_266 rfl (lv_at hl 3 rfl) ?_
  refine lv_iload_n (pc := 267) hC.x hC.b d_law_267 rfl (lv_at hl 0 rfl) ?_
  refine lv_iconst (pc := 268) (v := 1) hC.x hC.b d_law_268 (by decide) ?_
  refine lv_iadd (pc := 269) hC.x hC.b d_law_269 ?_
  refine tp_i (y := nI (5 * t + 1)) (nI_add _ _) ?_
  refine sld (pc := 270) (k := 5 * t + 1) hC hX hbl hL.2.2.1 rfl (by omega) (by omega) d_law_270 ?_
  refine mcall_l (pc := 271) (runV hC (c_GM_sum l hL.2.1 hI) tw_382 tw_379 tw_380 tw_381 tw_2 ⟨by decide +kernel, by decide +kernel, rfl⟩ rfl rfl (ci := 4) rfl rfl (by obtain ⟨_, _, _, _, _, _, _, hP, _⟩ := hL.2.1; exact hP 0 _ rfl) hl.1 rfl (Nat.le_of_ble_eq_true rfl) ⟨Nat.le_of_ble_eq_true rfl, Nat.le_of_ble_eq_true rfl⟩ (by show cells + 0 ≤ 600000 ∧ slots + 0 ≤ 7302250; omega) d_law_271) hL (fun r2 H2 locs hr2 hL => ?_)
  refine lc_eq (pc := 274) (tgt := 607) hC d_law_274 d_law_275 (by decide) (fun c_274 => ?_) (fun c_274 => ?_)
  · refine W.widen (k := cells + 3) (n := slots + 403) (by omega) (by omega) ?_
    exact next _ _ _ (hI) hL
  · exact absurd (hr1.trans hr2.symm) c_274
set_option maxHeartbeats 4000000 in
set_option maxRecDepth 100000 in
theorem law_c6 {b Ln t : Nat} {xs : Nat → Int32} (hC : CX p m c code 4 s args "GradeRowsLaw" D dA) (hX : va_X b Ln xs s s.heap) (hbl : b < s.heap.size) (ht : 5 * t + 5 ≤ Ln) (hLn : Ln ≤ 2560) (hl : lv_has ls 4 [(3, .int (nI (5 * t))), (2, .ref (md 0)), (1, .ref (ad 0)), (0, .ref b)]) (hI : Inv S) (hL : LI D dA ad md m0 lo hi s.heap S S H locs) (hcl : cells + 3 ≤ 600000) (hsl : slots + 403 ≤ 7302250) (next : ∀ (S1 : St) (H1 : Heap) (locs1 : List Loc), Inv S1 → LI D dA ad md m0 lo hi s.heap S1 S1 H1 locs1 → W p l e room_1 s m args below meth c H1 locs1 (cells + 3) (slots + 403) Q (F0 m 607 ls [])) : W p l e room_1 s m args below meth c H locs cells slots Q (F0 m 280 ls []) := by
  refine lv_aload_n (pc := 280) hC.x hC.b d_law_280 rfl (lv_at hl 2 rfl) ?_
  refine lv_aload_n (pc := 281) hC.x hC.b d_law_281 rfl (lv_at hl 3 rfl) ?_
  refine lv_iload_n (pc := 282) hC.x hC.b d_law_282 rfl (lv_at hl 0 rfl) ?_
  refine lv_iconst (pc := 283) (v := 1) hC.x hC.b d_law_283 (by decide) ?_
  refine lv_iadd (pc := 284) hC.x hC.b d_law_284 ?_
  refine tp_i (y := nI (5 * t + 1)) (nI_add _ _) ?_
  refine sld (pc := 285) (k := 5 * t + 1) hC hX hbl hL.2.2.1 rfl (by omega) (by omega) d_law_285 ?_
  refine lv_i2l (pc := 286) hC.x hC.b d_law_286 rfl ?_
  refine lv_bipush (pc := 287) (v := 32) hC.x hC.b d_law_287 (by decide) ?_
  refine lv_lshl (pc := 289) hC.x hC.b d_law_289 rfl ?_
  refine lv_aload_n (pc := 290) hC.x hC.b d_law_290 rfl (lv_at hl 3 rfl) ?_
  refine lv_iload_n (pc := 291) hC.x hC.b d_law_291 rfl (lv_at hl 0 rfl) ?_
  refine lv_iconst (pc := 292) (v := 2) hC.x hC.b d_law_292 (by decide) ?_
  refine lv_iadd (pc := 293) hC.x hC.b d_law_293 ?_
  refine tp_i (y := nI (5 * t + 2)) (nI_add _ _) ?_
  refine sld (pc := 294) (k := 5 * t + 2) hC hX hbl hL.2.2.1 rfl (by omega) (by omega) d_law_294 ?_
  refine lv_i2l (pc := 295) hC.x hC.b d_law_295 rfl ?_
  refine lv_ldc2 (pc := 296) hC.x hC.b hC.o (hC.t _ tw_451) d_law_296 ?_
  refine lv_land (pc := 299) hC.x hC.b d_law_299 ?_
  refine lv_lor (pc := 300) hC.x hC.b d_law_300 ?_
  refine lv_aload_n (pc := 301) hC.x hC.b d_law_301 rfl (lv_at hl 3 rfl) ?_
  refine lv_iload_n (pc := 302) hC.x hC.b d_law_302 rfl (lv_at hl 0 rfl) ?_
  refine lv_iconst (pc := 303) (v := 3) hC.x hC.b d_law_303 (by decide) ?_
  refine lv_iadd (pc := 304) hC.x hC.b d_law_304 ?_
  refine tp_i (y := nI (5 * t + 3)) (nI_add _ _) ?_
  refine sld (pc := 305) (k := 5 * t + 3) hC hX hbl hL.2.2.1 rfl (by omega) (by omega) d_law_305 ?_
  refine lv_i2l (pc := 306) hC.x hC.b d_law_306 rfl ?_
  refine lv_bipush (pc := 307) (v := 32) hC.x hC.b d_law_307 (by decide) ?_
  refine lv_lshl (pc := 309) hC.x hC.b d_law_309 rfl ?_
  refine lv_aload_n (pc := 310) hC.x hC.b d_law_310 rfl (lv_at hl 3 rfl) ?_
  refine lv_iload_n (pc := 311) hC.x hC.b d_law_311 rfl (lv_at hl 0 rfl) ?_
  refine lv_iconst (pc := 312) (v := 4) hC.x hC.b d_law_312 (by decide) ?_
  refine lv_iadd (pc := 313) hC.x hC.b d_law_313 ?_
  refine tp_i (y := nI (5 * t + 4)) (nI_add _ _) ?_
  refine sld (pc := 314) (k := 5 * t + 4) hC hX hbl hL.2.2.1 rfl (by omega) (by omega) d_law_314 ?_
  refine lv_i2l (pc := 315) hC.x hC.b d_law_315 rfl ?_
  refine lv_ldc2 (pc := 316) hC.x hC.b hC.o (hC.t _ tw_451) d_law_316 ?_
  refine lv_land (pc := 319) hC.x hC.b d_law_319 ?_
  refine lv_lor (pc := 320) hC.x hC.b d_law_320 ?_
  refine xcall_i (pc := 321) (runV hC (c_GR_cls l hL.1 hI) tw_151 tw_148 tw_149 tw_150 tw_1 ⟨by decide +kernel, by decide +kernel, rfl⟩ rfl rfl (ci := 0) rfl rfl (by obtain ⟨_, _, _, hP, _⟩ := hL.1; exact hP 0 _ rfl) hl.1 rfl (Nat.le_of_ble_eq_true rfl) ⟨Nat.le_of_ble_eq_true rfl, Nat.le_of_ble_eq_true rfl⟩ (by show cells + 0 ≤ 600000 ∧ slots + 0 ≤ 7302250; omega) d_law_321) hL (fun r1 H1 locs hr1 hL => ?_)
  refine lv_aload_n (pc := 324) hC.x hC.b d_law_324 rfl (lv_at hl 1 rfl) ?_
  refine lv_aload_n (pc := 325) hC.x hC.b d_law_325 rfl (lv_at hl 3 rfl) ?_
  refine lv_iload_n (pc := 326) hC.x hC.b d_law_326 rfl (lv_at hl 0 rfl) ?_
  refine lv_iconst (pc := 327) (v := 1) hC.x hC.b d_law_327 (by decide) ?_
  refine lv_iadd (pc := 328) hC.x hC.b d_law_328 ?_
  refine tp_i (y := nI (5 * t + 1)) (nI_add _ _) ?_
  refine sld (pc := 329) (k := 5 * t + 1) hC hX hbl hL.2.2.1 rfl (by omega) (by omega) d_law_329 ?_
  refine lv_i2l (pc := 330) hC.x hC.b d_law_330 rfl ?_
  refine lv_bipush (pc := 331) (v := 32) hC.x hC.b d_law_331 (by decide) ?_
  refine lv_lshl (pc := 333) hC.x hC.b d_law_333 rfl ?_
  refine lv_aload_n (pc := 334) hC.x hC.b d_law_334 rfl (lv_at hl 3 rfl) ?_
  refine lv_iload_n (pc := 335) hC.x hC.b d_law_335 rfl (lv_at hl 0 rfl) ?_
  refine lv_iconst (pc := 336) (v := 2) hC.x hC.b d_law_336 (by decide) ?_
  refine lv_iadd (pc := 337) hC.x hC.b d_law_337 ?_
  refine tp_i (y := nI (5 * t + 2)) (nI_add _ _) ?_
  refine sld (pc := 338) (k := 5 * t + 2) hC hX hbl hL.2.2.1 rfl (by omega) (by omega) d_law_338 ?_
  refine lv_i2l (pc := 339) hC.x hC.b d_law_339 rfl ?_
  refine lv_ldc2 (pc := 340) hC.x hC.b hC.o (hC.t _ tw_451) d_law_340 ?_
  refine lv_land (pc := 343) hC.x hC.b d_law_343 ?_
  refine lv_lor (pc := 344) hC.x hC.b d_law_344 ?_
  refine lv_aload_n (pc := 345) hC.x hC.b d_law_345 rfl (lv_at hl 3 rfl) ?_
  refine lv_iload_n (pc := 346) hC.x hC.b d_law_346 rfl (lv_at hl 0 rfl) ?_
  refine lv_iconst (pc := 347) (v := 3) hC.x hC.b d_law_347 (by decide) ?_
  refine lv_iadd (pc := 348) hC.x hC.b d_law_348 ?_
  refine tp_i (y := nI (5 * t + 3)) (nI_add _ _) ?_
  refine sld (pc := 349) (k := 5 * t + 3) hC hX hbl hL.2.2.1 rfl (by omega) (by omega) d_law_349 ?_
  refine lv_i2l (pc := 350) hC.x hC.b d_law_350 rfl ?_
  refine lv_bipush (pc := 351) (v := 32) hC.x hC.b d_law_351 (by decide) ?_
  refine lv_lshl (pc := 353) hC.x hC.b d_law_353 rfl ?_
  refine lv_aload_n (pc := 354) hC.x hC.b d_law_354 rfl (lv_at hl 3 rfl) ?_
  refine lv_iload_n (pc := 355) hC.x hC.b d_law_355 rfl (lv_at hl 0 rfl) ?_
  refine lv_iconst (pc := 356) (v := 4) hC.x hC.b d_law_356 (by decide) ?_
  refine lv_iadd (pc := 357) hC.x hC.b d_law_357 ?_
  refine tp_i (y := nI (5 * t + 4)) (nI_add _ _) ?_
  refine sld (pc := 358) (k := 5 * t + 4) hC hX hbl hL.2.2.1 rfl (by omega) (by omega) d_law_358 ?_
  refine lv_i2l (pc := 359) hC.x hC.b d_law_359 rfl ?_
  refine lv_ldc2 (pc := 360) hC.x hC.b hC.o (hC.t _ tw_451) d_law_360 ?_
  refine lv_land (pc := 363) hC.x hC.b d_law_363 ?_
  refine lv_lor (pc := 364) hC.x hC.b d_law_364 ?_
  refine mcall_i (pc := 365) (runV hC (c_GM_cls l hL.2.1 hI) tw_390 tw_387 tw_388 tw_389 tw_2 ⟨by decide +kernel, by decide +kernel, rfl⟩ rfl rfl (ci := 4) rfl rfl (by obtain ⟨_, _, _, _, _, _, _, hP, _⟩ := hL.2.1; exact hP 0 _ rfl) hl.1 rfl (Nat.le_of_ble_eq_true rfl) ⟨Nat.le_of_ble_eq_true rfl, Nat.le_of_ble_eq_true rfl⟩ (by show cells + 0 + 0 ≤ 600000 ∧ slots + 0 + 0 ≤ 7302250; omega) d_law_365) hL (fun r2 H2 locs hr2 hL => ?_)
  refine lv_icmp_eq (pc := 368) (tgt := 607) hC.x hC.b d_law_368 (by decide) (fun c_368 => ?_) (fun c_368 => ?_)
  · refine W.widen (k := cells + 3) (n := slots + 403) (by omega) (by omega) ?_
    exact next _ _ _ (Inv_cls hI _ _) hL
  · exact absurd (hr1.trans hr2.symm) c_368
set_option maxHeartbeats 4000000 in
set_option maxRecDepth 100000 in
theorem law_c7 {b Ln t : Nat} {xs : Nat → Int32} (hC : CX p m c code 4 s args "GradeRowsLaw" D dA) (hX : va_X b Ln xs s s.heap) (hbl : b < s.heap.size) (ht : 5 * t + 5 ≤ Ln) (hLn : Ln ≤ 2560) (hl : lv_has ls 4 [(3, .int (nI (5 * t))), (2, .ref (md 0)), (1, .ref (ad 0)), (0, .ref b)]) (hI : Inv S) (hL : LI D dA ad md m0 lo hi s.heap S S H locs) (hcl : cells + 3 ≤ 600000) (hsl : slots + 403 ≤ 7302250) (next : ∀ (S1 : St) (H1 : Heap) (locs1 : List Loc), Inv S1 → LI D dA ad md m0 lo hi s.heap S1 S1 H1 locs1 → W p l e room_1 s m args below meth c H1 locs1 (cells + 3) (slots + 403) Q (F0 m 607 ls [])) : W p l e room_1 s m args below meth c H locs cells slots Q (F0 m 373 ls []) := by
  refine lv_aload_n (pc := 373) hC.x hC.b d_law_373 rfl (lv_at hl 2 rfl) ?_
  obtain ⟨sf, kf, L9, hGX⟩ := id hL.1
  refine vp_callSi (pc := 374) (va_Run.run (runV hC (c_GR_grade l hGX hI) tw_156 tw_153 tw_154 tw_155 tw_1 ⟨by decide +kernel, by decide +kernel, rfl⟩ rfl rfl (ci := 0) rfl rfl (by obtain ⟨_, _, _, hP, _⟩ := hL.1; exact hP 0 _ rfl) hl.1 rfl (Nat.le_of_ble_eq_true rfl) ⟨Nat.le_of_ble_eq_true rfl, Nat.le_of_ble_eq_true rfl⟩ (by show cells + 0 ≤ 600000 ∧ slots + 0 ≤ 7302250; omega) d_law_374)) (fun r1 hr1 => ?_)
  refine lv_aload_n (pc := 377) hC.x hC.b d_law_377 rfl (lv_at hl 1 rfl) ?_
  refine mcall_i (pc := 378) (runV hC (c_GM_grade l hL.2.1 hI) tw_395 tw_392 tw_393 tw_394 tw_2 ⟨by decide +kernel, by decide +kernel, rfl⟩ rfl rfl (ci := 4) rfl rfl (by obtain ⟨_, _, _, _, _, _, _, hP, _⟩ := hL.2.1; exact hP 0 _ rfl) hl.1 rfl (Nat.le_of_ble_eq_true rfl) ⟨Nat.le_of_ble_eq_true rfl, Nat.le_of_ble_eq_true rfl⟩ (by show cells + 0 ≤ 600000 ∧ slots + 0 ≤ 7302250; omega) d_law_378) hL (fun r2 H2 locs hr2 hL => ?_)
  refine lv_icmp_eq (pc := 381) (tgt := 607) hC.x hC.b d_law_381 (by decide) (fun c_381 => ?_) (fun c_381 => ?_)
  · refine W.widen (k := cells + 3) (n := slots + 403) (by omega) (by omega) ?_
    exact next _ _ _ (hI) hL
  · exact absurd (hr1.trans hr2.symm) c_381
set_option maxHeartbeats 4000000 in
set_option maxRecDepth 100000 in
theorem law_c8 {b Ln t : Nat} {xs : Nat → Int32} (hC : CX p m c code 4 s args "GradeRowsLaw" D dA) (hX : va_X b Ln xs s s.heap) (hbl : b < s.heap.size) (ht : 5 * t + 5 ≤ Ln) (hLn : Ln ≤ 2560) (hl : lv_has ls 4 [(3, .int (nI (5 * t))), (2, .ref (md 0)), (1, .ref (ad 0)), (0, .ref b)]) (hI : Inv S) (hL : LI D dA ad md m0 lo hi s.heap S S H locs) (hcl : cells + 3 ≤ 600000) (hsl : slots + 403 ≤ 7302250) (next : ∀ (S1 : St) (H1 : Heap) (locs1 : List Loc), Inv S1 → LI D dA ad md m0 lo hi s.heap S1 S1 H1 locs1 → W p l e room_1 s m args below meth c H1 locs1 (cells + 3) (slots + 403) Q (F0 m 607 ls [])) : W p l e room_1 s m args below meth c H locs cells slots Q (F0 m 386 ls []) := by
  refine lv_aload_n (pc := 386) hC.x hC.b d_law_386 rfl (lv_at hl 2 rfl) ?_
  obtain ⟨sf, kf, L9, hGX⟩ := id hL.1
  refine vp_callSi (pc := 387) (va_Run.run (runV hC (c_GR_rank l hGX hI) tw_165 tw_162 tw_163 tw_164 tw_1 ⟨by decide +kernel, by decide +kernel, rfl⟩ rfl rfl (ci := 0) rfl rfl (by obtain ⟨_, _, _, hP, _⟩ := hL.1; exact hP 0 _ rfl) hl.1 rfl (Nat.le_of_ble_eq_true rfl) ⟨Nat.le_of_ble_eq_true rfl, Nat.le_of_ble_eq_true rfl⟩ (by show cells + 0 ≤ 600000 ∧ slots + 0 ≤ 7302250; omega) d_law_387)) (fun r1 hr1 => ?_)
  refine lv_aload_n (pc := 390) hC.x hC.b d_law_390 rfl (lv_at hl 1 rfl) ?_
  refine mcall_i (pc := 391) (runV hC (c_GM_rank l hL.2.1 hI) tw_407 tw_404 tw_405 tw_406 tw_2 ⟨by decide +kernel, by decide +kernel, rfl⟩ rfl rfl (ci := 4) rfl rfl (by obtain ⟨_, _, _, _, _, _, _, hP, _⟩ := hL.2.1; exact hP 0 _ rfl) hl.1 rfl (Nat.le_of_ble_eq_true rfl) ⟨Nat.le_of_ble_eq_true rfl, Nat.le_of_ble_eq_true rfl⟩ (by show cells + 0 ≤ 600000 ∧ slots + 0 ≤ 7302250; omega) d_law_391) hL (fun r2 H2 locs hr2 hL => ?_)
  refine lv_icmp_eq (pc := 394) (tgt := 607) hC.x hC.b d_law_394 (by decide) (fun c_394 => ?_) (fun c_394 => ?_)
  · refine W.widen (k := cells + 3) (n := slots + 403) (by omega) (by omega) ?_
    exact next _ _ _ (hI) hL
  · exact absurd ((hr1.trans (rank_eq hI)).trans hr2.symm) c_394
set_option maxHeartbeats 4000000 in
set_option maxRecDepth 100000 in
theorem law_c9 {b Ln t : Nat} {xs : Nat → Int32} (hC : CX p m c code 4 s args "GradeRowsLaw" D dA) (hX : va_X b Ln xs s s.heap) (hbl : b < s.heap.size) (ht : 5 * t + 5 ≤ Ln) (hLn : Ln ≤ 2560) (hl : lv_has ls 4 [(3, .int (nI (5 * t))), (2, .ref (md 0)), (1, .ref (ad 0)), (0, .ref b)]) (hI : Inv S) (hL : LI D dA ad md m0 lo hi s.heap S S H locs) (hcl : cells + 3 ≤ 600000) (hsl : slots + 403 ≤ 7302250) (next : ∀ (S1 : St) (H1 : Heap) (locs1 : List Loc), Inv S1 → LI D dA ad md m0 lo hi s.heap S1 S1 H1 locs1 → W p l e room_1 s m args below meth c H1 locs1 (cells + 3) (slots + 403) Q (F0 m 607 ls [])) : W p l e room_1 s m args below meth c H locs cells slots Q (F0 m 399 ls []) := by
  refine lv_aload_n (pc := 399) hC.x hC.b d_law_399 rfl (lv_at hl 2 rfl) ?_
  refine lv_aload_n (pc := 400) hC.x hC.b d_law_400 rfl (lv_at hl 3 rfl) ?_
  refine lv_iload_n (pc := 401) hC.x hC.b d_law_401 rfl (lv_at hl 0 rfl) ?_
  refine lv_iconst (pc := 402) (v := 1) hC.x hC.b d_law_402 (by decide) ?_
  refine lv_iadd (pc := 403) hC.x hC.b d_law_403 ?_
  refine tp_i (y := nI (5 * t + 1)) (nI_add _ _) ?_
  refine sld (pc := 404) (k := 5 * t + 1) hC hX hbl hL.2.2.1 rfl (by omega) (by omega) d_law_404 ?_
  refine lv_i2l (pc := 405) hC.x hC.b d_law_405 rfl ?_
  refine lv_bipush (pc := 406) (v := 32) hC.x hC.b d_law_406 (by decide) ?_
  refine lv_lshl (pc := 408) hC.x hC.b d_law_408 rfl ?_
  refine lv_aload_n (pc := 409) hC.x hC.b d_law_409 rfl (lv_at hl 3 rfl) ?_
  refine lv_iload_n (pc := 410) hC.x hC.b d_law_410 rfl (lv_at hl 0 rfl) ?_
  refine lv_iconst (pc := 411) (v := 2) hC.x hC.b d_law_411 (by decide) ?_
  refine lv_iadd (pc := 412) hC.x hC.b d_law_412 ?_
  refine tp_i (y := nI (5 * t + 2)) (nI_add _ _) ?_
  refine sld (pc := 413) (k := 5 * t + 2) hC hX hbl hL.2.2.1 rfl (by omega) (by omega) d_law_413 ?_
  refine lv_i2l (pc := 414) hC.x hC.b d_law_414 rfl ?_
  refine lv_ldc2 (pc := 415) hC.x hC.b hC.o (hC.t _ tw_451) d_law_415 ?_
  refine lv_land (pc := 418) hC.x hC.b d_law_418 ?_
  refine lv_lor (pc := 419) hC.x hC.b d_law_419 ?_
  obtain ⟨sf, kf, L9, hGX⟩ := id hL.1
  refine vp_callSl (pc := 420) (va_Run.run (runV hC (c_GR_gap l hGX hI (F := 100000002) (Nat.le_refl _)) tw_170 tw_167 tw_168 tw_169 tw_1 ⟨by decide +kernel, by decide +kernel, rfl⟩ rfl rfl (ci := 0) rfl rfl (by obtain ⟨_, _, _, hP, _⟩ := hL.1; exact hP 0 _ rfl) hl.1 rfl (Nat.le_of_ble_eq_true rfl) ⟨Nat.le_of_ble_eq_true rfl, Nat.le_of_ble_eq_true rfl⟩ (by show cells + 0 ≤ 600000 ∧ slots + 0 ≤ 7302250; omega) d_law_420)) (fun r1 hr1 => ?_)
  refine lv_aload_n (pc := 423) hC.x hC.b d_law_423 rfl (lv_at hl 1 rfl) ?_
  refine lv_aload_n (pc := 424) hC.x hC.b d_law_424 rfl (lv_at hl 3 rfl) ?_
  refine lv_iload_n (pc := 425) hC.x hC.b d_law_425 rfl (lv_at hl 0 rfl) ?_
  refine lv_iconst (pc := 426) (v := 1) hC.x hC.b d_law_426 (by decide) ?_
  refine lv_iadd (pc := 427) hC.x hC.b d_law_427 ?_
  refine tp_i (y := nI (5 * t + 1)) (nI_add _ _) ?_
  refine sld (pc := 428) (k := 5 * t + 1) hC hX hbl hL.2.2.1 rfl (by omega) (by omega) d_law_428 ?_
  refine lv_i2l (pc := 429) hC.x hC.b d_law_429 rfl ?_
  refine lv_bipush (pc := 430) (v := 32) hC.x hC.b d_law_430 (by decide) ?_
  refine lv_lshl (pc := 432) hC.x hC.b d_law_432 rfl ?_
  refine lv_aload_n (pc := 433) hC.x hC.b d_law_433 rfl (lv_at hl 3 rfl) ?_
  refine lv_iload_n (pc := 434) hC.x hC.b d_law_434 rfl (lv_at hl 0 rfl) ?_
  refine lv_iconst (pc := 435) (v := 2) hC.x hC.b d_law_435 (by decide) ?_
  refine lv_iadd (pc := 436) hC.x hC.b d_law_436 ?_
  refine tp_i (y := nI (5 * t + 2)) (nI_add _ _) ?_
  refine sld (pc := 437) (k := 5 * t + 2) hC hX hbl hL.2.2.1 rfl (by omega) (by omega) d_law_437 ?_
  refine lv_i2l (pc := 438) hC.x hC.b d_law_438 rfl ?_
  refine lv_ldc2 (pc := 439) hC.x hC.b hC.o (hC.t _ tw_451) d_law_439 ?_
  refine lv_land (pc := 442) hC.x hC.b d_law_442 ?_
  refine lv_lor (pc := 443) hC.x hC.b d_law_443 ?_
  refine mcall_l (pc := 444) (runV hC (c_GM_gap l hL.2.1 hI (F := 100000002) (Nat.le_refl _)) tw_411 tw_408 tw_409 tw_410 tw_2 ⟨by decide +kernel, by decide +kernel, rfl⟩ rfl rfl (ci := 4) rfl rfl (by obtain ⟨_, _, _, _, _, _, _, hP, _⟩ := hL.2.1; exact hP 0 _ rfl) hl.1 rfl (Nat.le_of_ble_eq_true rfl) ⟨Nat.le_of_ble_eq_true rfl, Nat.le_of_ble_eq_true rfl⟩ (by show cells + 0 ≤ 600000 ∧ slots + 0 ≤ 7302250; omega) d_law_444) hL (fun r2 H2 locs hr2 hL => ?_)
  refine lc_eq (pc := 447) (tgt := 607) hC d_law_447 d_law_448 (by decide) (fun c_447 => ?_) (fun c_447 => ?_)
  · refine W.widen (k := cells + 3) (n := slots + 403) (by omega) (by omega) ?_
    exact next _ _ _ (hI) hL
  · exact absurd (hr1.trans hr2.symm) c_447
set_option maxHeartbeats 4000000 in
set_option maxRecDepth 100000 in
theorem law_c10 {b Ln t : Nat} {xs : Nat → Int32} (hC : CX p m c code 4 s args "GradeRowsLaw" D dA) (hX : va_X b Ln xs s s.heap) (hbl : b < s.heap.size) (ht : 5 * t + 5 ≤ Ln) (hLn : Ln ≤ 2560) (hl : lv_has ls 4 [(3, .int (nI (5 * t))), (2, .ref (md 0)), (1, .ref (ad 0)), (0, .ref b)]) (hI : Inv S) (hL : LI D dA ad md m0 lo hi s.heap S S H locs) (hcl : cells + 3 ≤ 600000) (hsl : slots + 403 ≤ 7302250) (next : ∀ (S1 : St) (H1 : Heap) (locs1 : List Loc), Inv S1 → LI D dA ad md m0 lo hi s.heap S1 S1 H1 locs1 → W p l e room_1 s m args below meth c H1 locs1 (cells + 3) (slots + 403) Q (F0 m 607 ls [])) : W p l e room_1 s m args below meth c H locs cells slots Q (F0 m 453 ls []) := by
  refine lv_aload_n (pc := 453) hC.x hC.b d_law_453 rfl (lv_at hl 2 rfl) ?_
  refine lv_aload_n (pc := 454) hC.x hC.b d_law_454 rfl (lv_at hl 3 rfl) ?_
  refine lv_iload_n (pc := 455) hC.x hC.b d_law_455 rfl (lv_at hl 0 rfl) ?_
  refine lv_iconst (pc := 456) (v := 1) hC.x hC.b d_law_456 (by decide) ?_
  refine lv_iadd (pc := 457) hC.x hC.b d_law_457 ?_
  refine tp_i (y := nI (5 * t + 1)) (nI_add _ _) ?_
  refine sld (pc := 458) (k := 5 * t + 1) hC hX hbl hL.2.2.1 rfl (by omega) (by omega) d_law_458 ?_
  obtain ⟨sf, kf, L9, hGX⟩ := id hL.1
  refine vp_callSi (pc := 459) (va_Run.run (runV hC (c_GR_stuck l hGX hI) tw_174 tw_171 tw_172 tw_173 tw_1 ⟨by decide +kernel, by decide +kernel, rfl⟩ rfl rfl (ci := 0) rfl rfl (by obtain ⟨_, _, _, hP, _⟩ := hL.1; exact hP 0 _ rfl) hl.1 rfl (Nat.le_of_ble_eq_true rfl) ⟨Nat.le_of_ble_eq_true rfl, Nat.le_of_ble_eq_true rfl⟩ (by show cells + 0 ≤ 600000 ∧ slots + 0 ≤ 7302250; omega) d_law_459)) (fun r1 hr1 => ?_)
  refine lv_aload_n (pc := 462) hC.x hC.b d_law_462 rfl (lv_at hl 1 rfl) ?_
  refine lv_aload_n (pc := 463) hC.x hC.b d_law_463 rfl (lv_at hl 3 rfl) ?_
  refine lv_iload_n (pc := 464) hC.x hC.b d_law_464 rfl (lv_at hl 0 rfl) ?_
  refine lv_iconst (pc := 465) (v := 1) hC.x hC.b d_law_465 (by decide) ?_
  refine lv_iadd (pc := 466) hC.x hC.b d_law_466 ?_
  refine tp_i (y := nI (5 * t + 1)) (nI_add _ _) ?_
  refine sld (pc := 467) (k := 5 * t + 1) hC hX hbl hL.2.2.1 rfl (by omega) (by omega) d_law_467 ?_
  refine mcall_i (pc := 468) (runV hC (c_GM_stuck l hL.2.1 hI) tw_415 tw_412 tw_413 tw_414 tw_2 ⟨by decide +kernel, by decide +kernel, rfl⟩ rfl rfl (ci := 4) rfl rfl (by obtain ⟨_, _, _, _, _, _, _, hP, _⟩ := hL.2.1; exact hP 0 _ rfl) hl.1 rfl (Nat.le_of_ble_eq_true rfl) ⟨Nat.le_of_ble_eq_true rfl, Nat.le_of_ble_eq_true rfl⟩ (by show cells + 0 ≤ 600000 ∧ slots + 0 ≤ 7302250; omega) d_law_468) hL (fun r2 H2 locs hr2 hL => ?_)
  refine lv_icmp_eq (pc := 471) (tgt := 607) hC.x hC.b d_law_471 (by decide) (fun c_471 => ?_) (fun c_471 => ?_)
  · refine W.widen (k := cells + 3) (n := slots + 403) (by omega) (by omega) ?_
    exact next _ _ _ (hI) hL
  · exact absurd (hr1.trans hr2.symm) c_471
set_option maxHeartbeats 4000000 in
set_option maxRecDepth 100000 in
theorem law_c11 {b Ln t : Nat} {xs : Nat → Int32} (hC : CX p m c code 4 s args "GradeRowsLaw" D dA) (hX : va_X b Ln xs s s.heap) (hbl : b < s.heap.size) (ht : 5 * t + 5 ≤ Ln) (hLn : Ln ≤ 2560) (hl : lv_has ls 4 [(3, .int (nI (5 * t))), (2, .ref (md 0)), (1, .ref (ad 0)), (0, .ref b)]) (hI : Inv S) (hL : LI D dA ad md m0 lo hi s.heap S S H locs) (hcl : cells + 3 ≤ 600000) (hsl : slots + 403 ≤ 7302250) (next : ∀ (S1 : St) (H1 : Heap) (locs1 : List Loc), Inv S1 → LI D dA ad md m0 lo hi s.heap S1 S1 H1 locs1 → W p l e room_1 s m args below meth c H1 locs1 (cells + 3) (slots + 403) Q (F0 m 607 ls [])) : W p l e room_1 s m args below meth c H locs cells slots Q (F0 m 476 ls []) := by
  refine lv_aload_n (pc := 476) hC.x hC.b d_law_476 rfl (lv_at hl 2 rfl) ?_
  obtain ⟨sf, kf, L9, hGX⟩ := id hL.1
  refine vp_callSi (pc := 477) (va_Run.run (runV hC (c_GR_run l hGX hI) tw_198 tw_195 tw_196 tw_197 tw_1 ⟨by decide +kernel, by decide +kernel, rfl⟩ rfl rfl (ci := 0) rfl rfl (by obtain ⟨_, _, _, hP, _⟩ := hL.1; exact hP 0 _ rfl) hl.1 rfl (Nat.le_of_ble_eq_true rfl) ⟨Nat.le_of_ble_eq_true rfl, Nat.le_of_ble_eq_true rfl⟩ (by show cells + 0 ≤ 600000 ∧ slots + 0 ≤ 7302250; omega) d_law_477)) (fun r1 hr1 => ?_)
  refine lv_aload_n (pc := 480) hC.x hC.b d_law_480 rfl (lv_at hl 1 rfl) ?_
  refine mcall_i (pc := 481) (runV hC (c_GM_run l hL.2.1 hI) tw_419 tw_416 tw_417 tw_418 tw_2 ⟨by decide +kernel, by decide +kernel, rfl⟩ rfl rfl (ci := 4) rfl rfl (by obtain ⟨_, _, _, _, _, _, _, hP, _⟩ := hL.2.1; exact hP 0 _ rfl) hl.1 rfl (Nat.le_of_ble_eq_true rfl) ⟨Nat.le_of_ble_eq_true rfl, Nat.le_of_ble_eq_true rfl⟩ (by show cells + 0 ≤ 600000 ∧ slots + 0 ≤ 7302250; omega) d_law_481) hL (fun r2 H2 locs hr2 hL => ?_)
  refine lv_icmp_eq (pc := 484) (tgt := 607) hC.x hC.b d_law_484 (by decide) (fun c_484 => ?_) (fun c_484 => ?_)
  · refine W.widen (k := cells + 3) (n := slots + 403) (by omega) (by omega) ?_
    exact next _ _ _ (hI) hL
  · exact absurd (hr1.trans hr2.symm) c_484
set_option maxHeartbeats 4000000 in
set_option maxRecDepth 100000 in
theorem law_c12 {b Ln t : Nat} {xs : Nat → Int32} (hC : CX p m c code 4 s args "GradeRowsLaw" D dA) (hX : va_X b Ln xs s s.heap) (hbl : b < s.heap.size) (ht : 5 * t + 5 ≤ Ln) (hLn : Ln ≤ 2560) (hl : lv_has ls 4 [(3, .int (nI (5 * t))), (2, .ref (md 0)), (1, .ref (ad 0)), (0, .ref b)]) (hI : Inv S) (hL : LI D dA ad md m0 lo hi s.heap S S H locs) (hcl : cells + 3 ≤ 600000) (hsl : slots + 403 ≤ 7302250) (next : ∀ (S1 : St) (H1 : Heap) (locs1 : List Loc), Inv S1 → LI D dA ad md m0 lo hi s.heap S1 S1 H1 locs1 → W p l e room_1 s m args below meth c H1 locs1 (cells + 3) (slots + 403) Q (F0 m 607 ls [])) : W p l e room_1 s m args below meth c H locs cells slots Q (F0 m 489 ls []) := by
  refine lv_aload_n (pc := 489) hC.x hC.b d_law_489 rfl (lv_at hl 2 rfl) ?_
  obtain ⟨sf, kf, L9, hGX⟩ := id hL.1
  refine vp_callSi (pc := 490) (va_Run.run (runV hC (c_GR_hardest l hGX hI) tw_206 tw_203 tw_204 tw_205 tw_1 ⟨by decide +kernel, by decide +kernel, rfl⟩ rfl rfl (ci := 0) rfl rfl (by obtain ⟨_, _, _, hP, _⟩ := hL.1; exact hP 0 _ rfl) hl.1 rfl (Nat.le_of_ble_eq_true rfl) ⟨Nat.le_of_ble_eq_true rfl, Nat.le_of_ble_eq_true rfl⟩ (by show cells + 0 ≤ 600000 ∧ slots + 0 ≤ 7302250; omega) d_law_490)) (fun r1 hr1 => ?_)
  refine lv_aload_n (pc := 493) hC.x hC.b d_law_493 rfl (lv_at hl 1 rfl) ?_
  refine mcall_i (pc := 494) (runV hC (c_GM_hardest l hL.2.1 hI) tw_423 tw_420 tw_421 tw_422 tw_2 ⟨by decide +kernel, by decide +kernel, rfl⟩ rfl rfl (ci := 4) rfl rfl (by obtain ⟨_, _, _, _, _, _, _, hP, _⟩ := hL.2.1; exact hP 0 _ rfl) hl.1 rfl (Nat.le_of_ble_eq_true rfl) ⟨Nat.le_of_ble_eq_true rfl, Nat.le_of_ble_eq_true rfl⟩ (by show cells + 0 ≤ 600000 ∧ slots + 0 ≤ 7302250; omega) d_law_494) hL (fun r2 H2 locs hr2 hL => ?_)
  refine lv_icmp_eq (pc := 497) (tgt := 607) hC.x hC.b d_law_497 (by decide) (fun c_497 => ?_) (fun c_497 => ?_)
  · refine W.widen (k := cells + 3) (n := slots + 403) (by omega) (by omega) ?_
    exact next _ _ _ (hI) hL
  · exact absurd (hr1.trans hr2.symm) c_497
set_option maxHeartbeats 4000000 in
set_option maxRecDepth 100000 in
theorem law_c13 {b Ln t : Nat} {xs : Nat → Int32} (hC : CX p m c code 4 s args "GradeRowsLaw" D dA) (hX : va_X b Ln xs s s.heap) (hbl : b < s.heap.size) (ht : 5 * t + 5 ≤ Ln) (hLn : Ln ≤ 2560) (hl : lv_has ls 4 [(3, .int (nI (5 * t))), (2, .ref (md 0)), (1, .ref (ad 0)), (0, .ref b)]) (hI : Inv S) (hL : LI D dA ad md m0 lo hi s.heap S S H locs) (hcl : cells + 3 ≤ 600000) (hsl : slots + 403 ≤ 7302250) (next : ∀ (S1 : St) (H1 : Heap) (locs1 : List Loc), Inv S1 → LI D dA ad md m0 lo hi s.heap S1 S1 H1 locs1 → W p l e room_1 s m args below meth c H1 locs1 (cells + 3) (slots + 403) Q (F0 m 607 ls [])) : W p l e room_1 s m args below meth c H locs cells slots Q (F0 m 502 ls []) := by
  refine lv_aload_n (pc := 502) hC.x hC.b d_law_502 rfl (lv_at hl 2 rfl) ?_
  refine lv_aload_n (pc := 503) hC.x hC.b d_law_503 rfl (lv_at hl 3 rfl) ?_
  refine lv_iload_n (pc := 504) hC.x hC.b d_law_504 rfl (lv_at hl 0 rfl) ?_
  refine lv_iconst (pc := 505) (v := 1) hC.x hC.b d_law_505 (by decide) ?_
  refine lv_iadd (pc := 506) hC.x hC.b d_law_506 ?_
  refine tp_i (y := nI (5 * t + 1)) (nI_add _ _) ?_
  refine sld (pc := 507) (k := 5 * t + 1) hC hX hbl hL.2.2.1 rfl (by omega) (by omega) d_law_507 ?_
  refine xcall_i (pc := 508) (runV hC (c_GR_go l hL.1 hI) tw_213 tw_210 tw_211 tw_212 tw_1 ⟨by decide +kernel, by decide +kernel, rfl⟩ rfl rfl (ci := 0) rfl rfl (by obtain ⟨_, _, _, hP, _⟩ := hL.1; exact hP 0 _ rfl) hl.1 rfl (Nat.le_of_ble_eq_true rfl) ⟨Nat.le_of_ble_eq_true rfl, Nat.le_of_ble_eq_true rfl⟩ (by show cells + 0 ≤ 600000 ∧ slots + 0 ≤ 7302250; omega) d_law_508) hL (fun r1 H1 locs hr1 hL => ?_)
  refine lv_aload_n (pc := 511) hC.x hC.b d_law_511 rfl (lv_at hl 1 rfl) ?_
  refine lv_aload_n (pc := 512) hC.x hC.b d_law_512 rfl (lv_at hl 3 rfl) ?_
  refine lv_iload_n (pc := 513) hC.x hC.b d_law_513 rfl (lv_at hl 0 rfl) ?_
  refine lv_iconst (pc := 514) (v := 1) hC.x hC.b d_law_514 (by decide) ?_
  refine lv_iadd (pc := 515) hC.x hC.b d_law_515 ?_
  refine tp_i (y := nI (5 * t + 1)) (nI_add _ _) ?_
  refine sld (pc := 516) (k := 5 * t + 1) hC hX hbl hL.2.2.1 rfl (by omega) (by omega) d_law_516 ?_
  refine mcall_i (pc := 517) (runV hC (c_GM_go l hL.2.1 hI) tw_427 tw_424 tw_425 tw_426 tw_2 ⟨by decide +kernel, by decide +kernel, rfl⟩ rfl rfl (ci := 4) rfl rfl (by obtain ⟨_, _, _, _, _, _, _, hP, _⟩ := hL.2.1; exact hP 0 _ rfl) hl.1 rfl (Nat.le_of_ble_eq_true rfl) ⟨Nat.le_of_ble_eq_true rfl, Nat.le_of_ble_eq_true rfl⟩ (by show cells + 0 + 0 ≤ 600000 ∧ slots + 0 + 0 ≤ 7302250; omega) d_law_517) hL (fun r2 H2 locs hr2 hL => ?_)
  refine lv_icmp_eq (pc := 520) (tgt := 607) hC.x hC.b d_law_520 (by decide) (fun c_520 => ?_) (fun c_520 => ?_)
  · refine W.widen (k := cells + 3) (n := slots + 403) (by omega) (by omega) ?_
    exact next _ _ _ (Inv_go hI _) hL
  · exact absurd (hr1.trans hr2.symm) c_520
set_option maxHeartbeats 4000000 in
set_option maxRecDepth 100000 in
theorem law_c14 {b Ln t : Nat} {xs : Nat → Int32} (hC : CX p m c code 4 s args "GradeRowsLaw" D dA) (hX : va_X b Ln xs s s.heap) (hbl : b < s.heap.size) (ht : 5 * t + 5 ≤ Ln) (hLn : Ln ≤ 2560) (hl : lv_has ls 4 [(3, .int (nI (5 * t))), (2, .ref (md 0)), (1, .ref (ad 0)), (0, .ref b)]) (hI : Inv S) (hL : LI D dA ad md m0 lo hi s.heap S S H locs) (hcl : cells + 3 ≤ 600000) (hsl : slots + 403 ≤ 7302250) (next : ∀ (S1 : St) (H1 : Heap) (locs1 : List Loc), Inv S1 → LI D dA ad md m0 lo hi s.heap S1 S1 H1 locs1 → W p l e room_1 s m args below meth c H1 locs1 (cells + 3) (slots + 403) Q (F0 m 607 ls [])) : W p l e room_1 s m args below meth c H locs cells slots Q (F0 m 525 ls []) := by
  refine lv_aload_n (pc := 525) hC.x hC.b d_law_525 rfl (lv_at hl 2 rfl) ?_
  refine lv_aload_n (pc := 526) hC.x hC.b d_law_526 rfl (lv_at hl 3 rfl) ?_
  refine lv_iload_n (pc := 527) hC.x hC.b d_law_527 rfl (lv_at hl 0 rfl) ?_
  refine lv_iconst (pc := 528) (v := 1) hC.x hC.b d_law_528 (by decide) ?_
  refine lv_iadd (pc := 529) hC.x hC.b d_law_529 ?_
  refine tp_i (y := nI (5 * t + 1)) (nI_add _ _) ?_
  refine sld (pc := 530) (k := 5 * t + 1) hC hX hbl hL.2.2.1 rfl (by omega) (by omega) d_law_530 ?_
  refine xcall_i (pc := 531) (runV hC (c_GR_hint l hL.1 hI) tw_217 tw_214 tw_215 tw_216 tw_1 ⟨by decide +kernel, by decide +kernel, rfl⟩ rfl rfl (ci := 0) rfl rfl (by obtain ⟨_, _, _, hP, _⟩ := hL.1; exact hP 0 _ rfl) hl.1 rfl (Nat.le_of_ble_eq_true rfl) ⟨Nat.le_of_ble_eq_true rfl, Nat.le_of_ble_eq_true rfl⟩ (by show cells + 0 ≤ 600000 ∧ slots + 0 ≤ 7302250; omega) d_law_531) hL (fun r1 H1 locs hr1 hL => ?_)
  refine lv_aload_n (pc := 534) hC.x hC.b d_law_534 rfl (lv_at hl 1 rfl) ?_
  refine lv_aload_n (pc := 535) hC.x hC.b d_law_535 rfl (lv_at hl 3 rfl) ?_
  refine lv_iload_n (pc := 536) hC.x hC.b d_law_536 rfl (lv_at hl 0 rfl) ?_
  refine lv_iconst (pc := 537) (v := 1) hC.x hC.b d_law_537 (by decide) ?_
  refine lv_iadd (pc := 538) hC.x hC.b d_law_538 ?_
  refine tp_i (y := nI (5 * t + 1)) (nI_add _ _) ?_
  refine sld (pc := 539) (k := 5 * t + 1) hC hX hbl hL.2.2.1 rfl (by omega) (by omega) d_law_539 ?_
  refine mcall_i (pc := 540) (runV hC (c_GM_hint l hL.2.1 hI) tw_431 tw_428 tw_429 tw_430 tw_2 ⟨by decide +kernel, by decide +kernel, rfl⟩ rfl rfl (ci := 4) rfl rfl (by obtain ⟨_, _, _, _, _, _, _, hP, _⟩ := hL.2.1; exact hP 0 _ rfl) hl.1 rfl (Nat.le_of_ble_eq_true rfl) ⟨Nat.le_of_ble_eq_true rfl, Nat.le_of_ble_eq_true rfl⟩ (by show cells + 0 + 0 ≤ 600000 ∧ slots + 0 + 0 ≤ 7302250; omega) d_law_540) hL (fun r2 H2 locs hr2 hL => ?_)
  refine lv_icmp_eq (pc := 543) (tgt := 607) hC.x hC.b d_law_543 (by decide) (fun c_543 => ?_) (fun c_543 => ?_)
  · refine W.widen (k := cells + 3) (n := slots + 403) (by omega) (by omega) ?_
    exact next _ _ _ (Inv_hint hI _) hL
  · exact absurd (hr1.trans hr2.symm) c_543
set_option maxHeartbeats 4000000 in
set_option maxRecDepth 100000 in
theorem law_c15 {b Ln t : Nat} {xs : Nat → Int32} (hC : CX p m c code 4 s args "GradeRowsLaw" D dA) (hX : va_X b Ln xs s s.heap) (hbl : b < s.heap.size) (ht : 5 * t + 5 ≤ Ln) (hLn : Ln ≤ 2560) (hl : lv_has ls 4 [(3, .int (nI (5 * t))), (2, .ref (md 0)), (1, .ref (ad 0)), (0, .ref b)]) (hI : Inv S) (hL : LI D dA ad md m0 lo hi s.heap S S H locs) (hcl : cells + 3 ≤ 600000) (hsl : slots + 403 ≤ 7302250) (next : ∀ (S1 : St) (H1 : Heap) (locs1 : List Loc), Inv S1 → LI D dA ad md m0 lo hi s.heap S1 S1 H1 locs1 → W p l e room_1 s m args below meth c H1 locs1 (cells + 3) (slots + 403) Q (F0 m 607 ls [])) : W p l e room_1 s m args below meth c H locs cells slots Q (F0 m 548 ls []) := by
  refine lv_aload_n (pc := 548) hC.x hC.b d_law_548 rfl (lv_at hl 2 rfl) ?_
  refine xcall_i (pc := 549) (runV hC (c_GR_keep l hL.1 hI hL.fr) tw_230 tw_227 tw_228 tw_229 tw_1 ⟨by decide +kernel, by decide +kernel, rfl⟩ rfl rfl (ci := 0) rfl rfl (by obtain ⟨_, _, _, hP, _⟩ := hL.1; exact hP 0 _ rfl) hl.1 rfl (Nat.le_of_ble_eq_true rfl) ⟨Nat.le_of_ble_eq_true rfl, Nat.le_of_ble_eq_true rfl⟩ (by show cells + 3 ≤ 600000 ∧ slots + 403 ≤ 7302250; omega) d_law_549) hL (fun r1 H1 locs hr1 hL => ?_)
  refine lv_aload_n (pc := 552) hC.x hC.b d_law_552 rfl (lv_at hl 1 rfl) ?_
  refine mcall_i (pc := 553) (runV hC (c_GM_keep l hL.2.1 hI) tw_435 tw_432 tw_433 tw_434 tw_2 ⟨by decide +kernel, by decide +kernel, rfl⟩ rfl rfl (ci := 4) rfl rfl (by obtain ⟨_, _, _, _, _, _, _, hP, _⟩ := hL.2.1; exact hP 0 _ rfl) hl.1 rfl (Nat.le_of_ble_eq_true rfl) ⟨Nat.le_of_ble_eq_true rfl, Nat.le_of_ble_eq_true rfl⟩ (by show cells + 3 + 0 ≤ 600000 ∧ slots + 403 + 0 ≤ 7302250; omega) d_law_553) hL (fun r2 H2 locs hr2 hL => ?_)
  refine lv_icmp_eq (pc := 556) (tgt := 607) hC.x hC.b d_law_556 (by decide) (fun c_556 => ?_) (fun c_556 => ?_)
  · refine W.widen (k := cells + 3) (n := slots + 403) (by omega) (by omega) ?_
    exact next _ _ _ (Inv_keep hI) hL
  · exact absurd (hr1.trans hr2.symm) c_556
set_option maxHeartbeats 4000000 in
set_option maxRecDepth 100000 in
theorem law_c16 {b Ln t : Nat} {xs : Nat → Int32} (hC : CX p m c code 4 s args "GradeRowsLaw" D dA) (hX : va_X b Ln xs s s.heap) (hbl : b < s.heap.size) (ht : 5 * t + 5 ≤ Ln) (hLn : Ln ≤ 2560) (hl : lv_has ls 4 [(3, .int (nI (5 * t))), (2, .ref (md 0)), (1, .ref (ad 0)), (0, .ref b)]) (hI : Inv S) (hL : LI D dA ad md m0 lo hi s.heap S S H locs) (hcl : cells + 3 ≤ 600000) (hsl : slots + 403 ≤ 7302250) (next : ∀ (S1 : St) (H1 : Heap) (locs1 : List Loc), Inv S1 → LI D dA ad md m0 lo hi s.heap S1 S1 H1 locs1 → W p l e room_1 s m args below meth c H1 locs1 (cells + 3) (slots + 403) Q (F0 m 607 ls [])) : W p l e room_1 s m args below meth c H locs cells slots Q (F0 m 561 ls []) := by
  refine lv_aload_n (pc := 561) hC.x hC.b d_law_561 rfl (lv_at hl 2 rfl) ?_
  refine lv_aload_n (pc := 562) hC.x hC.b d_law_562 rfl (lv_at hl 3 rfl) ?_
  refine lv_iload_n (pc := 563) hC.x hC.b d_law_563 rfl (lv_at hl 0 rfl) ?_
  refine lv_iconst (pc := 564) (v := 1) hC.x hC.b d_law_564 (by decide) ?_
  refine lv_iadd (pc := 565) hC.x hC.b d_law_565 ?_
  refine tp_i (y := nI (5 * t + 1)) (nI_add _ _) ?_
  refine sld (pc := 566) (k := 5 * t + 1) hC hX hbl hL.2.2.1 rfl (by omega) (by omega) d_law_566 ?_
  refine xcall_i (pc := 567) (runV hC (c_GR_compare l hL.1 hI hL.fr) tw_270 tw_267 tw_268 tw_269 tw_1 ⟨by decide +kernel, by decide +kernel, rfl⟩ rfl rfl (ci := 0) rfl rfl (by obtain ⟨_, _, _, hP, _⟩ := hL.1; exact hP 0 _ rfl) hl.1 rfl (Nat.le_of_ble_eq_true rfl) ⟨Nat.le_of_ble_eq_true rfl, Nat.le_of_ble_eq_true rfl⟩ (by show cells + 1 ≤ 600000 ∧ slots + 200 ≤ 7302250; omega) d_law_567) hL (fun r1 H1 locs hr1 hL => ?_)
  refine lv_aload_n (pc := 570) hC.x hC.b d_law_570 rfl (lv_at hl 1 rfl) ?_
  refine lv_aload_n (pc := 571) hC.x hC.b d_law_571 rfl (lv_at hl 3 rfl) ?_
  refine lv_iload_n (pc := 572) hC.x hC.b d_law_572 rfl (lv_at hl 0 rfl) ?_
  refine lv_iconst (pc := 573) (v := 1) hC.x hC.b d_law_573 (by decide) ?_
  refine lv_iadd (pc := 574) hC.x hC.b d_law_574 ?_
  refine tp_i (y := nI (5 * t + 1)) (nI_add _ _) ?_
  refine sld (pc := 575) (k := 5 * t + 1) hC hX hbl hL.2.2.1 rfl (by omega) (by omega) d_law_575 ?_
  refine mcall_i (pc := 576) (runV hC (c_GM_compare l hL.2.1 hI) tw_439 tw_436 tw_437 tw_438 tw_2 ⟨by decide +kernel, by decide +kernel, rfl⟩ rfl rfl (ci := 4) rfl rfl (by obtain ⟨_, _, _, _, _, _, _, hP, _⟩ := hL.2.1; exact hP 0 _ rfl) hl.1 rfl (Nat.le_of_ble_eq_true rfl) ⟨Nat.le_of_ble_eq_true rfl, Nat.le_of_ble_eq_true rfl⟩ (by show cells + 1 + 0 ≤ 600000 ∧ slots + 200 + 0 ≤ 7302250; omega) d_law_576) hL (fun r2 H2 locs hr2 hL => ?_)
  refine lv_icmp_eq (pc := 579) (tgt := 607) hC.x hC.b d_law_579 (by decide) (fun c_579 => ?_) (fun c_579 => ?_)
  · refine W.widen (k := cells + 3) (n := slots + 403) (by omega) (by omega) ?_
    exact next _ _ _ (hI) hL
  · exact absurd (cmp_eq hI hr1 hr2) c_579
set_option maxHeartbeats 4000000 in
set_option maxRecDepth 100000 in
theorem law_c17 {b Ln t : Nat} {xs : Nat → Int32} (hC : CX p m c code 4 s args "GradeRowsLaw" D dA) (hX : va_X b Ln xs s s.heap) (hbl : b < s.heap.size) (ht : 5 * t + 5 ≤ Ln) (hLn : Ln ≤ 2560) (hl : lv_has ls 4 [(3, .int (nI (5 * t))), (2, .ref (md 0)), (1, .ref (ad 0)), (0, .ref b)]) (hI : Inv S) (hL : LI D dA ad md m0 lo hi s.heap S S H locs) (hcl : cells + 3 ≤ 600000) (hsl : slots + 403 ≤ 7302250) (next : ∀ (S1 : St) (H1 : Heap) (locs1 : List Loc), Inv S1 → LI D dA ad md m0 lo hi s.heap S1 S1 H1 locs1 → W p l e room_1 s m args below meth c H1 locs1 (cells + 3) (slots + 403) Q (F0 m 607 ls [])) : W p l e room_1 s m args below meth c H locs cells slots Q (F0 m 584 ls []) := by
  refine lv_aload_n (pc := 584) hC.x hC.b d_law_584 rfl (lv_at hl 2 rfl) ?_
  refine lv_aload_n (pc := 585) hC.x hC.b d_law_585 rfl (lv_at hl 3 rfl) ?_
  refine lv_iload_n (pc := 586) hC.x hC.b d_law_586 rfl (lv_at hl 0 rfl) ?_
  refine lv_iconst (pc := 587) (v := 1) hC.x hC.b d_law_587 (by decide) ?_
  refine lv_iadd (pc := 588) hC.x hC.b d_law_588 ?_
  refine tp_i (y := nI (5 * t + 1)) (nI_add _ _) ?_
  refine sld (pc := 589) (k := 5 * t + 1) hC hX hbl hL.2.2.1 rfl (by omega) (by omega) d_law_589 ?_
  refine xcall_i (pc := 590) (runV hC (c_GR_same l hL.1 hI hL.fr) tw_285 tw_282 tw_283 tw_284 tw_1 ⟨by decide +kernel, by decide +kernel, rfl⟩ rfl rfl (ci := 0) rfl rfl (by obtain ⟨_, _, _, hP, _⟩ := hL.1; exact hP 0 _ rfl) hl.1 rfl (Nat.le_of_ble_eq_true rfl) ⟨Nat.le_of_ble_eq_true rfl, Nat.le_of_ble_eq_true rfl⟩ (by show cells + 1 ≤ 600000 ∧ slots + 200 ≤ 7302250; omega) d_law_590) hL (fun r1 H1 locs hr1 hL => ?_)
  refine lv_aload_n (pc := 593) hC.x hC.b d_law_593 rfl (lv_at hl 1 rfl) ?_
  refine lv_aload_n (pc := 594) hC.x hC.b d_law_594 rfl (lv_at hl 3 rfl) ?_
  refine lv_iload_n (pc := 595) hC.x hC.b d_law_595 rfl (lv_at hl 0 rfl) ?_
  refine lv_iconst (pc := 596) (v := 1) hC.x hC.b d_law_596 (by decide) ?_
  refine lv_iadd (pc := 597) hC.x hC.b d_law_597 ?_
  refine tp_i (y := nI (5 * t + 1)) (nI_add _ _) ?_
  refine sld (pc := 598) (k := 5 * t + 1) hC hX hbl hL.2.2.1 rfl (by omega) (by omega) d_law_598 ?_
  refine mcall_i (pc := 599) (runV hC (c_GM_same l hL.2.1 hI) tw_446 tw_443 tw_444 tw_445 tw_2 ⟨by decide +kernel, by decide +kernel, rfl⟩ rfl rfl (ci := 4) rfl rfl (by obtain ⟨_, _, _, _, _, _, _, hP, _⟩ := hL.2.1; exact hP 0 _ rfl) hl.1 rfl (Nat.le_of_ble_eq_true rfl) ⟨Nat.le_of_ble_eq_true rfl, Nat.le_of_ble_eq_true rfl⟩ (by show cells + 1 + 0 ≤ 600000 ∧ slots + 200 + 0 ≤ 7302250; omega) d_law_599) hL (fun r2 H2 locs hr2 hL => ?_)
  refine lv_icmp_eq (pc := 602) (tgt := 607) hC.x hC.b d_law_602 (by decide) (fun c_602 => ?_) (fun c_602 => ?_)
  · refine W.widen (k := cells + 3) (n := slots + 403) (by omega) (by omega) ?_
    exact next _ _ _ (hI) hL
  · exact absurd (same_eq hI hr1 hr2) c_602
end LAWC
end
section
/-! THE CLAIM OUT OF ONE WALK OF THE LAW'S BODY. Your part is whole_start (and what it stands on); all else here is the same for every law, but numbers. -/
def R_law : String := "GradeRowsLaw"
def lw_P (b : Addr) (xs : List Int32) (args : Array Value) (s : State) : Prop := args = #[.ref b] ∧ s.IntsAt b xs ∧ xs.length ≤ 2560 ∧ (Jvm.Cond.and given_1 narrow_1).before args s = true
def lw_Q (_ : Array Value) (s : State) (o : Outcome) (t : State) : Prop := o = .returned (some (.int 1)) ∧ Framed s o t [] 600000 7302250
def lw_Z (below : List Frame) (a : Array Value) (s : State) : State → Prop := fun t => ∃ o, t.status = .running ∧ Ended t below o ∧ lw_Q a s o t
/-- the law's own end, with 1 on the stack, nothing written that was there before, its room as the claim has it -/
theorem lw_ret {p : Program} {l : Launch} {e : Env} {s : State} {m : MethodId} {below : List Frame} {meth : Method} {c : Code} {b : Nat} (hx : p.tables.exec = Jvm.exec) (hb : c.code = code) (hr : meth.sig.returnType = ret) (hlocks : meth.locks = false) {pc : Nat} {H : Heap} {ls : Array Slot} (hdg : decode code pc = .ok (.ireturn, 1)) : W p l e room_1 s m #[Value.ref b] below meth c H [] 600000 7302250 (lw_Z below #[Value.ref b] s) (F0 m pc ls [.int 1]) := by
  intro T hT X
  obtain ⟨fs, hret, hrun, hended, hW, hframe⟩ := X.leave (v := some (.int 1)) (hlocks := hlocks) (fun h => by rw [hr] at h; cases h)
  have hmeth' : T.vm.method? m = some meth := X.method'
  refine ⟨T.setFrames fs, ?_, .returned (some (.int 1)), hrun, hended, rfl, ⟨_, rfl⟩, hW, hframe⟩
  jvm_step X.here [X.here.top, hx, hb, hdg, hmeth', hr, ret, narrow_b1]
  (try refine ⟨rfl, ?_⟩); (try refine ⟨rfl, ?_⟩)
  first | (intro acts; rw [hret _ acts rfl rfl rfl]) | rw [hret _ _ rfl rfl rfl]
  exact Steps.refl _
/-- what holds at the law's entry: the machine, the code, the tables' words (any of lw_tbl by 'hts w (by decide +kernel)'), the script of L ints xs at the cell b, what the Statement gives of the start (any of its parts by flat_of_before) -/
def lw_At (p : Program) (s : State) (m : MethodId) (meth : Method) (c : Code) (b L : Nat) (xs : Nat → Int32) : Prop :=
  p.tables.exec = Jvm.exec ∧ c.code = code ∧ meth.sig.returnType = ret ∧ c.maxLocals = 4 ∧ s.vm.findClass R_law = some m.cls ∧ (∀ w ∈ lw_tbl, w.before #[Value.ref b] s = true) ∧ va_X b L xs s s.heap ∧ b < s.heap.size ∧ meth.locks = false ∧ (Jvm.Cond.and given_1 narrow_1).before #[Value.ref b] s = true
-- ===== YOUR PART BEGINS =====
/-- a loop whose room grows -/
theorem lpC {G : Heap → List Loc → Nat → Nat → (State → Prop) → JFrame → Prop} {Q : State → Prop} {m : MethodId} {pc : Nat} {st : List Value} (cf sf : Nat → Nat) (I : Nat → Heap → List Loc → Array Slot → Prop) (N : Nat) (hend : ∀ H locs ls, I N H locs ls → G H locs (cf N) (sf N) Q (F0 m pc ls st)) (hstep : ∀ k H locs ls, k < N → I k H locs ls → (∀ H' locs' ls', I (k + 1) H' locs' ls' → G H' locs' (cf (k + 1)) (sf (k + 1)) Q (F0 m pc ls' st)) → G H locs (cf k) (sf k) Q (F0 m pc ls st)) {H : Heap} {locs : List Loc} {ls : Array Slot} (h : I 0 H locs ls) : G H locs (cf 0) (sf 0) Q (F0 m pc ls st) := by
  have key : ∀ d k H locs ls, k + d = N → I k H locs ls → G H locs (cf k) (sf k) Q (F0 m pc ls st) := by
    intro d
    induction d with
    | zero => intro k H locs ls e hI; have : k = N := by omega
              subst this; exact hend H locs ls hI
    | succ d ih => intro k H locs ls e hI; exact hstep k H locs ls (by omega) hI (fun H' locs' ls' h' => ih (k + 1) H' locs' ls' (by omega) h')
  exact key N 0 H locs ls (by omega) h
theorem GX_last {D : va_G} {dA : Nat → ClassId} {A : Nat → Prop} {ad : Nat → Nat} {S : St} {sf kf : Nat → Option Nat} {L : va_W} {H H1 : Heap} {m0 : Nat} {x : va_E} (hG : GX D dA A ad S sf kf L H) (hP : va_P D classes ((gx dA ad S sf kf ++ L) ++ [(m0, x)]) H1) (hD : va_D A ((gx dA ad S sf kf ++ L) ++ [(m0, x)])) : GX D dA (fun q => (A q ∧ q ≠ m0) ∧ q < H1.size) ad S sf kf L H1 := by
  have up : ∀ (k : Nat) (q : Nat × va_E), (gx dA ad S sf kf ++ L)[k]? = some q → ((gx dA ad S sf kf ++ L) ++ [(m0, x)])[k]? = some q := fun k q h => by
    rw [List.getElem?_append_left (List.getElem?_eq_some_iff.mp h).1]; exact h
  refine ⟨fun k q h => hP k q (up k q h), ⟨fun i j p q h1 h2 => hD.1 i j p q (up i p h1) (up j q h2), fun k q h => ⟨⟨hD.2 k q (up k q h), fun z => ?_⟩, (hP k q (up k q h)).lt⟩⟩, hG.2.2⟩
  have h2 := hD.1 k _ q (m0, x) (up k q h) at_last z
  have h3 := (List.getElem?_eq_some_iff.mp h).1
  omega
theorem P_last {D : va_G} {ws : va_W} {H : Heap} {y : Nat × va_E} (hP : va_P D classes (ws ++ [y]) H) : va_P D classes [y] H := by
  intro k q hk
  cases k with
  | zero => cases hk; exact hP _ _ at_last
  | succ k => simp at hk
theorem D_one {A : Nat → Prop} {y : Nat × va_E} (h : A y.1) : va_D A [y] := by
  refine ⟨fun i j p q h1 h2 _ => ?_, fun k q hk => ?_⟩
  · have a1 := (List.getElem?_eq_some_iff.mp h1).1
    have a2 := (List.getElem?_eq_some_iff.mp h2).1
    simp at a1 a2
    omega
  · cases k with
    | zero => cases hk; exact h
    | succ k => simp at hk
theorem lt_test {L t : Nat} (hL : L ≤ 2560) (ht : t ≤ 512) : nI L - nI 5 < nI (5 * t) ↔ L < 5 * t + 5 := by
  rw [Int32.lt_iff_toInt_lt, pk_sub_toInt (by omega) (by decide), nI_toInt (by omega)]
  omega
set_option maxHeartbeats 4000000 in
set_option maxRecDepth 100000 in
theorem law_loop {p : Program} {e : Env} {s : State} {m : MethodId} {below : List Frame} {meth : Method} {c : Code} (l : Launch) {b L : Nat} {xs : Nat → Int32} (hL : L ≤ 2560) (C0 : lw_At p s m meth c b L xs) {D : va_G} {dA : Nat → ClassId} (hC : CX p m c code 4 s #[Value.ref b] "GradeRowsLaw" D dA) {ad md : Nat → Nat} {m0 lo hi : Nat} {H : Heap} {locs : List Loc} {ls : Array Slot} (hl : lv_has ls 4 [(3, .int (nI (5 * 0))), (2, .ref (md 0)), (1, .ref (ad 0)), (0, .ref b)]) (hLI : LI D dA ad md m0 lo hi s.heap S0 S0 H locs) : W p l e room_1 s m #[Value.ref b] below meth c H locs (19 + 3 * 0) (7744 + 403 * 0) (lw_Z below #[Value.ref b] s) (F0 m 18 ls []) := by
  obtain ⟨hx, hb, hr, hml, hown, hts, hX, hbl, hlocks, hgv⟩ := id C0
  refine lpC (pc := 18) (fun t => 19 + 3 * t) (fun t => 7744 + 403 * t) (fun t H locs ls => lv_has ls 4 [(3, .int (nI (5 * t))), (2, .ref (md 0)), (1, .ref (ad 0)), (0, .ref b)] ∧ ∃ S, Inv S ∧ LI D dA ad md m0 lo hi s.heap S S H locs) (L / 5) ?_ ?_ ⟨hl, S0, Inv0, hLI⟩
  · intro H1 locs1 ls hI
    obtain ⟨hl, S, hI, hLI⟩ := hI
    refine lv_iload_n (pc := 18) hC.x hC.b d_law_18 rfl (lv_at hl 0 rfl) ?_
    refine lv_aload_n (pc := 19) hC.x hC.b d_law_19 rfl (lv_at hl 3 rfl) ?_
    refine va_slen (pc := 20) hx hb hX hbl (Nat.not_le.mpr hbl) hLI.2.2.1 d_law_20 ?_
    refine tp_i (y := nI L) rfl ?_
    refine lv_iconst (pc := 21) (v := nI 5) hC.x hC.b d_law_21 (by decide) ?_
    refine lv_isub (pc := 22) hC.x hC.b d_law_22 ?_
    refine lv_icmp_gt (pc := 23) (tgt := 613) hC.x hC.b d_law_23 (by decide) (fun c_23 => ?_) (fun c_23 => ?_)
    · refine lv_iconst (pc := 613) (v := 1) hC.x hC.b d_law_613 (by decide) ?_
      refine W.widen (k := 600000) (n := 7302250) (by omega) (by omega) ?_
      refine va_forget (fun q hq => hLI.2.2.1.2.2 q hq) ?_
      exact lw_ret hx hb hr hlocks d_law_614
    · exact absurd ((lt_test hL (by omega)).mpr (by omega)) c_23
  · intro t H1 locs1 ls ht hI ih
    obtain ⟨hl, S, hI, hLI⟩ := hI
    refine lv_iload_n (pc := 18) hC.x hC.b d_law_18 rfl (lv_at hl 0 rfl) ?_
    refine lv_aload_n (pc := 19) hC.x hC.b d_law_19 rfl (lv_at hl 3 rfl) ?_
    refine va_slen (pc := 20) hx hb hX hbl (Nat.not_le.mpr hbl) hLI.2.2.1 d_law_20 ?_
    refine tp_i (y := nI L) rfl ?_
    refine lv_iconst (pc := 21) (v := nI 5) hC.x hC.b d_law_21 (by decide) ?_
    refine lv_isub (pc := 22) hC.x hC.b d_law_22 ?_
    refine lv_icmp_gt (pc := 23) (tgt := 613) hC.x hC.b d_law_23 (by decide) (fun c_23 => ?_) (fun c_23 => ?_)
    · exact absurd ((lt_test hL (by omega)).mp c_23) (by omega)
    have hL2 := hLI
    refine lv_aload_n (pc := 26) hC.x hC.b d_law_26 rfl (lv_at hl 3 rfl) ?_
    refine lv_iload_n (pc := 27) hC.x hC.b d_law_27 rfl (lv_at hl 0 rfl) ?_
    refine sld (pc := 28) (k := 5 * t) hC hX hbl hLI.2.2.1 rfl (by omega) (by omega) d_law_28 ?_
    refine lv_bipush (pc := 29) (v := 31) hC.x hC.b d_law_29 (by decide) ?_
    refine lv_iand (pc := 31) hC.x hC.b d_law_31 ?_
    obtain ⟨j, hj, hje⟩ := pk_andE (xs (5 * t)) (m := 31) 5 (by decide)
    refine tp_i (y := nI j) hje ?_
    have next : ∀ (S1 : St) (H1 : Heap) (locs1 : List Loc), Inv S1 → LI D dA ad md m0 lo hi s.heap S1 S1 H1 locs1 → W p l e room_1 s m #[Value.ref b] below meth c H1 locs1 (19 + 3 * t + 3) (7744 + 403 * t + 403) (lw_Z below #[Value.ref b] s) (F0 m 607 ls []) := by
      intro S1 H2 locs2 hI1 hL1
      refine W.widen (k := 19 + 3 * (t + 1)) (n := 7744 + 403 * (t + 1)) (by omega) (by omega) ?_
      refine lv_iinc (pc := 607) (v := nI (5 * (t + 1))) (lv' := [(3, .int (nI (5 * (t + 1)))), (2, .ref (md 0)), (1, .ref (ad 0)), (0, .ref b)]) hC.x hC.b d_law_607 hl (k := 0) rfl (by show nI (5 * t) + nI 5 = _; rw [nI_add]; rfl) (by decide) rfl (fun ls hl => ?_)
      refine lv_goto (pc := 610) (tgt := 18) hC.x hC.b d_law_610 (by decide) ?_
      exact ih H2 locs2 ls ⟨(lv_sub hl [0, 1, 2, 3] rfl), S1, hI1, hL1⟩
    rcases (show j = 0 ∨ j = 1 ∨ j = 2 ∨ j = 3 ∨ j = 4 ∨ j = 5 ∨ j = 6 ∨ j = 7 ∨ j = 8 ∨ j = 9 ∨ j = 10 ∨ j = 11 ∨ j = 12 ∨ j = 13 ∨ j = 14 ∨ j = 15 ∨ j = 16 ∨ j = 17 ∨ 18 ≤ j by omega) with rfl | rfl | rfl | rfl | rfl | rfl | rfl | rfl | rfl | rfl | rfl | rfl | rfl | rfl | rfl | rfl | rfl | rfl | hj18
    · refine lv_tableIn (pc := 32) (tgt := 120) hx hb d_law_32 (by decide) (by decide) rfl (by decide) ?_
      exact law_c0 hC hX hbl (by omega) hL hl hI hLI (by omega) (by omega) next
    · refine lv_tableIn (pc := 32) (tgt := 153) hx hb d_law_32 (by decide) (by decide) rfl (by decide) ?_
      exact law_c1 hC hX hbl (by omega) hL hl hI hLI (by omega) (by omega) next
    · refine lv_tableIn (pc := 32) (tgt := 196) hx hb d_law_32 (by decide) (by decide) rfl (by decide) ?_
      exact law_c2 hC hX hbl (by omega) hL hl hI hLI (by omega) (by omega) next
    · refine lv_tableIn (pc := 32) (tgt := 219) hx hb d_law_32 (by decide) (by decide) rfl (by decide) ?_
      exact law_c3 hC hX hbl (by omega) hL hl hI hLI (by omega) (by omega) next
    · refine lv_tableIn (pc := 32) (tgt := 232) hx hb d_law_32 (by decide) (by decide) rfl (by decide) ?_
      exact law_c4 hC hX hbl (by omega) hL hl hI hLI (by omega) (by omega) next
    · refine lv_tableIn (pc := 32) (tgt := 256) hx hb d_law_32 (by decide) (by decide) rfl (by decide) ?_
      exact law_c5 hC hX hbl (by omega) hL hl hI hLI (by omega) (by omega) next
    · refine lv_tableIn (pc := 32) (tgt := 280) hx hb d_law_32 (by decide) (by decide) rfl (by decide) ?_
      exact law_c6 hC hX hbl (by omega) hL hl hI hLI (by omega) (by omega) next
    · refine lv_tableIn (pc := 32) (tgt := 373) hx hb d_law_32 (by decide) (by decide) rfl (by decide) ?_
      exact law_c7 hC hX hbl (by omega) hL hl hI hLI (by omega) (by omega) next
    · refine lv_tableIn (pc := 32) (tgt := 386) hx hb d_law_32 (by decide) (by decide) rfl (by decide) ?_
      exact law_c8 hC hX hbl (by omega) hL hl hI hLI (by omega) (by omega) next
    · refine lv_tableIn (pc := 32) (tgt := 399) hx hb d_law_32 (by decide) (by decide) rfl (by decide) ?_
      exact law_c9 hC hX hbl (by omega) hL hl hI hLI (by omega) (by omega) next
    · refine lv_tableIn (pc := 32) (tgt := 453) hx hb d_law_32 (by decide) (by decide) rfl (by decide) ?_
      exact law_c10 hC hX hbl (by omega) hL hl hI hLI (by omega) (by omega) next
    · refine lv_tableIn (pc := 32) (tgt := 476) hx hb d_law_32 (by decide) (by decide) rfl (by decide) ?_
      exact law_c11 hC hX hbl (by omega) hL hl hI hLI (by omega) (by omega) next
    · refine lv_tableIn (pc := 32) (tgt := 489) hx hb d_law_32 (by decide) (by decide) rfl (by decide) ?_
      exact law_c12 hC hX hbl (by omega) hL hl hI hLI (by omega) (by omega) next
    · refine lv_tableIn (pc := 32) (tgt := 502) hx hb d_law_32 (by decide) (by decide) rfl (by decide) ?_
      exact law_c13 hC hX hbl (by omega) hL hl hI hLI (by omega) (by omega) next
    · refine lv_tableIn (pc := 32) (tgt := 525) hx hb d_law_32 (by decide) (by decide) rfl (by decide) ?_
      exact law_c14 hC hX hbl (by omega) hL hl hI hLI (by omega) (by omega) next
    · refine lv_tableIn (pc := 32) (tgt := 548) hx hb d_law_32 (by decide) (by decide) rfl (by decide) ?_
      exact law_c15 hC hX hbl (by omega) hL hl hI hLI (by omega) (by omega) next
    · refine lv_tableIn (pc := 32) (tgt := 561) hx hb d_law_32 (by decide) (by decide) rfl (by decide) ?_
      exact law_c16 hC hX hbl (by omega) hL hl hI hLI (by omega) (by omega) next
    · refine lv_tableIn (pc := 32) (tgt := 584) hx hb d_law_32 (by decide) (by decide) rfl (by decide) ?_
      exact law_c17 hC hX hbl (by omega) hL hl hI hLI (by omega) (by omega) next
    · refine lv_tableOut (pc := 32) (tgt := 607) hx hb d_law_32 (Or.inr (by rw [nI_toInt (by omega)]; omega)) (by decide) ?_
      refine W.widen (k := 19 + 3 * t + 3) (n := 7744 + 403 * t + 403) (by omega) (by omega) ?_
      exact next S H1 locs1 hI hLI
set_option maxHeartbeats 4000000 in
set_option maxRecDepth 100000 in
theorem whole_start {p : Program} {e : Env} {s : State} {m : MethodId} {below : List Frame} {meth : Method} {c : Code} (l : Launch) {b L : Nat} {xs : Nat → Int32} (hL : L ≤ 2560) (C0 : lw_At p s m meth c b L xs) : W p l e room_1 s m #[Value.ref b] below meth c s.heap [] 0 0 (lw_Z below #[Value.ref b] s) (entryFrame m ([Value.ref b] : List Value).toArray 4) := by
  obtain ⟨hx, hb, hr, hml, hown, hts, hX, hbl, hlocks, hgv⟩ := id C0
  obtain ⟨D, dA, hXK⟩ := XK_of hts
  have hC : CX p m c code 4 s #[Value.ref b] "GradeRowsLaw" D dA := ⟨⟨hx, hb, hml, hown, fun w h => hts w (List.mem_filter.mp h).1⟩, hXK⟩
  have hl := lv_entry ([.ref b]) (n := 4) (Nat.le_of_ble_eq_true rfl)
  rw [lg_entry_eq]
  generalize (lg_sl ([.ref b]) ++ List.replicate (4 - (lg_sl ([.ref b])).length) Slot.unset).toArray = ls at hl ⊢
  have hl : lv_has ls 4 [(0, .ref b)] := hl
  have hA : ∀ q : Nat, s.heap.size ≤ q → (fun q : Nat => s.heap.size ≤ q) q := fun _ h => h
  have hS : va_S (fun q : Nat => s.heap.size ≤ q) s.heap s.heap [] := va_S.rf
  have hP : va_P D classes [] s.heap := fun k q h => by simp at h
  have hD : va_D (fun q : Nat => s.heap.size ≤ q) [] := ⟨fun i j p q h => by simp at h, fun k q h => by simp at h⟩
  refine newo (pc := 0) (ci := 0) (fs := [.null, .null, .int 0, .null, .int 0, .int 0, .null, .null, .int 0, .null, .int 0]) (a := 0) hC i_GR t_GR_ok tw_10 tw_11 tw_1 rfl (fun j hj => by rcases (show j = 0 ∨ j = 1 ∨ j = 2 ∨ j = 3 ∨ j = 4 ∨ j = 5 ∨ j = 6 ∨ j = 7 ∨ j = 8 ∨ j = 9 ∨ j = 10 by omega) with rfl | rfl | rfl | rfl | rfl | rfl | rfl | rfl | rfl | rfl | rfl <;> rfl) hP hD hS hA (Nat.le_of_ble_eq_true rfl) (Nat.le_of_ble_eq_true rfl) d_law_0 (fun x0 H1 hP hD hS => ?_)
  have hP : va_P D classes [(x0, .inr (0, [.null, .null, .int 0, .null, .int 0, .int 0, .null, .null, .int 0, .null, .int 0]))] H1 := hP
  have hD : va_D (fun q : Nat => s.heap.size ≤ q) [(x0, .inr (0, [.null, .null, .int 0, .null, .int 0, .int 0, .null, .null, .int 0, .null, .int 0]))] := hD
  refine lv_dup (pc := 3) hC.x hC.b d_law_3 rfl ?_
  refine va_callv (runI hC (c_GR_init l hP hD (fun q h => Nat.le_trans hS.1 h)) tw_14 tw_12 tw_13 tw_1 rfl ⟨by decide +kernel, by decide +kernel, rfl⟩ rfl rfl hl.1 rfl (Nat.le_of_ble_eq_true rfl) ⟨Nat.le_of_ble_eq_true rfl, Nat.le_of_ble_eq_true rfl⟩ ⟨Nat.le_of_ble_eq_true rfl, Nat.le_of_ble_eq_true rfl⟩ d_law_4) hS (fun _ _ h => h) (fun _ h => h) (fun u t H2 locs ht _ _ hB _ _ hS => ?_)
  obtain ⟨ad, had, hG⟩ := hB
  rw [ht] at hG
  subst had
  refine lv_astore_n (pc := 7) (lv' := [(1, .ref (ad 0)), (0, .ref b)]) hC.x hC.b d_law_7 rfl hl (by decide) rfl (fun ls hl => ?_)
  obtain ⟨sf, kf, L9, hGX⟩ := hG
  refine newo (pc := 8) (ci := 4) (fs := [.int 0, .int 0, .null, .null, .null, .null, .null, .null, .int 0, .int 0, .null, .null, .int 0, .null, .null, .null]) (a := 0) hC i_GM t_GM_ok tw_287 tw_288 tw_2 rfl (fun j hj => by rcases (show j = 0 ∨ j = 1 ∨ j = 2 ∨ j = 3 ∨ j = 4 ∨ j = 5 ∨ j = 6 ∨ j = 7 ∨ j = 8 ∨ j = 9 ∨ j = 10 ∨ j = 11 ∨ j = 12 ∨ j = 13 ∨ j = 14 ∨ j = 15 by omega) with rfl | rfl | rfl | rfl | rfl | rfl | rfl | rfl | rfl | rfl | rfl | rfl | rfl | rfl | rfl | rfl <;> rfl) hGX.1 hGX.2.1 hS hA (Nat.le_of_ble_eq_true rfl) (Nat.le_of_ble_eq_true rfl) d_law_8 (fun m0 H3 hP hD hS => ?_)
  have hG3 := GX_last hGX hP hD
  have hPm := P_last hP
  have hm0 : s.heap.size ≤ m0 := hD.2 _ _ at_last
  have hm1 : m0 < H3.size := (hP _ _ at_last).lt
  have hs3 : s.heap.size ≤ H3.size := hS.1
  have hDm : va_D (fun q : Nat => q = m0 ∨ H3.size ≤ q) [(m0, .inr (4, [.int 0, .int 0, .null, .null, .null, .null, .null, .null, .int 0, .int 0, .null, .null, .int 0, .null, .null, .null]))] := D_one (Or.inl rfl)
  refine lv_dup (pc := 11) hC.x hC.b d_law_11 rfl ?_
  refine va_callv (runI hC (c_GM_init l hPm hDm (fun q h => Or.inr h)) tw_291 tw_289 tw_290 tw_2 rfl ⟨by decide +kernel, by decide +kernel, rfl⟩ rfl rfl hl.1 rfl (Nat.le_of_ble_eq_true rfl) ⟨Nat.le_of_ble_eq_true rfl, Nat.le_of_ble_eq_true rfl⟩ ⟨Nat.le_of_ble_eq_true rfl, Nat.le_of_ble_eq_true rfl⟩ d_law_12) hS (fun q _ h => h.elim (fun z => by rw [z]; exact hm0) (fun z => Nat.le_trans hs3 z)) (fun q h => h.elim (fun z => by rw [z]; exact hm0) (fun z => Nat.le_trans hs3 z)) (fun u t H4 locs ht _ _ hB hz hk hS => ?_)
  obtain ⟨md, hmd, hM⟩ := hB
  rw [ht] at hM
  subst hmd
  have hG4 : GW D dA _ ad S0 H4 := GW.kept ⟨sf, kf, L9, hG3⟩ (fun q hq hA => hk q hq (fun z => z.elim hA.1.2 (fun z => by omega)))
  have hG5 : GW D dA (AG s.heap.size (md 0) H3.size H4.size) ad S0 H4 := hG4.weaken (fun q _ hA => ⟨hA.1.1, fun z => z.elim hA.1.2 (fun z => by have := hA.2; omega)⟩)
  have hM5 : MW D dA (AM (md 0) H3.size H4.size) md S0 H4 := hM.weaken (fun q hq hA => hA.imp id (fun h => ⟨h, hq⟩))
  have hLI : LI D dA ad md (md 0) H3.size H4.size s.heap S0 S0 H4 locs := ⟨hG5, hM5, hS, Nat.le_refl _, hm0, by omega, hs3⟩
  refine lv_astore_n (pc := 15) (lv' := [(2, .ref (md 0)), (1, .ref (ad 0)), (0, .ref b)]) hC.x hC.b d_law_15 rfl hl (by decide) rfl (fun ls hl => ?_)
  refine lv_iconst (pc := 16) (v := nI (5 * 0)) hC.x hC.b d_law_16 (by decide) ?_
  refine lv_istore_n (pc := 17) (lv' := [(3, .int (nI (5 * 0))), (2, .ref (md 0)), (1, .ref (ad 0)), (0, .ref b)]) hC.x hC.b d_law_17 rfl hl (by decide) rfl (fun ls hl => ?_)
  refine W.widen (k := 19 + 3 * 0) (n := 7744 + 403 * 0) (by decide) (by decide) ?_
  exact law_loop l hL C0 hC (lv_sub hl [0, 1, 2, 3] rfl) hLI
-- ===== YOUR PART ENDS =====
set_option maxHeartbeats 4000000 in
theorem lw_walk (l : Launch) (b : Addr) (xs : List Int32) : MetFree l x (headSpec (Jvm.Cond.code x code maxLocals ret :: tables_1) room_1) (lw_P b xs) (fun _ _ _ _ _ => True) lw_Q := by
  refine MetFree.of_bodyS (code := code) (maxLocals := maxLocals) (ret := ret) (by decide) ?_ ?_
  · intro args s m h hn
    obtain ⟨meth, c, h1, h2, h3, h4, h5, h6, -, -⟩ := Cond.code_spec hn (atoms_spec (ws := Jvm.Cond.code x code maxLocals ret :: tables_1) h _ List.mem_cons_self)
    exact ⟨meth, c, h1, h2, h3, h4, h5, h6⟩
  · intro p e s m args below meth c s₁ B hml0 hP _
    obtain ⟨rfl, hx, hbd, hgv⟩ := hP
    obtain ⟨scr, harrAt, hlist, hof, hsmall⟩ := hx
    obtain ⟨hcb, hkn, -, -⟩ := State.arrayAt?_spec harrAt
    have hown : s.vm.findClass R_law = some m.cls := findClass_of_methodNamed B.named
    have hts0 : ∀ c ∈ (Jvm.Cond.code x code maxLocals ret :: tables_1), c.before #[Value.ref b] s = true := atoms_spec (ws := Jvm.Cond.code x code maxLocals ret :: tables_1) B.pre
    have hts : ∀ w ∈ lw_tbl, w.before #[Value.ref b] s = true := k2_hts_sels lw_privs (fun w hw => hts0 w (List.mem_cons_of_mem _ hw)) lw_privs_ok
    have hml : c.maxLocals = 4 := B.maxLocals_eq (hts0 _ List.mem_cons_self)
    have X₀ : Stand p l e room_1 s m #[Value.ref b] below meth c s₁ [] 0 0 := Stand.of_body B
    have hh0 : s₁.heap = s.heap := by rw [B.state]; rfl
    have hsz : scr.slots.size = xs.length := by rw [← Array.length_toList, hlist, List.length_map]
    have hval : ∀ j : Nat, j < xs.length → scr.slots[j]? = some (.int (xs.getD j 0)) := fun j hj => by
      rw [← Array.getElem?_toList, hlist]
      simp [hj]
    have hbl : b < s.heap.size := (Array.getElem?_eq_some_iff.mp hcb).1
    have hX : va_X b xs.length (fun j => xs.getD j 0) s s.heap := ⟨scr, hcb, hof, hkn, hsz, hval⟩
    have K : W p l e room_1 s m #[Value.ref b] below meth c s₁.heap [] 0 0 (lw_Z below #[Value.ref b] s) (entryFrame m ([Value.ref b] : List Value).toArray 4) := by
      rw [hh0]
      exact whole_start l hbd ⟨B.exec, B.bytes, B.returns, hml, hown, hts, hX, hbl, B.notSynchronized, hgv⟩
    obtain ⟨t, a1, o, b1, b2, b3⟩ := K s₁ rfl X₀
    exact ⟨t, o, a1, b1, b2, b3⟩
theorem lw_pre_spec {args : Array Value} {s : State} (h : (Jvm.Cond.and given_1 narrow_1).before args s = true) (hr : rest_1_c.before args s = true) : ∃ (b : Addr) (xs : List Int32), lw_P b xs args s := by
  have hs := flat_of_before _ h
  have hq := flat_of_before _ hr
  have hc : (Cond.count 1).before args s = true := hs _ (by decide +kernel)
  have harr : (Cond.arrayOf (.arg 0) .int).before args s = true := hs _ (by decide +kernel)
  have hle : (Cond.le (.length (.arg 0)) (.int 2560)).before args s = true := hs _ (by decide +kernel)
  have hlen : (Cond.isInt (.length (.arg 0))).before args s = true := hq _ (by decide +kernel)
  have hall : (Cond.all (.arg 0) (.isInt (.elem (.arg 0) (.index 0)))).before args s = true := hq _ (by decide +kernel)
  obtain ⟨b, xs, hb, hx⟩ := State.ints_of_pre rfl harr hlen hall
  have hsm : xs.length < 2 ^ 31 := hx.choose_spec.2.2.2
  have hev : (Term.length (.arg 0)).eval args s none [] s = some (.int xs.length.toInt32) := hx.length_eval hb
  have hv := Cond.le_ints hev (show (Term.int 2560).eval args s none [] s = some (.int 2560) from rfl)
  have hd : xs.length.toInt32 ≤ 2560 := by
    simpa [Cond.before, Cond.holds, hv] using hle
  have hN : xs.length ≤ 2560 := (Int32.ofNat_le_ofNat hsm (by decide)).mp (show Int32.ofNat xs.length ≤ Int32.ofNat 2560 from hd)
  exact ⟨b, xs, Cond.one_arg hc (show args[0]? = some (.ref b) from hb), hx, hN, h⟩
theorem lw_comes (l : Launch) : Comes l x (Jvm.Cond.code x code maxLocals ret :: tables_1) room_1 (fun tb e args s => Calls_1 tb e args s ∧ rest_1 tb e args s ∧ Pre_1 tb e args s)
    (fun _ _ args s o t => lw_Q args s o t) := by
  intro p e ha hc hk s m args below hf hfit hheap happ hpre
  obtain ⟨b, xs, hP⟩ := lw_pre_spec hpre.2.2 hpre.2.1
  obtain ⟨k, o, h1, h2, h3, hQ⟩ := lw_walk l b xs p e ha hc hk s m args below hf ((Spec.applies_iff_loose hf).mp happ).1 hP trivial
  exact ⟨k, o, h1, h2, h3, hQ⟩
theorem lw_frame {s t : State} {o : Outcome} {args : Array Value} (h : Framed s o t [] 600000 7302250) :
    Framed s o t (fieldLocs frame_1_writes args s ++ arrayLocs frame_1_arrays args s ++ staticLocs frame_1_statics s) 600000 7302250 := h
theorem lw_limb (L : Cond) (hL : ∀ (args : Array Value) (s t : State), L.after args s (.returned (some (.int 1))) t = true) :
    ArmFor flags0 classFile x code maxLocals ret World_1 tables_1 room_1 Calls_1 rest_1 Pre_1
      (fun tb e a s o t => postC L tb e a s o t ∧ Framed s o t (fieldLocs frame_1_writes a s ++ arrayLocs frame_1_arrays a s ++ staticLocs frame_1_statics s) 600000 7302250) := by
  intro l _ _ _ p e ha hc hk s m args below hf hfit hheap happ hpre
  obtain ⟨k, o, h1, h2, h3, rfl, hF⟩ := lw_comes l p e ha hc hk s m args below hf hfit hheap happ hpre
  exact ⟨k, _, h1, h2, h3, hL args s _, lw_frame hF⟩
theorem i_vc : Claimed_1_1 ∧ Claimed_1_2 := ⟨lw_limb limb_1_1 (fun args s t => by simp [limb_1_1, Cond.after, Cond.holds, Cond.value]), lw_limb limb_1_2 (fun args s t => Cond.after_iff.mpr (by
  first | (rw [show limb_1_2 = Cond.eq .result (.int 1) from rfl, Cond.eq_ints (x := 1) (y := 1) rfl rfl]; simp; done) | (simp [limb_1_2, Cond.value, Term.eval]; done)))⟩
end
