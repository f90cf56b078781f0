section
-- ===== PART A: goes FIRST, ahead of the names: the tables' words, and 'selects' of the private methods out of them =====
/-- a private method of a class that the tables say can be made, by its rows of tables_1 -/
def lw_okq (q : MethodName × Nat) : Prop := (q.1.cls ≠ "java/lang/invoke/MethodHandle" ∧ q.1.cls ≠ "java/lang/invoke/VarHandle") ∧ Cond.instantiable q.1.cls q.2 ∈ tables_1 ∧ Cond.privateMethod q.1 ∈ tables_1 ∧ Cond.instanceMethod q.1 ∈ tables_1
theorem lw_p0 : lw_okq (⟨"PieceWays$Delta", "index", "([BI)V"⟩, 4) := ⟨⟨by decide +kernel, by decide +kernel⟩, List.mem_of_getElem? (i := 17) (by decide +kernel), List.mem_of_getElem? (i := 79) (by decide +kernel), List.mem_of_getElem? (i := 80) (by decide +kernel)⟩
theorem lw_p1 : lw_okq (⟨"PieceWays$Delta", "plain", "([BII)V"⟩, 4) := ⟨⟨by decide +kernel, by decide +kernel⟩, List.mem_of_getElem? (i := 17) (by decide +kernel), List.mem_of_getElem? (i := 89) (by decide +kernel), List.mem_of_getElem? (i := 90) (by decide +kernel)⟩
theorem lw_p2 : lw_okq (⟨"PieceWays$Delta", "put", "(I)V"⟩, 4) := ⟨⟨by decide +kernel, by decide +kernel⟩, List.mem_of_getElem? (i := 17) (by decide +kernel), List.mem_of_getElem? (i := 93) (by decide +kernel), List.mem_of_getElem? (i := 94) (by decide +kernel)⟩
theorem lw_p3 : lw_okq (⟨"PieceWays$Delta", "putTwo", "(I)V"⟩, 4) := ⟨⟨by decide +kernel, by decide +kernel⟩, List.mem_of_getElem? (i := 17) (by decide +kernel), List.mem_of_getElem? (i := 97) (by decide +kernel), List.mem_of_getElem? (i := 98) (by decide +kernel)⟩
theorem lw_p4 : lw_okq (⟨"PieceWays", "next", "(I)I"⟩, 8) := ⟨⟨by decide +kernel, by decide +kernel⟩, List.mem_of_getElem? (i := 9) (by decide +kernel), List.mem_of_getElem? (i := 105) (by decide +kernel), List.mem_of_getElem? (i := 106) (by decide +kernel)⟩
theorem lw_p5 : lw_okq (⟨"PieceWays", "isCopy", "(I)Z"⟩, 8) := ⟨⟨by decide +kernel, by decide +kernel⟩, List.mem_of_getElem? (i := 9) (by decide +kernel), List.mem_of_getElem? (i := 109) (by decide +kernel), List.mem_of_getElem? (i := 110) (by decide +kernel)⟩
theorem lw_p6 : lw_okq (⟨"PieceWays", "many", "(I)I"⟩, 8) := ⟨⟨by decide +kernel, by decide +kernel⟩, List.mem_of_getElem? (i := 9) (by decide +kernel), List.mem_of_getElem? (i := 117) (by decide +kernel), List.mem_of_getElem? (i := 118) (by decide +kernel)⟩
theorem lw_p7 : lw_okq (⟨"java/lang/Throwable", "fillInStackTrace", "(I)Ljava/lang/Throwable;"⟩, 6) := ⟨⟨by decide +kernel, by decide +kernel⟩, List.mem_of_getElem? (i := 188) (by decide +kernel), List.mem_of_getElem? (i := 186) (by decide +kernel), List.mem_of_getElem? (i := 187) (by decide +kernel)⟩
theorem lw_p8 : lw_okq (⟨"PieceWaysModel", "alike", "(II)I"⟩, 10) := ⟨⟨by decide +kernel, by decide +kernel⟩, List.mem_of_getElem? (i := 217) (by decide +kernel), List.mem_of_getElem? (i := 270) (by decide +kernel), List.mem_of_getElem? (i := 271) (by decide +kernel)⟩
theorem lw_p9 : lw_okq (⟨"PieceWaysModel", "write", "(I)V"⟩, 10) := ⟨⟨by decide +kernel, by decide +kernel⟩, List.mem_of_getElem? (i := 217) (by decide +kernel), List.mem_of_getElem? (i := 274) (by decide +kernel), List.mem_of_getElem? (i := 275) (by decide +kernel)⟩
theorem lw_p10 : lw_okq (⟨"PieceWaysModel", "writeTwo", "(I)V"⟩, 10) := ⟨⟨by decide +kernel, by decide +kernel⟩, List.mem_of_getElem? (i := 217) (by decide +kernel), List.mem_of_getElem? (i := 278) (by decide +kernel), List.mem_of_getElem? (i := 279) (by decide +kernel)⟩
theorem lw_p11 : lw_okq (⟨"PieceWaysModel", "two", "(I)I"⟩, 10) := ⟨⟨by decide +kernel, by decide +kernel⟩, List.mem_of_getElem? (i := 217) (by decide +kernel), List.mem_of_getElem? (i := 282) (by decide +kernel), List.mem_of_getElem? (i := 283) (by decide +kernel)⟩
theorem lw_p12 : lw_okq (⟨"PieceWaysModel", "many", "(I)I"⟩, 10) := ⟨⟨by decide +kernel, by decide +kernel⟩, List.mem_of_getElem? (i := 217) (by decide +kernel), List.mem_of_getElem? (i := 290) (by decide +kernel), List.mem_of_getElem? (i := 291) (by decide +kernel)⟩
theorem lw_p13 : lw_okq (⟨"PieceWaysModel", "behind", "(I)I"⟩, 10) := ⟨⟨by decide +kernel, by decide +kernel⟩, List.mem_of_getElem? (i := 217) (by decide +kernel), List.mem_of_getElem? (i := 294) (by decide +kernel), List.mem_of_getElem? (i := 295) (by decide +kernel)⟩
def lw_privs_1 : List (MethodName × Nat) := [(⟨"PieceWays$Delta", "index", "([BI)V"⟩, 4), (⟨"PieceWays$Delta", "plain", "([BII)V"⟩, 4), (⟨"PieceWays$Delta", "put", "(I)V"⟩, 4), (⟨"PieceWays$Delta", "putTwo", "(I)V"⟩, 4), (⟨"PieceWays", "next", "(I)I"⟩, 8), (⟨"PieceWays", "isCopy", "(I)Z"⟩, 8), (⟨"PieceWays", "many", "(I)I"⟩, 8), (⟨"java/lang/Throwable", "fillInStackTrace", "(I)Ljava/lang/Throwable;"⟩, 6), (⟨"PieceWaysModel", "alike", "(II)I"⟩, 10), (⟨"PieceWaysModel", "write", "(I)V"⟩, 10), (⟨"PieceWaysModel", "writeTwo", "(I)V"⟩, 10), (⟨"PieceWaysModel", "two", "(I)I"⟩, 10), (⟨"PieceWaysModel", "many", "(I)I"⟩, 10), (⟨"PieceWaysModel", "behind", "(I)I"⟩, 10)]
theorem lw_r1 : ∀ q ∈ lw_privs_1, lw_okq q := List.forall_mem_cons.mpr ⟨lw_p0, List.forall_mem_cons.mpr ⟨lw_p1, List.forall_mem_cons.mpr ⟨lw_p2, List.forall_mem_cons.mpr ⟨lw_p3, List.forall_mem_cons.mpr ⟨lw_p4, List.forall_mem_cons.mpr ⟨lw_p5, List.forall_mem_cons.mpr ⟨lw_p6, List.forall_mem_cons.mpr ⟨lw_p7, List.forall_mem_cons.mpr ⟨lw_p8, List.forall_mem_cons.mpr ⟨lw_p9, List.forall_mem_cons.mpr ⟨lw_p10, List.forall_mem_cons.mpr ⟨lw_p11, List.forall_mem_cons.mpr ⟨lw_p12, List.forall_mem_cons.mpr ⟨lw_p13, fun _ h => absurd h List.not_mem_nil⟩⟩⟩⟩⟩⟩⟩⟩⟩⟩⟩⟩⟩⟩
def lw_privs : List (MethodName × Nat) := lw_privs_1
def lw_tbl : List Cond := k2_sels lw_privs ++ tables_1
theorem lw_privs_ok : ∀ q ∈ lw_privs, lw_okq q := lw_r1
/-! the words of the tables that stay good under every warmer table, and names -/
def gw : List Cond := lw_tbl.filter goodWord
theorem gw_in {w : Cond} (i : Nat) (h : lw_tbl[i]? = some w) (hg : goodWord w = true) : w ∈ gw := List.mem_filter.mpr ⟨List.mem_of_getElem? h, hg⟩
theorem gw_good {w : Cond} (h : w ∈ gw) : (w.onTables && w.keeps) = true ∨ ∃ ty, w = .arrayClass ty := good_of_word (List.mem_filter.mp h).2
theorem gw_of {args : Array Value} {s : State} (h : ∀ w ∈ lw_tbl, w.before args s = true) : ∀ w ∈ gw, w.before args s = true := fun w hw => h w (List.mem_filter.mp hw).1
def Wd (y : MethodName) (b : ByteArray) (n : Nat) (r : Option FieldType) : List Cond := .code y b n r :: gw
theorem gd_W {y : MethodName} {b : ByteArray} {n : Nat} {r : Option FieldType} (h : Cond.code y b n r ∈ gw) : GoodIn gw (Wd y b n r) := fun w hw => by
  rcases List.mem_cons.mp hw with e | hw
  · rw [e]; exact ⟨h, gw_good h⟩
  · exact ⟨hw, gw_good hw⟩
theorem gd_V {own C : String} {i : Nat} {y : MethodName} {b : ByteArray} {n : Nat} {r : Option FieldType} (h1 : Cond.methodLink own i y ∈ gw) (h2 : Cond.instanceMethod y ∈ gw) (h3 : Cond.selects C y y ∈ gw) (h4 : Cond.initialized C ∈ gw) (h : Cond.code y b n r ∈ gw) : GoodIn gw (wsV own i C y (Wd y b n r)) := fun w hw => by
  rcases List.mem_append.mp hw with hw | hw
  · simp only [List.mem_cons, List.not_mem_nil, or_false] at hw
    rcases hw with e | e | e | e <;> rw [e]
    · exact ⟨h1, gw_good h1⟩
    · exact ⟨h2, gw_good h2⟩
    · exact ⟨h3, gw_good h3⟩
    · exact ⟨h4, gw_good h4⟩
  · exact gd_W h w hw
theorem gd_S {own : String} {i : Nat} {y : MethodName} {b : ByteArray} {n : Nat} {r : Option FieldType} (h1 : Cond.methodLink own i y ∈ gw) (h2 : Cond.static y ∈ gw) (h4 : Cond.initialized y.cls ∈ gw) (h : Cond.code y b n r ∈ gw) : GoodIn gw (va_wsS own i y (Wd y b n r)) := fun w hw => by
  rcases List.mem_append.mp hw with hw | hw
  · simp only [List.mem_cons, List.not_mem_nil, or_false] at hw
    rcases hw with e | e | e <;> rw [e]
    · exact ⟨h1, gw_good h1⟩
    · exact ⟨h2, gw_good h2⟩
    · exact ⟨h4, gw_good h4⟩
  · exact gd_W h w hw
def R_PW : String := "PieceWays"
def R_De : String := "PieceWays$Delta"
def R_Mo : String := "PieceWaysModel"
def R_law : String := "PieceWaysLaw"
def F_PW : u_T := fun k => match k with
  | 0 => ("PieceWays", "base", "[B", true)
  | 1 => ("PieceWays", "target", "[B", true)
  | 2 => ("PieceWays", "result", "[B", true)
  | 3 => ("PieceWays", "baseSize", "I", false)
  | 4 => ("PieceWays", "targetSize", "I", false)
  | 5 => ("PieceWays", "resultSize", "I", false)
  | 6 => ("PieceWays", "pieces", "I", false)
  | _ => ("PieceWays", "delta", "LPieceWays$Delta;", true)
def t_PW : Nat → FieldType := fun k => match k with
  | 0 => .array .byte
  | 1 => .array .byte
  | 2 => .array .byte
  | 3 => .int
  | 4 => .int
  | 5 => .int
  | 6 => .int
  | _ => .object "PieceWays$Delta"
theorem n_PW : ∀ a, a < 8 → ∀ b, b < 8 → a ≠ b → (F_PW a).2.1 ≠ (F_PW b).2.1 := by decide +kernel
theorem t_PW_ok : ∀ k, k < 8 → parseFieldDescriptor (F_PW k).2.2.1 = some (t_PW k) := by decide +kernel
theorem i_PW : ∀ w ∈ u_ws R_PW F_PW 8, w ∈ gw := by decide +kernel
def F_De : u_T := fun k => match k with
  | 0 => ("PieceWays$Delta", "heads", "[I", true)
  | 1 => ("PieceWays$Delta", "nexts", "[I", true)
  | 2 => ("PieceWays$Delta", "out", "[B", true)
  | _ => ("PieceWays$Delta", "size", "I", false)
def t_De : Nat → FieldType := fun k => match k with
  | 0 => .array .int
  | 1 => .array .int
  | 2 => .array .byte
  | _ => .int
theorem n_De : ∀ a, a < 4 → ∀ b, b < 4 → a ≠ b → (F_De a).2.1 ≠ (F_De b).2.1 := by decide +kernel
theorem t_De_ok : ∀ k, k < 4 → parseFieldDescriptor (F_De k).2.2.1 = some (t_De k) := by decide +kernel
theorem i_De : ∀ w ∈ u_ws R_De F_De 4, w ∈ gw := by decide +kernel
def F_Mo : u_T := fun k => match k with
  | 0 => ("PieceWaysModel", "thrownCode", "I", false)
  | 1 => ("PieceWaysModel", "base", "[I", true)
  | 2 => ("PieceWaysModel", "bases", "I", false)
  | 3 => ("PieceWaysModel", "target", "[I", true)
  | 4 => ("PieceWaysModel", "targets", "I", false)
  | 5 => ("PieceWaysModel", "row", "[I", true)
  | 6 => ("PieceWaysModel", "size", "I", false)
  | 7 => ("PieceWaysModel", "result", "[I", true)
  | 8 => ("PieceWaysModel", "results", "I", false)
  | _ => ("PieceWaysModel", "next", "[I", true)
def t_Mo : Nat → FieldType := fun k => match k with
  | 0 => .int
  | 1 => .array .int
  | 2 => .int
  | 3 => .array .int
  | 4 => .int
  | 5 => .array .int
  | 6 => .int
  | 7 => .array .int
  | 8 => .int
  | _ => .array .int
theorem n_Mo : ∀ a, a < 10 → ∀ b, b < 10 → a ≠ b → (F_Mo a).2.1 ≠ (F_Mo b).2.1 := by decide +kernel
theorem t_Mo_ok : ∀ k, k < 10 → parseFieldDescriptor (F_Mo k).2.2.1 = some (t_Mo k) := by decide +kernel
theorem i_Mo : ∀ w ∈ u_ws R_Mo F_Mo 10, w ∈ gw := by decide +kernel
abbrev classes : List vw_C := [(R_PW, F_PW, 8), (R_De, F_De, 4), (R_Mo, F_Mo, 10)]
abbrev b_PW_init : ByteArray := prog_1_method_1_code
def y_PW_init : MethodName := ⟨R_PW, "<init>", "()V"⟩
abbrev b_De_init : ByteArray := prog_2_method_1_code
def y_De_init : MethodName := ⟨R_De, "<init>", "()V"⟩
abbrev b_PW_put : ByteArray := prog_1_method_2_code
def y_PW_put : MethodName := ⟨R_PW, "put", "(ZJI)Z"⟩
abbrev b_PW_clear : ByteArray := prog_1_method_3_code
def y_PW_clear : MethodName := ⟨R_PW, "clear", "(Z)V"⟩
abbrev b_PW_make : ByteArray := prog_1_method_7_code
def y_PW_make : MethodName := ⟨R_PW, "make", "()I"⟩
abbrev b_De_make : ByteArray := prog_2_method_10_code
def y_De_make : MethodName := ⟨R_De, "make", "([BI[BI)V"⟩
abbrev b_De_index : ByteArray := prog_2_method_7_code
def y_De_index : MethodName := ⟨R_De, "index", "([BI)V"⟩
abbrev b_De_sum : ByteArray := prog_2_method_6_code
def y_De_sum : MethodName := ⟨R_De, "sum", "([BI)I"⟩
abbrev b_De_alike : ByteArray := prog_2_method_8_code
def y_De_alike : MethodName := ⟨R_De, "alike", "([BII[BII)I"⟩
abbrev b_De_plain : ByteArray := prog_2_method_9_code
def y_De_plain : MethodName := ⟨R_De, "plain", "([BII)V"⟩
abbrev b_De_put : ByteArray := prog_2_method_4_code
def y_De_put : MethodName := ⟨R_De, "put", "(I)V"⟩
abbrev b_De_putTwo : ByteArray := prog_2_method_5_code
def y_De_putTwo : MethodName := ⟨R_De, "putTwo", "(I)V"⟩
abbrev b_De_size : ByteArray := prog_2_method_3_code
def y_De_size : MethodName := ⟨R_De, "size", "()I"⟩
abbrev b_PW_next : ByteArray := prog_1_method_6_code
def y_PW_next : MethodName := ⟨R_PW, "next", "(I)I"⟩
abbrev b_PW_isCopy : ByteArray := prog_1_method_4_code
def y_PW_isCopy : MethodName := ⟨R_PW, "isCopy", "(I)Z"⟩
abbrev b_De_out : ByteArray := prog_2_method_2_code
def y_De_out : MethodName := ⟨R_De, "out", "()[B"⟩
abbrev b_PW_many : ByteArray := prog_1_method_5_code
def y_PW_many : MethodName := ⟨R_PW, "many", "(I)I"⟩
abbrev b_De_two : ByteArray := prog_2_method_11_code
def y_De_two : MethodName := ⟨R_De, "two", "([BI)I"⟩
abbrev b_PW_piece : ByteArray := prog_1_method_8_code
def y_PW_piece : MethodName := ⟨R_PW, "piece", "(II)I"⟩
abbrev b_PW_size : ByteArray := prog_1_method_9_code
def y_PW_size : MethodName := ⟨R_PW, "size", "()I"⟩
abbrev b_PW_way : ByteArray := prog_1_method_10_code
def y_PW_way : MethodName := ⟨R_PW, "way", "(I)I"⟩
abbrev b_PW_result : ByteArray := prog_1_method_12_code
def y_PW_result : MethodName := ⟨R_PW, "result", "(I)I"⟩
abbrev b_PW_count : ByteArray := prog_1_method_13_code
def y_PW_count : MethodName := ⟨R_PW, "count", "(I)I"⟩
abbrev b_La_go : ByteArray := method_3_code
def y_La_go : MethodName := ⟨R_law, "go", "(LPieceWays;[J)I"⟩
abbrev b_PW_go : ByteArray := prog_1_method_11_code
def y_PW_go : MethodName := ⟨R_PW, "go", "()I"⟩
abbrev b_De_apply : ByteArray := prog_2_method_12_code
def y_De_apply : MethodName := ⟨R_De, "apply", "([BII[B[B)I"⟩
abbrev b_Mo_init : ByteArray := prog_4_method_1_code
def y_Mo_init : MethodName := ⟨R_Mo, "<init>", "()V"⟩
abbrev b_Mo_thrown : ByteArray := prog_4_method_8_code
def y_Mo_thrown : MethodName := ⟨R_Mo, "thrown", "()I"⟩
abbrev b_Mo_put : ByteArray := prog_4_method_9_code
def y_Mo_put : MethodName := ⟨R_Mo, "put", "(ZJI)Z"⟩
abbrev b_Mo_clear : ByteArray := prog_4_method_10_code
def y_Mo_clear : MethodName := ⟨R_Mo, "clear", "(Z)V"⟩
abbrev b_Mo_make : ByteArray := prog_4_method_11_code
def y_Mo_make : MethodName := ⟨R_Mo, "make", "()I"⟩
abbrev b_Mo_alike : ByteArray := prog_4_method_5_code
def y_Mo_alike : MethodName := ⟨R_Mo, "alike", "(II)I"⟩
abbrev b_Mo_write : ByteArray := prog_4_method_2_code
def y_Mo_write : MethodName := ⟨R_Mo, "write", "(I)V"⟩
abbrev b_Mo_writeTwo : ByteArray := prog_4_method_3_code
def y_Mo_writeTwo : MethodName := ⟨R_Mo, "writeTwo", "(I)V"⟩
abbrev b_Mo_two : ByteArray := prog_4_method_4_code
def y_Mo_two : MethodName := ⟨R_Mo, "two", "(I)I"⟩
abbrev b_Mo_piece : ByteArray := prog_4_method_12_code
def y_Mo_piece : MethodName := ⟨R_Mo, "piece", "(II)I"⟩
abbrev b_Mo_many : ByteArray := prog_4_method_7_code
def y_Mo_many : MethodName := ⟨R_Mo, "many", "(I)I"⟩
abbrev b_Mo_behind : ByteArray := prog_4_method_6_code
def y_Mo_behind : MethodName := ⟨R_Mo, "behind", "(I)I"⟩
abbrev b_Mo_size : ByteArray := prog_4_method_13_code
def y_Mo_size : MethodName := ⟨R_Mo, "size", "()I"⟩
abbrev b_Mo_way : ByteArray := prog_4_method_14_code
def y_Mo_way : MethodName := ⟨R_Mo, "way", "(I)I"⟩
abbrev b_Mo_go : ByteArray := prog_4_method_15_code
def y_Mo_go : MethodName := ⟨R_Mo, "go", "()I"⟩
abbrev b_Mo_result : ByteArray := prog_4_method_16_code
def y_Mo_result : MethodName := ⟨R_Mo, "result", "(I)I"⟩
abbrev b_Mo_count : ByteArray := prog_4_method_17_code
def y_Mo_count : MethodName := ⟨R_Mo, "count", "(I)I"⟩
/-! words by their places -/
theorem k_0 : Cond.initialized R_law ∈ gw := gw_in 14 (by decide +kernel) rfl
theorem k_1 : Cond.initialized R_PW ∈ gw := gw_in 15 (by decide +kernel) rfl
theorem k_2 : Cond.initialized R_De ∈ gw := gw_in 16 (by decide +kernel) rfl
theorem k_3 : Cond.initialized R_Mo ∈ gw := gw_in 17 (by decide +kernel) rfl
theorem k_8 : Cond.classLink R_law (8 : Nat) R_PW ∈ gw := gw_in 22 (by decide +kernel) rfl
theorem k_9 : Cond.instantiable R_PW (8 : Nat) ∈ gw := gw_in 23 (by decide +kernel) rfl
theorem k_10 : Cond.methodLink R_law (15 : Nat) y_PW_init ∈ gw := gw_in 24 (by decide +kernel) rfl
theorem k_11 : Cond.instanceMethod y_PW_init ∈ gw := gw_in 25 (by decide +kernel) rfl
theorem k_12 : Cond.code y_PW_init b_PW_init 1 none ∈ gw := gw_in 26 (by decide +kernel) rfl
theorem k_13 : Cond.methodLink R_PW (1 : Nat) objectInit ∈ gw := gw_in 27 (by decide +kernel) rfl
theorem k_14 : Cond.instanceMethod objectInit ∈ gw := gw_in 28 (by decide +kernel) rfl
theorem k_15 : Cond.code objectInit ⟨#[0xb1]⟩ 1 none ∈ gw := gw_in 29 (by decide +kernel) rfl
theorem k_16 : Cond.classLink R_PW (19 : Nat) R_De ∈ gw := gw_in 30 (by decide +kernel) rfl
theorem k_17 : Cond.instantiable R_De (4 : Nat) ∈ gw := gw_in 31 (by decide +kernel) rfl
theorem k_19 : Cond.instanceMethod y_De_init ∈ gw := gw_in 33 (by decide +kernel) rfl
theorem k_20 : Cond.code y_De_init b_De_init 1 none ∈ gw := gw_in 34 (by decide +kernel) rfl
theorem k_21 : Cond.methodLink R_De (3 : Nat) objectInit ∈ gw := gw_in 35 (by decide +kernel) rfl
theorem k_22 : Cond.fieldLink R_De 11 R_De "heads" "[I" ∈ gw := gw_in 36 (by decide +kernel) rfl
theorem k_23 : Cond.fieldLink R_De 15 R_De "nexts" "[I" ∈ gw := gw_in 37 (by decide +kernel) rfl
theorem k_24 : Cond.fieldLink R_De 18 R_De "out" "[B" ∈ gw := gw_in 38 (by decide +kernel) rfl
theorem k_25 : Cond.fieldLink R_De 22 R_De "size" "I" ∈ gw := gw_in 39 (by decide +kernel) rfl
theorem k_35 : Cond.arrayClass FieldType.byte ∈ gw := gw_in 49 (by decide +kernel) rfl
theorem k_36 : Cond.arrayClass FieldType.int ∈ gw := gw_in 50 (by decide +kernel) rfl
theorem k_37 : Cond.fieldLink R_PW 9 R_PW "base" "[B" ∈ gw := gw_in 51 (by decide +kernel) rfl
theorem k_38 : Cond.fieldLink R_PW 13 R_PW "target" "[B" ∈ gw := gw_in 52 (by decide +kernel) rfl
theorem k_39 : Cond.fieldLink R_PW 16 R_PW "result" "[B" ∈ gw := gw_in 53 (by decide +kernel) rfl
theorem k_40 : Cond.fieldLink R_PW 30 R_PW "baseSize" "I" ∈ gw := gw_in 54 (by decide +kernel) rfl
theorem k_41 : Cond.fieldLink R_PW 26 R_PW "targetSize" "I" ∈ gw := gw_in 55 (by decide +kernel) rfl
theorem k_42 : Cond.fieldLink R_PW 70 R_PW "resultSize" "I" ∈ gw := gw_in 56 (by decide +kernel) rfl
theorem k_43 : Cond.fieldLink R_PW 53 R_PW "pieces" "I" ∈ gw := gw_in 57 (by decide +kernel) rfl
theorem k_44 : Cond.fieldLink R_PW 22 R_PW "delta" "LPieceWays$Delta;" ∈ gw := gw_in 58 (by decide +kernel) rfl
theorem k_62 : Cond.methodLink R_law (21 : Nat) y_PW_put ∈ gw := gw_in 76 (by decide +kernel) rfl
theorem k_63 : Cond.instanceMethod y_PW_put ∈ gw := gw_in 77 (by decide +kernel) rfl
theorem k_64 : Cond.selects R_PW y_PW_put y_PW_put ∈ gw := gw_in 78 (by decide +kernel) rfl
theorem k_65 : Cond.code y_PW_put b_PW_put 8 (some .boolean) ∈ gw := gw_in 79 (by decide +kernel) rfl
theorem k_66 : Cond.methodLink R_law (26 : Nat) y_PW_clear ∈ gw := gw_in 80 (by decide +kernel) rfl
theorem k_67 : Cond.instanceMethod y_PW_clear ∈ gw := gw_in 81 (by decide +kernel) rfl
theorem k_68 : Cond.selects R_PW y_PW_clear y_PW_clear ∈ gw := gw_in 82 (by decide +kernel) rfl
theorem k_69 : Cond.code y_PW_clear b_PW_clear 2 none ∈ gw := gw_in 83 (by decide +kernel) rfl
theorem k_70 : Cond.methodLink R_law (31 : Nat) y_PW_make ∈ gw := gw_in 84 (by decide +kernel) rfl
theorem k_71 : Cond.instanceMethod y_PW_make ∈ gw := gw_in 85 (by decide +kernel) rfl
theorem k_72 : Cond.selects R_PW y_PW_make y_PW_make ∈ gw := gw_in 86 (by decide +kernel) rfl
theorem k_73 : Cond.code y_PW_make b_PW_make 2 (some .int) ∈ gw := gw_in 87 (by decide +kernel) rfl
theorem k_74 : Cond.methodLink R_PW (49 : Nat) y_De_make ∈ gw := gw_in 88 (by decide +kernel) rfl
theorem k_75 : Cond.instanceMethod y_De_make ∈ gw := gw_in 89 (by decide +kernel) rfl
theorem k_76 : Cond.selects R_De y_De_make y_De_make ∈ gw := gw_in 90 (by decide +kernel) rfl
theorem k_77 : Cond.code y_De_make b_De_make 11 none ∈ gw := gw_in 91 (by decide +kernel) rfl
theorem k_78 : Cond.methodLink R_De (37 : Nat) y_De_index ∈ gw := gw_in 92 (by decide +kernel) rfl
theorem k_80 : Cond.instanceMethod y_De_index ∈ gw := gw_in 94 (by decide +kernel) rfl
theorem k_81 : Cond.code y_De_index b_De_index 5 none ∈ gw := gw_in 95 (by decide +kernel) rfl
theorem k_82 : Cond.methodLink R_De (30 : Nat) y_De_sum ∈ gw := gw_in 96 (by decide +kernel) rfl
theorem k_83 : Cond.static y_De_sum ∈ gw := gw_in 97 (by decide +kernel) rfl
theorem k_84 : Cond.code y_De_sum b_De_sum 4 (some .int) ∈ gw := gw_in 98 (by decide +kernel) rfl
theorem k_85 : Cond.methodLink R_De (41 : Nat) y_De_alike ∈ gw := gw_in 99 (by decide +kernel) rfl
theorem k_86 : Cond.static y_De_alike ∈ gw := gw_in 100 (by decide +kernel) rfl
theorem k_87 : Cond.code y_De_alike b_De_alike 7 (some .int) ∈ gw := gw_in 101 (by decide +kernel) rfl
theorem k_88 : Cond.methodLink R_De (45 : Nat) y_De_plain ∈ gw := gw_in 102 (by decide +kernel) rfl
theorem k_90 : Cond.instanceMethod y_De_plain ∈ gw := gw_in 104 (by decide +kernel) rfl
theorem k_91 : Cond.code y_De_plain b_De_plain 5 none ∈ gw := gw_in 105 (by decide +kernel) rfl
theorem k_92 : Cond.methodLink R_De (26 : Nat) y_De_put ∈ gw := gw_in 106 (by decide +kernel) rfl
theorem k_94 : Cond.instanceMethod y_De_put ∈ gw := gw_in 108 (by decide +kernel) rfl
theorem k_95 : Cond.code y_De_put b_De_put 2 none ∈ gw := gw_in 109 (by decide +kernel) rfl
theorem k_96 : Cond.methodLink R_De (34 : Nat) y_De_putTwo ∈ gw := gw_in 110 (by decide +kernel) rfl
theorem k_98 : Cond.instanceMethod y_De_putTwo ∈ gw := gw_in 112 (by decide +kernel) rfl
theorem k_99 : Cond.code y_De_putTwo b_De_putTwo 2 none ∈ gw := gw_in 113 (by decide +kernel) rfl
theorem k_100 : Cond.methodLink R_PW (56 : Nat) y_De_size ∈ gw := gw_in 114 (by decide +kernel) rfl
theorem k_101 : Cond.instanceMethod y_De_size ∈ gw := gw_in 115 (by decide +kernel) rfl
theorem k_102 : Cond.selects R_De y_De_size y_De_size ∈ gw := gw_in 116 (by decide +kernel) rfl
theorem k_103 : Cond.code y_De_size b_De_size 1 (some .int) ∈ gw := gw_in 117 (by decide +kernel) rfl
theorem k_104 : Cond.methodLink R_PW (60 : Nat) y_PW_next ∈ gw := gw_in 118 (by decide +kernel) rfl
theorem k_106 : Cond.instanceMethod y_PW_next ∈ gw := gw_in 120 (by decide +kernel) rfl
theorem k_107 : Cond.code y_PW_next b_PW_next 2 (some .int) ∈ gw := gw_in 121 (by decide +kernel) rfl
theorem k_108 : Cond.methodLink R_PW (37 : Nat) y_PW_isCopy ∈ gw := gw_in 122 (by decide +kernel) rfl
theorem k_110 : Cond.instanceMethod y_PW_isCopy ∈ gw := gw_in 124 (by decide +kernel) rfl
theorem k_111 : Cond.code y_PW_isCopy b_PW_isCopy 2 (some .boolean) ∈ gw := gw_in 125 (by decide +kernel) rfl
theorem k_112 : Cond.methodLink R_PW (33 : Nat) y_De_out ∈ gw := gw_in 126 (by decide +kernel) rfl
theorem k_113 : Cond.instanceMethod y_De_out ∈ gw := gw_in 127 (by decide +kernel) rfl
theorem k_114 : Cond.selects R_De y_De_out y_De_out ∈ gw := gw_in 128 (by decide +kernel) rfl
theorem k_115 : Cond.code y_De_out b_De_out 1 (some (.array .byte)) ∈ gw := gw_in 129 (by decide +kernel) rfl
theorem k_116 : Cond.methodLink R_PW (45 : Nat) y_PW_many ∈ gw := gw_in 130 (by decide +kernel) rfl
theorem k_118 : Cond.instanceMethod y_PW_many ∈ gw := gw_in 132 (by decide +kernel) rfl
theorem k_119 : Cond.code y_PW_many b_PW_many 2 (some .int) ∈ gw := gw_in 133 (by decide +kernel) rfl
theorem k_121 : Cond.static y_De_two ∈ gw := gw_in 135 (by decide +kernel) rfl
theorem k_122 : Cond.code y_De_two b_De_two 2 (some .int) ∈ gw := gw_in 136 (by decide +kernel) rfl
theorem k_123 : Cond.methodLink R_law (35 : Nat) y_PW_piece ∈ gw := gw_in 137 (by decide +kernel) rfl
theorem k_124 : Cond.instanceMethod y_PW_piece ∈ gw := gw_in 138 (by decide +kernel) rfl
theorem k_125 : Cond.selects R_PW y_PW_piece y_PW_piece ∈ gw := gw_in 139 (by decide +kernel) rfl
theorem k_126 : Cond.code y_PW_piece b_PW_piece 6 (some .int) ∈ gw := gw_in 140 (by decide +kernel) rfl
theorem k_127 : Cond.methodLink R_law (40 : Nat) y_PW_size ∈ gw := gw_in 141 (by decide +kernel) rfl
theorem k_128 : Cond.instanceMethod y_PW_size ∈ gw := gw_in 142 (by decide +kernel) rfl
theorem k_129 : Cond.selects R_PW y_PW_size y_PW_size ∈ gw := gw_in 143 (by decide +kernel) rfl
theorem k_130 : Cond.code y_PW_size b_PW_size 1 (some .int) ∈ gw := gw_in 144 (by decide +kernel) rfl
theorem k_131 : Cond.methodLink R_law (44 : Nat) y_PW_way ∈ gw := gw_in 145 (by decide +kernel) rfl
theorem k_132 : Cond.instanceMethod y_PW_way ∈ gw := gw_in 146 (by decide +kernel) rfl
theorem k_133 : Cond.selects R_PW y_PW_way y_PW_way ∈ gw := gw_in 147 (by decide +kernel) rfl
theorem k_134 : Cond.code y_PW_way b_PW_way 2 (some .int) ∈ gw := gw_in 148 (by decide +kernel) rfl
theorem k_135 : Cond.methodLink R_law (58 : Nat) y_PW_result ∈ gw := gw_in 149 (by decide +kernel) rfl
theorem k_136 : Cond.instanceMethod y_PW_result ∈ gw := gw_in 150 (by decide +kernel) rfl
theorem k_137 : Cond.selects R_PW y_PW_result y_PW_result ∈ gw := gw_in 151 (by decide +kernel) rfl
theorem k_138 : Cond.code y_PW_result b_PW_result 2 (some .int) ∈ gw := gw_in 152 (by decide +kernel) rfl
theorem k_139 : Cond.methodLink R_law (62 : Nat) y_PW_count ∈ gw := gw_in 153 (by decide +kernel) rfl
theorem k_140 : Cond.instanceMethod y_PW_count ∈ gw := gw_in 154 (by decide +kernel) rfl
theorem k_141 : Cond.selects R_PW y_PW_count y_PW_count ∈ gw := gw_in 155 (by decide +kernel) rfl
theorem k_142 : Cond.code y_PW_count b_PW_count 2 (some .int) ∈ gw := gw_in 156 (by decide +kernel) rfl
theorem k_143 : Cond.methodLink R_law (49 : Nat) y_La_go ∈ gw := gw_in 157 (by decide +kernel) rfl
theorem k_144 : Cond.static y_La_go ∈ gw := gw_in 158 (by decide +kernel) rfl
theorem k_147 : Cond.methodLink R_law (7 : Nat) y_PW_go ∈ gw := gw_in 161 (by decide +kernel) rfl
theorem k_148 : Cond.instanceMethod y_PW_go ∈ gw := gw_in 162 (by decide +kernel) rfl
theorem k_149 : Cond.selects R_PW y_PW_go y_PW_go ∈ gw := gw_in 163 (by decide +kernel) rfl
theorem k_150 : Cond.code y_PW_go b_PW_go 2 (some .int) ∈ gw := gw_in 164 (by decide +kernel) rfl
theorem k_212 : Cond.methodLink R_PW (66 : Nat) y_De_apply ∈ gw := gw_in 226 (by decide +kernel) rfl
theorem k_213 : Cond.static y_De_apply ∈ gw := gw_in 227 (by decide +kernel) rfl
theorem k_214 : Cond.code y_De_apply b_De_apply 11 (some .int) ∈ gw := gw_in 228 (by decide +kernel) rfl
theorem k_215 : Cond.methodLink R_De (49 : Nat) y_De_two ∈ gw := gw_in 229 (by decide +kernel) rfl
theorem k_216 : Cond.classLink R_law (16 : Nat) R_Mo ∈ gw := gw_in 230 (by decide +kernel) rfl
theorem k_217 : Cond.instantiable R_Mo (10 : Nat) ∈ gw := gw_in 231 (by decide +kernel) rfl
theorem k_218 : Cond.methodLink R_law (18 : Nat) y_Mo_init ∈ gw := gw_in 232 (by decide +kernel) rfl
theorem k_219 : Cond.instanceMethod y_Mo_init ∈ gw := gw_in 233 (by decide +kernel) rfl
theorem k_220 : Cond.code y_Mo_init b_Mo_init 1 none ∈ gw := gw_in 234 (by decide +kernel) rfl
theorem k_221 : Cond.methodLink R_Mo (1 : Nat) objectInit ∈ gw := gw_in 235 (by decide +kernel) rfl
theorem k_222 : Cond.fieldLink R_Mo 7 R_Mo "thrownCode" "I" ∈ gw := gw_in 236 (by decide +kernel) rfl
theorem k_223 : Cond.fieldLink R_Mo 13 R_Mo "base" "[I" ∈ gw := gw_in 237 (by decide +kernel) rfl
theorem k_224 : Cond.fieldLink R_Mo 17 R_Mo "bases" "I" ∈ gw := gw_in 238 (by decide +kernel) rfl
theorem k_225 : Cond.fieldLink R_Mo 20 R_Mo "target" "[I" ∈ gw := gw_in 239 (by decide +kernel) rfl
theorem k_226 : Cond.fieldLink R_Mo 23 R_Mo "targets" "I" ∈ gw := gw_in 240 (by decide +kernel) rfl
theorem k_227 : Cond.fieldLink R_Mo 26 R_Mo "row" "[I" ∈ gw := gw_in 241 (by decide +kernel) rfl
theorem k_228 : Cond.fieldLink R_Mo 29 R_Mo "size" "I" ∈ gw := gw_in 242 (by decide +kernel) rfl
theorem k_229 : Cond.fieldLink R_Mo 32 R_Mo "result" "[I" ∈ gw := gw_in 243 (by decide +kernel) rfl
theorem k_230 : Cond.fieldLink R_Mo 35 R_Mo "results" "I" ∈ gw := gw_in 244 (by decide +kernel) rfl
theorem k_231 : Cond.fieldLink R_Mo 38 R_Mo "next" "[I" ∈ gw := gw_in 245 (by decide +kernel) rfl
theorem k_253 : Cond.methodLink R_law (55 : Nat) y_Mo_thrown ∈ gw := gw_in 267 (by decide +kernel) rfl
theorem k_254 : Cond.instanceMethod y_Mo_thrown ∈ gw := gw_in 268 (by decide +kernel) rfl
theorem k_255 : Cond.selects R_Mo y_Mo_thrown y_Mo_thrown ∈ gw := gw_in 269 (by decide +kernel) rfl
theorem k_256 : Cond.code y_Mo_thrown b_Mo_thrown 1 (some .int) ∈ gw := gw_in 270 (by decide +kernel) rfl
theorem k_257 : Cond.methodLink R_law (25 : Nat) y_Mo_put ∈ gw := gw_in 271 (by decide +kernel) rfl
theorem k_258 : Cond.instanceMethod y_Mo_put ∈ gw := gw_in 272 (by decide +kernel) rfl
theorem k_259 : Cond.selects R_Mo y_Mo_put y_Mo_put ∈ gw := gw_in 273 (by decide +kernel) rfl
theorem k_260 : Cond.code y_Mo_put b_Mo_put 8 (some .boolean) ∈ gw := gw_in 274 (by decide +kernel) rfl
theorem k_261 : Cond.methodLink R_law (30 : Nat) y_Mo_clear ∈ gw := gw_in 275 (by decide +kernel) rfl
theorem k_262 : Cond.instanceMethod y_Mo_clear ∈ gw := gw_in 276 (by decide +kernel) rfl
theorem k_263 : Cond.selects R_Mo y_Mo_clear y_Mo_clear ∈ gw := gw_in 277 (by decide +kernel) rfl
theorem k_264 : Cond.code y_Mo_clear b_Mo_clear 2 none ∈ gw := gw_in 278 (by decide +kernel) rfl
theorem k_265 : Cond.methodLink R_law (34 : Nat) y_Mo_make ∈ gw := gw_in 279 (by decide +kernel) rfl
theorem k_266 : Cond.instanceMethod y_Mo_make ∈ gw := gw_in 280 (by decide +kernel) rfl
theorem k_267 : Cond.selects R_Mo y_Mo_make y_Mo_make ∈ gw := gw_in 281 (by decide +kernel) rfl
theorem k_268 : Cond.code y_Mo_make b_Mo_make 8 (some .int) ∈ gw := gw_in 282 (by decide +kernel) rfl
theorem k_269 : Cond.methodLink R_Mo (49 : Nat) y_Mo_alike ∈ gw := gw_in 283 (by decide +kernel) rfl
theorem k_271 : Cond.instanceMethod y_Mo_alike ∈ gw := gw_in 285 (by decide +kernel) rfl
theorem k_272 : Cond.code y_Mo_alike b_Mo_alike 4 (some .int) ∈ gw := gw_in 286 (by decide +kernel) rfl
theorem k_273 : Cond.methodLink R_Mo (41 : Nat) y_Mo_write ∈ gw := gw_in 287 (by decide +kernel) rfl
theorem k_275 : Cond.instanceMethod y_Mo_write ∈ gw := gw_in 289 (by decide +kernel) rfl
theorem k_276 : Cond.code y_Mo_write b_Mo_write 2 none ∈ gw := gw_in 290 (by decide +kernel) rfl
theorem k_277 : Cond.methodLink R_Mo (53 : Nat) y_Mo_writeTwo ∈ gw := gw_in 291 (by decide +kernel) rfl
theorem k_279 : Cond.instanceMethod y_Mo_writeTwo ∈ gw := gw_in 293 (by decide +kernel) rfl
theorem k_280 : Cond.code y_Mo_writeTwo b_Mo_writeTwo 2 none ∈ gw := gw_in 294 (by decide +kernel) rfl
theorem k_281 : Cond.methodLink R_Mo (45 : Nat) y_Mo_two ∈ gw := gw_in 295 (by decide +kernel) rfl
theorem k_283 : Cond.instanceMethod y_Mo_two ∈ gw := gw_in 297 (by decide +kernel) rfl
theorem k_284 : Cond.code y_Mo_two b_Mo_two 2 (some .int) ∈ gw := gw_in 298 (by decide +kernel) rfl
theorem k_285 : Cond.methodLink R_law (39 : Nat) y_Mo_piece ∈ gw := gw_in 299 (by decide +kernel) rfl
theorem k_286 : Cond.instanceMethod y_Mo_piece ∈ gw := gw_in 300 (by decide +kernel) rfl
theorem k_287 : Cond.selects R_Mo y_Mo_piece y_Mo_piece ∈ gw := gw_in 301 (by decide +kernel) rfl
theorem k_288 : Cond.code y_Mo_piece b_Mo_piece 6 (some .int) ∈ gw := gw_in 302 (by decide +kernel) rfl
theorem k_289 : Cond.methodLink R_Mo (56 : Nat) y_Mo_many ∈ gw := gw_in 303 (by decide +kernel) rfl
theorem k_291 : Cond.instanceMethod y_Mo_many ∈ gw := gw_in 305 (by decide +kernel) rfl
theorem k_292 : Cond.code y_Mo_many b_Mo_many 2 (some .int) ∈ gw := gw_in 306 (by decide +kernel) rfl
theorem k_293 : Cond.methodLink R_Mo (59 : Nat) y_Mo_behind ∈ gw := gw_in 307 (by decide +kernel) rfl
theorem k_295 : Cond.instanceMethod y_Mo_behind ∈ gw := gw_in 309 (by decide +kernel) rfl
theorem k_296 : Cond.code y_Mo_behind b_Mo_behind 2 (some .int) ∈ gw := gw_in 310 (by decide +kernel) rfl
theorem k_297 : Cond.methodLink R_law (43 : Nat) y_Mo_size ∈ gw := gw_in 311 (by decide +kernel) rfl
theorem k_298 : Cond.instanceMethod y_Mo_size ∈ gw := gw_in 312 (by decide +kernel) rfl
theorem k_299 : Cond.selects R_Mo y_Mo_size y_Mo_size ∈ gw := gw_in 313 (by decide +kernel) rfl
theorem k_300 : Cond.code y_Mo_size b_Mo_size 1 (some .int) ∈ gw := gw_in 314 (by decide +kernel) rfl
theorem k_301 : Cond.methodLink R_law (48 : Nat) y_Mo_way ∈ gw := gw_in 315 (by decide +kernel) rfl
theorem k_302 : Cond.instanceMethod y_Mo_way ∈ gw := gw_in 316 (by decide +kernel) rfl
theorem k_303 : Cond.selects R_Mo y_Mo_way y_Mo_way ∈ gw := gw_in 317 (by decide +kernel) rfl
theorem k_304 : Cond.code y_Mo_way b_Mo_way 2 (some .int) ∈ gw := gw_in 318 (by decide +kernel) rfl
theorem k_305 : Cond.methodLink R_law (54 : Nat) y_Mo_go ∈ gw := gw_in 319 (by decide +kernel) rfl
theorem k_306 : Cond.instanceMethod y_Mo_go ∈ gw := gw_in 320 (by decide +kernel) rfl
theorem k_307 : Cond.selects R_Mo y_Mo_go y_Mo_go ∈ gw := gw_in 321 (by decide +kernel) rfl
theorem k_308 : Cond.code y_Mo_go b_Mo_go 5 (some .int) ∈ gw := gw_in 322 (by decide +kernel) rfl
theorem k_309 : Cond.methodLink R_law (61 : Nat) y_Mo_result ∈ gw := gw_in 323 (by decide +kernel) rfl
theorem k_310 : Cond.instanceMethod y_Mo_result ∈ gw := gw_in 324 (by decide +kernel) rfl
theorem k_311 : Cond.selects R_Mo y_Mo_result y_Mo_result ∈ gw := gw_in 325 (by decide +kernel) rfl
theorem k_312 : Cond.code y_Mo_result b_Mo_result 2 (some .int) ∈ gw := gw_in 326 (by decide +kernel) rfl
theorem k_313 : Cond.methodLink R_law (65 : Nat) y_Mo_count ∈ gw := gw_in 327 (by decide +kernel) rfl
theorem k_314 : Cond.instanceMethod y_Mo_count ∈ gw := gw_in 328 (by decide +kernel) rfl
theorem k_315 : Cond.selects R_Mo y_Mo_count y_Mo_count ∈ gw := gw_in 329 (by decide +kernel) rfl
theorem k_316 : Cond.code y_Mo_count b_Mo_count 2 (some .int) ∈ gw := gw_in 330 (by decide +kernel) rfl
theorem k_317 : Cond.constantLong "PieceWaysLaw" (19 : Nat) (4294967295 : Int64) ∈ gw := gw_in 331 (by decide +kernel) rfl
theorem k_318 : Cond.arrayClass FieldType.long ∈ gw := gw_in 332 (by decide +kernel) rfl
theorem kp_0 : Cond.selects R_De y_De_index y_De_index ∈ gw := gw_in 0 (by decide +kernel) rfl
theorem kp_1 : Cond.selects R_De y_De_plain y_De_plain ∈ gw := gw_in 1 (by decide +kernel) rfl
theorem kp_2 : Cond.selects R_De y_De_put y_De_put ∈ gw := gw_in 2 (by decide +kernel) rfl
theorem kp_3 : Cond.selects R_De y_De_putTwo y_De_putTwo ∈ gw := gw_in 3 (by decide +kernel) rfl
theorem kp_4 : Cond.selects R_PW y_PW_next y_PW_next ∈ gw := gw_in 4 (by decide +kernel) rfl
theorem kp_5 : Cond.selects R_PW y_PW_isCopy y_PW_isCopy ∈ gw := gw_in 5 (by decide +kernel) rfl
theorem kp_6 : Cond.selects R_PW y_PW_many y_PW_many ∈ gw := gw_in 6 (by decide +kernel) rfl
theorem kp_8 : Cond.selects R_Mo y_Mo_alike y_Mo_alike ∈ gw := gw_in 8 (by decide +kernel) rfl
theorem kp_9 : Cond.selects R_Mo y_Mo_write y_Mo_write ∈ gw := gw_in 9 (by decide +kernel) rfl
theorem kp_10 : Cond.selects R_Mo y_Mo_writeTwo y_Mo_writeTwo ∈ gw := gw_in 10 (by decide +kernel) rfl
theorem kp_11 : Cond.selects R_Mo y_Mo_two y_Mo_two ∈ gw := gw_in 11 (by decide +kernel) rfl
theorem kp_12 : Cond.selects R_Mo y_Mo_many y_Mo_many ∈ gw := gw_in 12 (by decide +kernel) rfl
theorem kp_13 : Cond.selects R_Mo y_Mo_behind y_Mo_behind ∈ gw := gw_in 13 (by decide +kernel) rfl
/-! call sites: the words that the call needs -/
theorem hd_De_put : y_De_put.cls ≠ "java/lang/invoke/MethodHandle" ∧ y_De_put.cls ≠ "java/lang/invoke/VarHandle" ∧ (parseMethodDescriptor y_De_put.desc).map (fun d => d.parameters.length) = some 1 := by decide +kernel
theorem g_De_26 : GoodIn gw (wsV R_De 26 R_De y_De_put (Wd y_De_put b_De_put 2 none)) := gd_V k_92 k_94 kp_2 k_2 k_95
theorem hd_De_sum : y_De_sum.cls ≠ "java/lang/invoke/MethodHandle" ∧ y_De_sum.cls ≠ "java/lang/invoke/VarHandle" ∧ (parseMethodDescriptor y_De_sum.desc).map (fun d => d.parameters.length) = some 2 := by decide +kernel
theorem g_De_30 : GoodIn gw (va_wsS R_De 30 y_De_sum (Wd y_De_sum b_De_sum 4 (some .int))) := gd_S k_82 k_83 k_2 k_84
theorem hd_De_putTwo : y_De_putTwo.cls ≠ "java/lang/invoke/MethodHandle" ∧ y_De_putTwo.cls ≠ "java/lang/invoke/VarHandle" ∧ (parseMethodDescriptor y_De_putTwo.desc).map (fun d => d.parameters.length) = some 1 := by decide +kernel
theorem g_De_34 : GoodIn gw (wsV R_De 34 R_De y_De_putTwo (Wd y_De_putTwo b_De_putTwo 2 none)) := gd_V k_96 k_98 kp_3 k_2 k_99
theorem hd_De_index : y_De_index.cls ≠ "java/lang/invoke/MethodHandle" ∧ y_De_index.cls ≠ "java/lang/invoke/VarHandle" ∧ (parseMethodDescriptor y_De_index.desc).map (fun d => d.parameters.length) = some 2 := by decide +kernel
theorem g_De_37 : GoodIn gw (wsV R_De 37 R_De y_De_index (Wd y_De_index b_De_index 5 none)) := gd_V k_78 k_80 kp_0 k_2 k_81
theorem hd_De_alike : y_De_alike.cls ≠ "java/lang/invoke/MethodHandle" ∧ y_De_alike.cls ≠ "java/lang/invoke/VarHandle" ∧ (parseMethodDescriptor y_De_alike.desc).map (fun d => d.parameters.length) = some 6 := by decide +kernel
theorem g_De_41 : GoodIn gw (va_wsS R_De 41 y_De_alike (Wd y_De_alike b_De_alike 7 (some .int))) := gd_S k_85 k_86 k_2 k_87
theorem hd_De_plain : y_De_plain.cls ≠ "java/lang/invoke/MethodHandle" ∧ y_De_plain.cls ≠ "java/lang/invoke/VarHandle" ∧ (parseMethodDescriptor y_De_plain.desc).map (fun d => d.parameters.length) = some 3 := by decide +kernel
theorem g_De_45 : GoodIn gw (wsV R_De 45 R_De y_De_plain (Wd y_De_plain b_De_plain 5 none)) := gd_V k_88 k_90 kp_1 k_2 k_91
theorem hd_De_two : y_De_two.cls ≠ "java/lang/invoke/MethodHandle" ∧ y_De_two.cls ≠ "java/lang/invoke/VarHandle" ∧ (parseMethodDescriptor y_De_two.desc).map (fun d => d.parameters.length) = some 2 := by decide +kernel
theorem g_De_49 : GoodIn gw (va_wsS R_De 49 y_De_two (Wd y_De_two b_De_two 2 (some .int))) := gd_S k_215 k_121 k_2 k_122
theorem hd_PW_go : y_PW_go.cls ≠ "java/lang/invoke/MethodHandle" ∧ y_PW_go.cls ≠ "java/lang/invoke/VarHandle" ∧ (parseMethodDescriptor y_PW_go.desc).map (fun d => d.parameters.length) = some 0 := by decide +kernel
theorem g_La_7 : GoodIn gw (wsV R_law 7 R_PW y_PW_go (Wd y_PW_go b_PW_go 2 (some .int))) := gd_V k_147 k_148 k_149 k_1 k_150
theorem hd_PW_init : y_PW_init.cls ≠ "java/lang/invoke/MethodHandle" ∧ y_PW_init.cls ≠ "java/lang/invoke/VarHandle" ∧ (parseMethodDescriptor y_PW_init.desc).map (fun d => d.parameters.length) = some 0 := by decide +kernel
theorem g_La_15 : GoodIn gw (Wd y_PW_init b_PW_init 1 none) := gd_W k_12
theorem hd_Mo_init : y_Mo_init.cls ≠ "java/lang/invoke/MethodHandle" ∧ y_Mo_init.cls ≠ "java/lang/invoke/VarHandle" ∧ (parseMethodDescriptor y_Mo_init.desc).map (fun d => d.parameters.length) = some 0 := by decide +kernel
theorem g_La_18 : GoodIn gw (Wd y_Mo_init b_Mo_init 1 none) := gd_W k_220
theorem hd_PW_put : y_PW_put.cls ≠ "java/lang/invoke/MethodHandle" ∧ y_PW_put.cls ≠ "java/lang/invoke/VarHandle" ∧ (parseMethodDescriptor y_PW_put.desc).map (fun d => d.parameters.length) = some 3 := by decide +kernel
theorem g_La_21 : GoodIn gw (wsV R_law 21 R_PW y_PW_put (Wd y_PW_put b_PW_put 8 (some .boolean))) := gd_V k_62 k_63 k_64 k_1 k_65
theorem hd_Mo_put : y_Mo_put.cls ≠ "java/lang/invoke/MethodHandle" ∧ y_Mo_put.cls ≠ "java/lang/invoke/VarHandle" ∧ (parseMethodDescriptor y_Mo_put.desc).map (fun d => d.parameters.length) = some 3 := by decide +kernel
theorem g_La_25 : GoodIn gw (wsV R_law 25 R_Mo y_Mo_put (Wd y_Mo_put b_Mo_put 8 (some .boolean))) := gd_V k_257 k_258 k_259 k_3 k_260
theorem hd_PW_clear : y_PW_clear.cls ≠ "java/lang/invoke/MethodHandle" ∧ y_PW_clear.cls ≠ "java/lang/invoke/VarHandle" ∧ (parseMethodDescriptor y_PW_clear.desc).map (fun d => d.parameters.length) = some 1 := by decide +kernel
theorem g_La_26 : GoodIn gw (wsV R_law 26 R_PW y_PW_clear (Wd y_PW_clear b_PW_clear 2 none)) := gd_V k_66 k_67 k_68 k_1 k_69
theorem hd_Mo_clear : y_Mo_clear.cls ≠ "java/lang/invoke/MethodHandle" ∧ y_Mo_clear.cls ≠ "java/lang/invoke/VarHandle" ∧ (parseMethodDescriptor y_Mo_clear.desc).map (fun d => d.parameters.length) = some 1 := by decide +kernel
theorem g_La_30 : GoodIn gw (wsV R_law 30 R_Mo y_Mo_clear (Wd y_Mo_clear b_Mo_clear 2 none)) := gd_V k_261 k_262 k_263 k_3 k_264
theorem hd_PW_make : y_PW_make.cls ≠ "java/lang/invoke/MethodHandle" ∧ y_PW_make.cls ≠ "java/lang/invoke/VarHandle" ∧ (parseMethodDescriptor y_PW_make.desc).map (fun d => d.parameters.length) = some 0 := by decide +kernel
theorem g_La_31 : GoodIn gw (wsV R_law 31 R_PW y_PW_make (Wd y_PW_make b_PW_make 2 (some .int))) := gd_V k_70 k_71 k_72 k_1 k_73
theorem hd_Mo_make : y_Mo_make.cls ≠ "java/lang/invoke/MethodHandle" ∧ y_Mo_make.cls ≠ "java/lang/invoke/VarHandle" ∧ (parseMethodDescriptor y_Mo_make.desc).map (fun d => d.parameters.length) = some 0 := by decide +kernel
theorem g_La_34 : GoodIn gw (wsV R_law 34 R_Mo y_Mo_make (Wd y_Mo_make b_Mo_make 8 (some .int))) := gd_V k_265 k_266 k_267 k_3 k_268
theorem hd_PW_piece : y_PW_piece.cls ≠ "java/lang/invoke/MethodHandle" ∧ y_PW_piece.cls ≠ "java/lang/invoke/VarHandle" ∧ (parseMethodDescriptor y_PW_piece.desc).map (fun d => d.parameters.length) = some 2 := by decide +kernel
theorem g_La_35 : GoodIn gw (wsV R_law 35 R_PW y_PW_piece (Wd y_PW_piece b_PW_piece 6 (some .int))) := gd_V k_123 k_124 k_125 k_1 k_126
theorem hd_Mo_piece : y_Mo_piece.cls ≠ "java/lang/invoke/MethodHandle" ∧ y_Mo_piece.cls ≠ "java/lang/invoke/VarHandle" ∧ (parseMethodDescriptor y_Mo_piece.desc).map (fun d => d.parameters.length) = some 2 := by decide +kernel
theorem g_La_39 : GoodIn gw (wsV R_law 39 R_Mo y_Mo_piece (Wd y_Mo_piece b_Mo_piece 6 (some .int))) := gd_V k_285 k_286 k_287 k_3 k_288
theorem hd_PW_size : y_PW_size.cls ≠ "java/lang/invoke/MethodHandle" ∧ y_PW_size.cls ≠ "java/lang/invoke/VarHandle" ∧ (parseMethodDescriptor y_PW_size.desc).map (fun d => d.parameters.length) = some 0 := by decide +kernel
theorem g_La_40 : GoodIn gw (wsV R_law 40 R_PW y_PW_size (Wd y_PW_size b_PW_size 1 (some .int))) := gd_V k_127 k_128 k_129 k_1 k_130
theorem hd_Mo_size : y_Mo_size.cls ≠ "java/lang/invoke/MethodHandle" ∧ y_Mo_size.cls ≠ "java/lang/invoke/VarHandle" ∧ (parseMethodDescriptor y_Mo_size.desc).map (fun d => d.parameters.length) = some 0 := by decide +kernel
theorem g_La_43 : GoodIn gw (wsV R_law 43 R_Mo y_Mo_size (Wd y_Mo_size b_Mo_size 1 (some .int))) := gd_V k_297 k_298 k_299 k_3 k_300
theorem hd_PW_way : y_PW_way.cls ≠ "java/lang/invoke/MethodHandle" ∧ y_PW_way.cls ≠ "java/lang/invoke/VarHandle" ∧ (parseMethodDescriptor y_PW_way.desc).map (fun d => d.parameters.length) = some 1 := by decide +kernel
theorem g_La_44 : GoodIn gw (wsV R_law 44 R_PW y_PW_way (Wd y_PW_way b_PW_way 2 (some .int))) := gd_V k_131 k_132 k_133 k_1 k_134
theorem hd_Mo_way : y_Mo_way.cls ≠ "java/lang/invoke/MethodHandle" ∧ y_Mo_way.cls ≠ "java/lang/invoke/VarHandle" ∧ (parseMethodDescriptor y_Mo_way.desc).map (fun d => d.parameters.length) = some 1 := by decide +kernel
theorem g_La_48 : GoodIn gw (wsV R_law 48 R_Mo y_Mo_way (Wd y_Mo_way b_Mo_way 2 (some .int))) := gd_V k_301 k_302 k_303 k_3 k_304
theorem hd_La_go : y_La_go.cls ≠ "java/lang/invoke/MethodHandle" ∧ y_La_go.cls ≠ "java/lang/invoke/VarHandle" ∧ (parseMethodDescriptor y_La_go.desc).map (fun d => d.parameters.length) = some 2 := by decide +kernel
theorem hd_Mo_go : y_Mo_go.cls ≠ "java/lang/invoke/MethodHandle" ∧ y_Mo_go.cls ≠ "java/lang/invoke/VarHandle" ∧ (parseMethodDescriptor y_Mo_go.desc).map (fun d => d.parameters.length) = some 0 := by decide +kernel
theorem g_La_54 : GoodIn gw (wsV R_law 54 R_Mo y_Mo_go (Wd y_Mo_go b_Mo_go 5 (some .int))) := gd_V k_305 k_306 k_307 k_3 k_308
theorem hd_Mo_thrown : y_Mo_thrown.cls ≠ "java/lang/invoke/MethodHandle" ∧ y_Mo_thrown.cls ≠ "java/lang/invoke/VarHandle" ∧ (parseMethodDescriptor y_Mo_thrown.desc).map (fun d => d.parameters.length) = some 0 := by decide +kernel
theorem g_La_55 : GoodIn gw (wsV R_law 55 R_Mo y_Mo_thrown (Wd y_Mo_thrown b_Mo_thrown 1 (some .int))) := gd_V k_253 k_254 k_255 k_3 k_256
theorem hd_PW_result : y_PW_result.cls ≠ "java/lang/invoke/MethodHandle" ∧ y_PW_result.cls ≠ "java/lang/invoke/VarHandle" ∧ (parseMethodDescriptor y_PW_result.desc).map (fun d => d.parameters.length) = some 1 := by decide +kernel
theorem g_La_58 : GoodIn gw (wsV R_law 58 R_PW y_PW_result (Wd y_PW_result b_PW_result 2 (some .int))) := gd_V k_135 k_136 k_137 k_1 k_138
theorem hd_Mo_result : y_Mo_result.cls ≠ "java/lang/invoke/MethodHandle" ∧ y_Mo_result.cls ≠ "java/lang/invoke/VarHandle" ∧ (parseMethodDescriptor y_Mo_result.desc).map (fun d => d.parameters.length) = some 1 := by decide +kernel
theorem g_La_61 : GoodIn gw (wsV R_law 61 R_Mo y_Mo_result (Wd y_Mo_result b_Mo_result 2 (some .int))) := gd_V k_309 k_310 k_311 k_3 k_312
theorem hd_PW_count : y_PW_count.cls ≠ "java/lang/invoke/MethodHandle" ∧ y_PW_count.cls ≠ "java/lang/invoke/VarHandle" ∧ (parseMethodDescriptor y_PW_count.desc).map (fun d => d.parameters.length) = some 1 := by decide +kernel
theorem g_La_62 : GoodIn gw (wsV R_law 62 R_PW y_PW_count (Wd y_PW_count b_PW_count 2 (some .int))) := gd_V k_139 k_140 k_141 k_1 k_142
theorem hd_Mo_count : y_Mo_count.cls ≠ "java/lang/invoke/MethodHandle" ∧ y_Mo_count.cls ≠ "java/lang/invoke/VarHandle" ∧ (parseMethodDescriptor y_Mo_count.desc).map (fun d => d.parameters.length) = some 1 := by decide +kernel
theorem g_La_65 : GoodIn gw (wsV R_law 65 R_Mo y_Mo_count (Wd y_Mo_count b_Mo_count 2 (some .int))) := gd_V k_313 k_314 k_315 k_3 k_316
theorem hd_Mo_write : y_Mo_write.cls ≠ "java/lang/invoke/MethodHandle" ∧ y_Mo_write.cls ≠ "java/lang/invoke/VarHandle" ∧ (parseMethodDescriptor y_Mo_write.desc).map (fun d => d.parameters.length) = some 1 := by decide +kernel
theorem g_Mo_41 : GoodIn gw (wsV R_Mo 41 R_Mo y_Mo_write (Wd y_Mo_write b_Mo_write 2 none)) := gd_V k_273 k_275 kp_9 k_3 k_276
theorem hd_Mo_two : y_Mo_two.cls ≠ "java/lang/invoke/MethodHandle" ∧ y_Mo_two.cls ≠ "java/lang/invoke/VarHandle" ∧ (parseMethodDescriptor y_Mo_two.desc).map (fun d => d.parameters.length) = some 1 := by decide +kernel
theorem g_Mo_45 : GoodIn gw (wsV R_Mo 45 R_Mo y_Mo_two (Wd y_Mo_two b_Mo_two 2 (some .int))) := gd_V k_281 k_283 kp_11 k_3 k_284
theorem hd_Mo_alike : y_Mo_alike.cls ≠ "java/lang/invoke/MethodHandle" ∧ y_Mo_alike.cls ≠ "java/lang/invoke/VarHandle" ∧ (parseMethodDescriptor y_Mo_alike.desc).map (fun d => d.parameters.length) = some 2 := by decide +kernel
theorem g_Mo_49 : GoodIn gw (wsV R_Mo 49 R_Mo y_Mo_alike (Wd y_Mo_alike b_Mo_alike 4 (some .int))) := gd_V k_269 k_271 kp_8 k_3 k_272
theorem hd_Mo_writeTwo : y_Mo_writeTwo.cls ≠ "java/lang/invoke/MethodHandle" ∧ y_Mo_writeTwo.cls ≠ "java/lang/invoke/VarHandle" ∧ (parseMethodDescriptor y_Mo_writeTwo.desc).map (fun d => d.parameters.length) = some 1 := by decide +kernel
theorem g_Mo_53 : GoodIn gw (wsV R_Mo 53 R_Mo y_Mo_writeTwo (Wd y_Mo_writeTwo b_Mo_writeTwo 2 none)) := gd_V k_277 k_279 kp_10 k_3 k_280
theorem hd_Mo_many : y_Mo_many.cls ≠ "java/lang/invoke/MethodHandle" ∧ y_Mo_many.cls ≠ "java/lang/invoke/VarHandle" ∧ (parseMethodDescriptor y_Mo_many.desc).map (fun d => d.parameters.length) = some 1 := by decide +kernel
theorem g_Mo_56 : GoodIn gw (wsV R_Mo 56 R_Mo y_Mo_many (Wd y_Mo_many b_Mo_many 2 (some .int))) := gd_V k_289 k_291 kp_12 k_3 k_292
theorem hd_Mo_behind : y_Mo_behind.cls ≠ "java/lang/invoke/MethodHandle" ∧ y_Mo_behind.cls ≠ "java/lang/invoke/VarHandle" ∧ (parseMethodDescriptor y_Mo_behind.desc).map (fun d => d.parameters.length) = some 1 := by decide +kernel
theorem g_Mo_59 : GoodIn gw (wsV R_Mo 59 R_Mo y_Mo_behind (Wd y_Mo_behind b_Mo_behind 2 (some .int))) := gd_V k_293 k_295 kp_13 k_3 k_296
theorem hd_De_init : y_De_init.cls ≠ "java/lang/invoke/MethodHandle" ∧ y_De_init.cls ≠ "java/lang/invoke/VarHandle" ∧ (parseMethodDescriptor y_De_init.desc).map (fun d => d.parameters.length) = some 0 := by decide +kernel
theorem g_PW_21 : GoodIn gw (Wd y_De_init b_De_init 1 none) := gd_W k_20
theorem hd_De_out : y_De_out.cls ≠ "java/lang/invoke/MethodHandle" ∧ y_De_out.cls ≠ "java/lang/invoke/VarHandle" ∧ (parseMethodDescriptor y_De_out.desc).map (fun d => d.parameters.length) = some 0 := by decide +kernel
theorem g_PW_33 : GoodIn gw (wsV R_PW 33 R_De y_De_out (Wd y_De_out b_De_out 1 (some (.array .byte)))) := gd_V k_112 k_113 k_114 k_2 k_115
theorem hd_PW_isCopy : y_PW_isCopy.cls ≠ "java/lang/invoke/MethodHandle" ∧ y_PW_isCopy.cls ≠ "java/lang/invoke/VarHandle" ∧ (parseMethodDescriptor y_PW_isCopy.desc).map (fun d => d.parameters.length) = some 1 := by decide +kernel
theorem g_PW_37 : GoodIn gw (wsV R_PW 37 R_PW y_PW_isCopy (Wd y_PW_isCopy b_PW_isCopy 2 (some .boolean))) := gd_V k_108 k_110 kp_5 k_1 k_111
theorem g_PW_41 : GoodIn gw (Wd y_De_two b_De_two 2 (some .int)) := gd_W k_122
theorem hd_PW_many : y_PW_many.cls ≠ "java/lang/invoke/MethodHandle" ∧ y_PW_many.cls ≠ "java/lang/invoke/VarHandle" ∧ (parseMethodDescriptor y_PW_many.desc).map (fun d => d.parameters.length) = some 1 := by decide +kernel
theorem g_PW_45 : GoodIn gw (wsV R_PW 45 R_PW y_PW_many (Wd y_PW_many b_PW_many 2 (some .int))) := gd_V k_116 k_118 kp_6 k_1 k_119
theorem hd_De_make : y_De_make.cls ≠ "java/lang/invoke/MethodHandle" ∧ y_De_make.cls ≠ "java/lang/invoke/VarHandle" ∧ (parseMethodDescriptor y_De_make.desc).map (fun d => d.parameters.length) = some 4 := by decide +kernel
theorem g_PW_49 : GoodIn gw (wsV R_PW 49 R_De y_De_make (Wd y_De_make b_De_make 11 none)) := gd_V k_74 k_75 k_76 k_2 k_77
theorem hd_De_size : y_De_size.cls ≠ "java/lang/invoke/MethodHandle" ∧ y_De_size.cls ≠ "java/lang/invoke/VarHandle" ∧ (parseMethodDescriptor y_De_size.desc).map (fun d => d.parameters.length) = some 0 := by decide +kernel
theorem g_PW_56 : GoodIn gw (wsV R_PW 56 R_De y_De_size (Wd y_De_size b_De_size 1 (some .int))) := gd_V k_100 k_101 k_102 k_2 k_103
theorem hd_PW_next : y_PW_next.cls ≠ "java/lang/invoke/MethodHandle" ∧ y_PW_next.cls ≠ "java/lang/invoke/VarHandle" ∧ (parseMethodDescriptor y_PW_next.desc).map (fun d => d.parameters.length) = some 1 := by decide +kernel
theorem g_PW_60 : GoodIn gw (wsV R_PW 60 R_PW y_PW_next (Wd y_PW_next b_PW_next 2 (some .int))) := gd_V k_104 k_106 kp_4 k_1 k_107
theorem hd_De_apply : y_De_apply.cls ≠ "java/lang/invoke/MethodHandle" ∧ y_De_apply.cls ≠ "java/lang/invoke/VarHandle" ∧ (parseMethodDescriptor y_De_apply.desc).map (fun d => d.parameters.length) = some 5 := by decide +kernel
theorem g_PW_66 : GoodIn gw (va_wsS R_PW 66 y_De_apply (Wd y_De_apply b_De_apply 11 (some .int))) := gd_S k_212 k_213 k_2 k_214
end
section
theorem d_De_init_0 : decode b_De_init 0 = .ok (.aload_n 0, 1) := by decide +kernel
theorem d_De_init_1 : decode b_De_init 1 = .ok (.invokespecial 3, 3) := by decide +kernel
theorem d_De_init_4 : decode b_De_init 4 = .ok (.aload_n 0, 1) := by decide +kernel
theorem d_De_init_5 : decode b_De_init 5 = .ok (.sipush 256, 3) := by decide +kernel
theorem d_De_init_8 : decode b_De_init 8 = .ok (.newarray .int, 2) := by decide +kernel
theorem d_De_init_10 : decode b_De_init 10 = .ok (.putfield 11, 3) := by decide +kernel
theorem d_De_init_13 : decode b_De_init 13 = .ok (.aload_n 0, 1) := by decide +kernel
theorem d_De_init_14 : decode b_De_init 14 = .ok (.sipush 188, 3) := by decide +kernel
theorem d_De_init_17 : decode b_De_init 17 = .ok (.newarray .int, 2) := by decide +kernel
theorem d_De_init_19 : decode b_De_init 19 = .ok (.putfield 15, 3) := by decide +kernel
theorem d_De_init_22 : decode b_De_init 22 = .ok (.aload_n 0, 1) := by decide +kernel
theorem d_De_init_23 : decode b_De_init 23 = .ok (.sipush 3064, 3) := by decide +kernel
theorem d_De_init_26 : decode b_De_init 26 = .ok (.newarray .byte, 2) := by decide +kernel
theorem d_De_init_28 : decode b_De_init 28 = .ok (.putfield 18, 3) := by decide +kernel
theorem d_De_init_31 : decode b_De_init 31 = .ok (.return_, 1) := by decide +kernel
theorem d_De_out_0 : decode b_De_out 0 = .ok (.aload_n 0, 1) := by decide +kernel
theorem d_De_out_1 : decode b_De_out 1 = .ok (.getfield 18, 3) := by decide +kernel
theorem d_De_out_4 : decode b_De_out 4 = .ok (.areturn, 1) := by decide +kernel
theorem d_De_size_0 : decode b_De_size 0 = .ok (.aload_n 0, 1) := by decide +kernel
theorem d_De_size_1 : decode b_De_size 1 = .ok (.getfield 22, 3) := by decide +kernel
theorem d_De_size_4 : decode b_De_size 4 = .ok (.ireturn, 1) := by decide +kernel
theorem d_De_put_0 : decode b_De_put 0 = .ok (.aload_n 0, 1) := by decide +kernel
theorem d_De_put_1 : decode b_De_put 1 = .ok (.getfield 18, 3) := by decide +kernel
theorem d_De_put_4 : decode b_De_put 4 = .ok (.aload_n 0, 1) := by decide +kernel
theorem d_De_put_5 : decode b_De_put 5 = .ok (.dup, 1) := by decide +kernel
theorem d_De_put_6 : decode b_De_put 6 = .ok (.getfield 22, 3) := by decide +kernel
theorem d_De_put_9 : decode b_De_put 9 = .ok (.dup_x1, 1) := by decide +kernel
theorem d_De_put_10 : decode b_De_put 10 = .ok (.iconst 1, 1) := by decide +kernel
theorem d_De_put_11 : decode b_De_put 11 = .ok (.iadd, 1) := by decide +kernel
theorem d_De_put_12 : decode b_De_put 12 = .ok (.putfield 22, 3) := by decide +kernel
theorem d_De_put_15 : decode b_De_put 15 = .ok (.iload_n 1, 1) := by decide +kernel
theorem d_De_put_16 : decode b_De_put 16 = .ok (.i2b, 1) := by decide +kernel
theorem d_De_put_17 : decode b_De_put 17 = .ok (.bastore, 1) := by decide +kernel
theorem d_De_put_18 : decode b_De_put 18 = .ok (.return_, 1) := by decide +kernel
theorem d_De_putTwo_0 : decode b_De_putTwo 0 = .ok (.aload_n 0, 1) := by decide +kernel
theorem d_De_putTwo_1 : decode b_De_putTwo 1 = .ok (.iload_n 1, 1) := by decide +kernel
theorem d_De_putTwo_2 : decode b_De_putTwo 2 = .ok (.bipush 8, 2) := by decide +kernel
theorem d_De_putTwo_4 : decode b_De_putTwo 4 = .ok (.ishr, 1) := by decide +kernel
theorem d_De_putTwo_5 : decode b_De_putTwo 5 = .ok (.invokevirtual 26, 3) := by decide +kernel
theorem d_De_putTwo_8 : decode b_De_putTwo 8 = .ok (.aload_n 0, 1) := by decide +kernel
theorem d_De_putTwo_9 : decode b_De_putTwo 9 = .ok (.iload_n 1, 1) := by decide +kernel
theorem d_De_putTwo_10 : decode b_De_putTwo 10 = .ok (.invokevirtual 26, 3) := by decide +kernel
theorem d_De_putTwo_13 : decode b_De_putTwo 13 = .ok (.return_, 1) := by decide +kernel
theorem d_De_sum_0 : decode b_De_sum 0 = .ok (.iconst 0, 1) := by decide +kernel
theorem d_De_sum_1 : decode b_De_sum 1 = .ok (.istore_n 2, 1) := by decide +kernel
theorem d_De_sum_2 : decode b_De_sum 2 = .ok (.iconst 0, 1) := by decide +kernel
theorem d_De_sum_3 : decode b_De_sum 3 = .ok (.istore_n 3, 1) := by decide +kernel
theorem d_De_sum_4 : decode b_De_sum 4 = .ok (.iload_n 3, 1) := by decide +kernel
theorem d_De_sum_5 : decode b_De_sum 5 = .ok (.bipush 8, 2) := by decide +kernel
theorem d_De_sum_7 : decode b_De_sum 7 = .ok (.if_icmp .ge 25, 3) := by decide +kernel
theorem d_De_sum_10 : decode b_De_sum 10 = .ok (.iload_n 2, 1) := by decide +kernel
theorem d_De_sum_11 : decode b_De_sum 11 = .ok (.iload_n 3, 1) := by decide +kernel
theorem d_De_sum_12 : decode b_De_sum 12 = .ok (.iconst 1, 1) := by decide +kernel
theorem d_De_sum_13 : decode b_De_sum 13 = .ok (.iadd, 1) := by decide +kernel
theorem d_De_sum_14 : decode b_De_sum 14 = .ok (.aload_n 0, 1) := by decide +kernel
theorem d_De_sum_15 : decode b_De_sum 15 = .ok (.iload_n 1, 1) := by decide +kernel
theorem d_De_sum_16 : decode b_De_sum 16 = .ok (.iload_n 3, 1) := by decide +kernel
theorem d_De_sum_17 : decode b_De_sum 17 = .ok (.iadd, 1) := by decide +kernel
theorem d_De_sum_18 : decode b_De_sum 18 = .ok (.baload, 1) := by decide +kernel
theorem d_De_sum_19 : decode b_De_sum 19 = .ok (.sipush 255, 3) := by decide +kernel
theorem d_De_sum_22 : decode b_De_sum 22 = .ok (.iand, 1) := by decide +kernel
theorem d_De_sum_23 : decode b_De_sum 23 = .ok (.imul, 1) := by decide +kernel
theorem d_De_sum_24 : decode b_De_sum 24 = .ok (.iadd, 1) := by decide +kernel
theorem d_De_sum_25 : decode b_De_sum 25 = .ok (.istore_n 2, 1) := by decide +kernel
theorem d_De_sum_26 : decode b_De_sum 26 = .ok (.iinc 3 1, 3) := by decide +kernel
theorem d_De_sum_29 : decode b_De_sum 29 = .ok (.goto (-25), 3) := by decide +kernel
theorem d_De_sum_32 : decode b_De_sum 32 = .ok (.iload_n 2, 1) := by decide +kernel
theorem d_De_sum_33 : decode b_De_sum 33 = .ok (.sipush 255, 3) := by decide +kernel
theorem d_De_sum_36 : decode b_De_sum 36 = .ok (.iand, 1) := by decide +kernel
theorem d_De_sum_37 : decode b_De_sum 37 = .ok (.ireturn, 1) := by decide +kernel
theorem d_De_index_0 : decode b_De_index 0 = .ok (.iconst 0, 1) := by decide +kernel
theorem d_De_index_1 : decode b_De_index 1 = .ok (.istore_n 3, 1) := by decide +kernel
theorem d_De_index_2 : decode b_De_index 2 = .ok (.iload_n 3, 1) := by decide +kernel
theorem d_De_index_3 : decode b_De_index 3 = .ok (.sipush 256, 3) := by decide +kernel
theorem d_De_index_6 : decode b_De_index 6 = .ok (.if_icmp .ge 16, 3) := by decide +kernel
theorem d_De_index_9 : decode b_De_index 9 = .ok (.aload_n 0, 1) := by decide +kernel
theorem d_De_index_10 : decode b_De_index 10 = .ok (.getfield 11, 3) := by decide +kernel
theorem d_De_index_13 : decode b_De_index 13 = .ok (.iload_n 3, 1) := by decide +kernel
theorem d_De_index_14 : decode b_De_index 14 = .ok (.iconst (-1), 1) := by decide +kernel
theorem d_De_index_15 : decode b_De_index 15 = .ok (.iastore, 1) := by decide +kernel
theorem d_De_index_16 : decode b_De_index 16 = .ok (.iinc 3 1, 3) := by decide +kernel
theorem d_De_index_19 : decode b_De_index 19 = .ok (.goto (-17), 3) := by decide +kernel
theorem d_De_index_22 : decode b_De_index 22 = .ok (.iload_n 2, 1) := by decide +kernel
theorem d_De_index_23 : decode b_De_index 23 = .ok (.bipush 8, 2) := by decide +kernel
theorem d_De_index_25 : decode b_De_index 25 = .ok (.idiv, 1) := by decide +kernel
theorem d_De_index_26 : decode b_De_index 26 = .ok (.iconst 1, 1) := by decide +kernel
theorem d_De_index_27 : decode b_De_index 27 = .ok (.isub, 1) := by decide +kernel
theorem d_De_index_28 : decode b_De_index 28 = .ok (.istore_n 3, 1) := by decide +kernel
theorem d_De_index_29 : decode b_De_index 29 = .ok (.iload_n 3, 1) := by decide +kernel
theorem d_De_index_30 : decode b_De_index 30 = .ok (.ifCond .lt 40, 3) := by decide +kernel
theorem d_De_index_33 : decode b_De_index 33 = .ok (.aload_n 1, 1) := by decide +kernel
theorem d_De_index_34 : decode b_De_index 34 = .ok (.bipush 8, 2) := by decide +kernel
theorem d_De_index_36 : decode b_De_index 36 = .ok (.iload_n 3, 1) := by decide +kernel
theorem d_De_index_37 : decode b_De_index 37 = .ok (.imul, 1) := by decide +kernel
theorem d_De_index_38 : decode b_De_index 38 = .ok (.invokestatic 30, 3) := by decide +kernel
theorem d_De_index_41 : decode b_De_index 41 = .ok (.istore 4, 2) := by decide +kernel
theorem d_De_index_43 : decode b_De_index 43 = .ok (.aload_n 0, 1) := by decide +kernel
theorem d_De_index_44 : decode b_De_index 44 = .ok (.getfield 15, 3) := by decide +kernel
theorem d_De_index_47 : decode b_De_index 47 = .ok (.iload_n 3, 1) := by decide +kernel
theorem d_De_index_48 : decode b_De_index 48 = .ok (.aload_n 0, 1) := by decide +kernel
theorem d_De_index_49 : decode b_De_index 49 = .ok (.getfield 11, 3) := by decide +kernel
theorem d_De_index_52 : decode b_De_index 52 = .ok (.iload 4, 2) := by decide +kernel
theorem d_De_index_54 : decode b_De_index 54 = .ok (.iaload, 1) := by decide +kernel
theorem d_De_index_55 : decode b_De_index 55 = .ok (.iastore, 1) := by decide +kernel
theorem d_De_index_56 : decode b_De_index 56 = .ok (.aload_n 0, 1) := by decide +kernel
theorem d_De_index_57 : decode b_De_index 57 = .ok (.getfield 11, 3) := by decide +kernel
theorem d_De_index_60 : decode b_De_index 60 = .ok (.iload 4, 2) := by decide +kernel
theorem d_De_index_62 : decode b_De_index 62 = .ok (.iload_n 3, 1) := by decide +kernel
theorem d_De_index_63 : decode b_De_index 63 = .ok (.iastore, 1) := by decide +kernel
theorem d_De_index_64 : decode b_De_index 64 = .ok (.iinc 3 (-1), 3) := by decide +kernel
theorem d_De_index_67 : decode b_De_index 67 = .ok (.goto (-38), 3) := by decide +kernel
theorem d_De_index_70 : decode b_De_index 70 = .ok (.return_, 1) := by decide +kernel
theorem d_De_alike_0 : decode b_De_alike 0 = .ok (.iconst 0, 1) := by decide +kernel
theorem d_De_alike_1 : decode b_De_alike 1 = .ok (.istore 6, 2) := by decide +kernel
theorem d_De_alike_3 : decode b_De_alike 3 = .ok (.iload_n 2, 1) := by decide +kernel
theorem d_De_alike_4 : decode b_De_alike 4 = .ok (.iload 6, 2) := by decide +kernel
theorem d_De_alike_6 : decode b_De_alike 6 = .ok (.iadd, 1) := by decide +kernel
theorem d_De_alike_7 : decode b_De_alike 7 = .ok (.iload_n 1, 1) := by decide +kernel
theorem d_De_alike_8 : decode b_De_alike 8 = .ok (.if_icmp .ge 35, 3) := by decide +kernel
theorem d_De_alike_11 : decode b_De_alike 11 = .ok (.iload 5, 2) := by decide +kernel
theorem d_De_alike_13 : decode b_De_alike 13 = .ok (.iload 6, 2) := by decide +kernel
theorem d_De_alike_15 : decode b_De_alike 15 = .ok (.iadd, 1) := by decide +kernel
theorem d_De_alike_16 : decode b_De_alike 16 = .ok (.iload 4, 2) := by decide +kernel
theorem d_De_alike_18 : decode b_De_alike 18 = .ok (.if_icmp .ge 25, 3) := by decide +kernel
theorem d_De_alike_21 : decode b_De_alike 21 = .ok (.aload_n 0, 1) := by decide +kernel
theorem d_De_alike_22 : decode b_De_alike 22 = .ok (.iload_n 2, 1) := by decide +kernel
theorem d_De_alike_23 : decode b_De_alike 23 = .ok (.iload 6, 2) := by decide +kernel
theorem d_De_alike_25 : decode b_De_alike 25 = .ok (.iadd, 1) := by decide +kernel
theorem d_De_alike_26 : decode b_De_alike 26 = .ok (.baload, 1) := by decide +kernel
theorem d_De_alike_27 : decode b_De_alike 27 = .ok (.aload_n 3, 1) := by decide +kernel
theorem d_De_alike_28 : decode b_De_alike 28 = .ok (.iload 5, 2) := by decide +kernel
theorem d_De_alike_30 : decode b_De_alike 30 = .ok (.iload 6, 2) := by decide +kernel
theorem d_De_alike_32 : decode b_De_alike 32 = .ok (.iadd, 1) := by decide +kernel
theorem d_De_alike_33 : decode b_De_alike 33 = .ok (.baload, 1) := by decide +kernel
theorem d_De_alike_34 : decode b_De_alike 34 = .ok (.if_icmp .ne 9, 3) := by decide +kernel
theorem d_De_alike_37 : decode b_De_alike 37 = .ok (.iinc 6 1, 3) := by decide +kernel
theorem d_De_alike_40 : decode b_De_alike 40 = .ok (.goto (-37), 3) := by decide +kernel
theorem d_De_alike_43 : decode b_De_alike 43 = .ok (.iload 6, 2) := by decide +kernel
theorem d_De_alike_45 : decode b_De_alike 45 = .ok (.ireturn, 1) := by decide +kernel
theorem d_De_plain_0 : decode b_De_plain 0 = .ok (.iload_n 2, 1) := by decide +kernel
theorem d_De_plain_1 : decode b_De_plain 1 = .ok (.iload_n 3, 1) := by decide +kernel
theorem d_De_plain_2 : decode b_De_plain 2 = .ok (.if_icmp .ne 4, 3) := by decide +kernel
theorem d_De_plain_5 : decode b_De_plain 5 = .ok (.return_, 1) := by decide +kernel
theorem d_De_plain_6 : decode b_De_plain 6 = .ok (.aload_n 0, 1) := by decide +kernel
theorem d_De_plain_7 : decode b_De_plain 7 = .ok (.iconst 2, 1) := by decide +kernel
theorem d_De_plain_8 : decode b_De_plain 8 = .ok (.invokevirtual 26, 3) := by decide +kernel
theorem d_De_plain_11 : decode b_De_plain 11 = .ok (.aload_n 0, 1) := by decide +kernel
theorem d_De_plain_12 : decode b_De_plain 12 = .ok (.iload_n 3, 1) := by decide +kernel
theorem d_De_plain_13 : decode b_De_plain 13 = .ok (.iload_n 2, 1) := by decide +kernel
theorem d_De_plain_14 : decode b_De_plain 14 = .ok (.isub, 1) := by decide +kernel
theorem d_De_plain_15 : decode b_De_plain 15 = .ok (.invokevirtual 34, 3) := by decide +kernel
theorem d_De_plain_18 : decode b_De_plain 18 = .ok (.iload_n 2, 1) := by decide +kernel
theorem d_De_plain_19 : decode b_De_plain 19 = .ok (.istore 4, 2) := by decide +kernel
theorem d_De_plain_21 : decode b_De_plain 21 = .ok (.iload 4, 2) := by decide +kernel
theorem d_De_plain_23 : decode b_De_plain 23 = .ok (.iload_n 3, 1) := by decide +kernel
theorem d_De_plain_24 : decode b_De_plain 24 = .ok (.if_icmp .ge 17, 3) := by decide +kernel
theorem d_De_plain_27 : decode b_De_plain 27 = .ok (.aload_n 0, 1) := by decide +kernel
theorem d_De_plain_28 : decode b_De_plain 28 = .ok (.aload_n 1, 1) := by decide +kernel
theorem d_De_plain_29 : decode b_De_plain 29 = .ok (.iload 4, 2) := by decide +kernel
theorem d_De_plain_31 : decode b_De_plain 31 = .ok (.baload, 1) := by decide +kernel
theorem d_De_plain_32 : decode b_De_plain 32 = .ok (.invokevirtual 26, 3) := by decide +kernel
theorem d_De_plain_35 : decode b_De_plain 35 = .ok (.iinc 4 1, 3) := by decide +kernel
theorem d_De_plain_38 : decode b_De_plain 38 = .ok (.goto (-17), 3) := by decide +kernel
theorem d_De_plain_41 : decode b_De_plain 41 = .ok (.return_, 1) := by decide +kernel
theorem d_De_make_0 : decode b_De_make 0 = .ok (.aload_n 0, 1) := by decide +kernel
theorem d_De_make_1 : decode b_De_make 1 = .ok (.iconst 0, 1) := by decide +kernel
theorem d_De_make_2 : decode b_De_make 2 = .ok (.putfield 22, 3) := by decide +kernel
theorem d_De_make_5 : decode b_De_make 5 = .ok (.aload_n 0, 1) := by decide +kernel
theorem d_De_make_6 : decode b_De_make 6 = .ok (.aload_n 1, 1) := by decide +kernel
theorem d_De_make_7 : decode b_De_make 7 = .ok (.iload_n 2, 1) := by decide +kernel
theorem d_De_make_8 : decode b_De_make 8 = .ok (.invokevirtual 37, 3) := by decide +kernel
theorem d_De_make_11 : decode b_De_make 11 = .ok (.iconst 0, 1) := by decide +kernel
theorem d_De_make_12 : decode b_De_make 12 = .ok (.istore 5, 2) := by decide +kernel
theorem d_De_make_14 : decode b_De_make 14 = .ok (.iconst 0, 1) := by decide +kernel
theorem d_De_make_15 : decode b_De_make 15 = .ok (.istore 6, 2) := by decide +kernel
theorem d_De_make_17 : decode b_De_make 17 = .ok (.iload 6, 2) := by decide +kernel
theorem d_De_make_19 : decode b_De_make 19 = .ok (.bipush 8, 2) := by decide +kernel
theorem d_De_make_21 : decode b_De_make 21 = .ok (.iadd, 1) := by decide +kernel
theorem d_De_make_22 : decode b_De_make 22 = .ok (.iload 4, 2) := by decide +kernel
theorem d_De_make_24 : decode b_De_make 24 = .ok (.if_icmp .gt 140, 3) := by decide +kernel
theorem d_De_make_27 : decode b_De_make 27 = .ok (.iconst 0, 1) := by decide +kernel
theorem d_De_make_28 : decode b_De_make 28 = .ok (.istore 7, 2) := by decide +kernel
theorem d_De_make_30 : decode b_De_make 30 = .ok (.iconst 0, 1) := by decide +kernel
theorem d_De_make_31 : decode b_De_make 31 = .ok (.istore 8, 2) := by decide +kernel
theorem d_De_make_33 : decode b_De_make 33 = .ok (.aload_n 0, 1) := by decide +kernel
theorem d_De_make_34 : decode b_De_make 34 = .ok (.getfield 11, 3) := by decide +kernel
theorem d_De_make_37 : decode b_De_make 37 = .ok (.aload_n 3, 1) := by decide +kernel
theorem d_De_make_38 : decode b_De_make 38 = .ok (.iload 6, 2) := by decide +kernel
theorem d_De_make_40 : decode b_De_make 40 = .ok (.invokestatic 30, 3) := by decide +kernel
theorem d_De_make_43 : decode b_De_make 43 = .ok (.iaload, 1) := by decide +kernel
theorem d_De_make_44 : decode b_De_make 44 = .ok (.istore 9, 2) := by decide +kernel
theorem d_De_make_46 : decode b_De_make 46 = .ok (.iload 9, 2) := by decide +kernel
theorem d_De_make_48 : decode b_De_make 48 = .ok (.iconst (-1), 1) := by decide +kernel
theorem d_De_make_49 : decode b_De_make 49 = .ok (.if_icmp .eq 62, 3) := by decide +kernel
theorem d_De_make_52 : decode b_De_make 52 = .ok (.aload_n 3, 1) := by decide +kernel
theorem d_De_make_53 : decode b_De_make 53 = .ok (.iload 4, 2) := by decide +kernel
theorem d_De_make_55 : decode b_De_make 55 = .ok (.iload 6, 2) := by decide +kernel
theorem d_De_make_57 : decode b_De_make 57 = .ok (.aload_n 1, 1) := by decide +kernel
theorem d_De_make_58 : decode b_De_make 58 = .ok (.iload_n 2, 1) := by decide +kernel
theorem d_De_make_59 : decode b_De_make 59 = .ok (.bipush 8, 2) := by decide +kernel
theorem d_De_make_61 : decode b_De_make 61 = .ok (.iload 9, 2) := by decide +kernel
theorem d_De_make_63 : decode b_De_make 63 = .ok (.imul, 1) := by decide +kernel
theorem d_De_make_64 : decode b_De_make 64 = .ok (.invokestatic 41, 3) := by decide +kernel
theorem d_De_make_67 : decode b_De_make 67 = .ok (.istore 10, 2) := by decide +kernel
theorem d_De_make_69 : decode b_De_make 69 = .ok (.iload 10, 2) := by decide +kernel
theorem d_De_make_71 : decode b_De_make 71 = .ok (.iload 7, 2) := by decide +kernel
theorem d_De_make_73 : decode b_De_make 73 = .ok (.if_icmp .le 10, 3) := by decide +kernel
theorem d_De_make_76 : decode b_De_make 76 = .ok (.bipush 8, 2) := by decide +kernel
theorem d_De_make_78 : decode b_De_make 78 = .ok (.iload 9, 2) := by decide +kernel
theorem d_De_make_80 : decode b_De_make 80 = .ok (.imul, 1) := by decide +kernel
theorem d_De_make_81 : decode b_De_make 81 = .ok (.istore 8, 2) := by decide +kernel
theorem d_De_make_83 : decode b_De_make 83 = .ok (.iload 10, 2) := by decide +kernel
theorem d_De_make_85 : decode b_De_make 85 = .ok (.iload 7, 2) := by decide +kernel
theorem d_De_make_87 : decode b_De_make 87 = .ok (.if_icmp .le 8, 3) := by decide +kernel
theorem d_De_make_90 : decode b_De_make 90 = .ok (.iload 10, 2) := by decide +kernel
theorem d_De_make_92 : decode b_De_make 92 = .ok (.goto 5, 3) := by decide +kernel
theorem d_De_make_95 : decode b_De_make 95 = .ok (.iload 7, 2) := by decide +kernel
theorem d_De_make_97 : decode b_De_make 97 = .ok (.istore 7, 2) := by decide +kernel
theorem d_De_make_99 : decode b_De_make 99 = .ok (.aload_n 0, 1) := by decide +kernel
theorem d_De_make_100 : decode b_De_make 100 = .ok (.getfield 15, 3) := by decide +kernel
theorem d_De_make_103 : decode b_De_make 103 = .ok (.iload 9, 2) := by decide +kernel
theorem d_De_make_105 : decode b_De_make 105 = .ok (.iaload, 1) := by decide +kernel
theorem d_De_make_106 : decode b_De_make 106 = .ok (.istore 9, 2) := by decide +kernel
theorem d_De_make_108 : decode b_De_make 108 = .ok (.goto (-62), 3) := by decide +kernel
theorem d_De_make_111 : decode b_De_make 111 = .ok (.iload 7, 2) := by decide +kernel
theorem d_De_make_113 : decode b_De_make 113 = .ok (.bipush 8, 2) := by decide +kernel
theorem d_De_make_115 : decode b_De_make 115 = .ok (.if_icmp .ge 9, 3) := by decide +kernel
theorem d_De_make_118 : decode b_De_make 118 = .ok (.iinc 6 1, 3) := by decide +kernel
theorem d_De_make_121 : decode b_De_make 121 = .ok (.goto (-104), 3) := by decide +kernel
theorem d_De_make_124 : decode b_De_make 124 = .ok (.aload_n 0, 1) := by decide +kernel
theorem d_De_make_125 : decode b_De_make 125 = .ok (.aload_n 3, 1) := by decide +kernel
theorem d_De_make_126 : decode b_De_make 126 = .ok (.iload 5, 2) := by decide +kernel
theorem d_De_make_128 : decode b_De_make 128 = .ok (.iload 6, 2) := by decide +kernel
theorem d_De_make_130 : decode b_De_make 130 = .ok (.invokevirtual 45, 3) := by decide +kernel
theorem d_De_make_133 : decode b_De_make 133 = .ok (.aload_n 0, 1) := by decide +kernel
theorem d_De_make_134 : decode b_De_make 134 = .ok (.iconst 1, 1) := by decide +kernel
theorem d_De_make_135 : decode b_De_make 135 = .ok (.invokevirtual 26, 3) := by decide +kernel
theorem d_De_make_138 : decode b_De_make 138 = .ok (.aload_n 0, 1) := by decide +kernel
theorem d_De_make_139 : decode b_De_make 139 = .ok (.iload 8, 2) := by decide +kernel
theorem d_De_make_141 : decode b_De_make 141 = .ok (.invokevirtual 34, 3) := by decide +kernel
theorem d_De_make_144 : decode b_De_make 144 = .ok (.aload_n 0, 1) := by decide +kernel
theorem d_De_make_145 : decode b_De_make 145 = .ok (.iload 7, 2) := by decide +kernel
theorem d_De_make_147 : decode b_De_make 147 = .ok (.invokevirtual 34, 3) := by decide +kernel
theorem d_De_make_150 : decode b_De_make 150 = .ok (.iload 6, 2) := by decide +kernel
theorem d_De_make_152 : decode b_De_make 152 = .ok (.iload 7, 2) := by decide +kernel
theorem d_De_make_154 : decode b_De_make 154 = .ok (.iadd, 1) := by decide +kernel
theorem d_De_make_155 : decode b_De_make 155 = .ok (.istore 6, 2) := by decide +kernel
theorem d_De_make_157 : decode b_De_make 157 = .ok (.iload 6, 2) := by decide +kernel
theorem d_De_make_159 : decode b_De_make 159 = .ok (.istore 5, 2) := by decide +kernel
theorem d_De_make_161 : decode b_De_make 161 = .ok (.goto (-144), 3) := by decide +kernel
theorem d_De_make_164 : decode b_De_make 164 = .ok (.aload_n 0, 1) := by decide +kernel
theorem d_De_make_165 : decode b_De_make 165 = .ok (.aload_n 3, 1) := by decide +kernel
theorem d_De_make_166 : decode b_De_make 166 = .ok (.iload 5, 2) := by decide +kernel
theorem d_De_make_168 : decode b_De_make 168 = .ok (.iload 4, 2) := by decide +kernel
theorem d_De_make_170 : decode b_De_make 170 = .ok (.invokevirtual 45, 3) := by decide +kernel
theorem d_De_make_173 : decode b_De_make 173 = .ok (.return_, 1) := by decide +kernel
theorem d_De_two_0 : decode b_De_two 0 = .ok (.aload_n 0, 1) := by decide +kernel
theorem d_De_two_1 : decode b_De_two 1 = .ok (.iload_n 1, 1) := by decide +kernel
theorem d_De_two_2 : decode b_De_two 2 = .ok (.baload, 1) := by decide +kernel
theorem d_De_two_3 : decode b_De_two 3 = .ok (.sipush 255, 3) := by decide +kernel
theorem d_De_two_6 : decode b_De_two 6 = .ok (.iand, 1) := by decide +kernel
theorem d_De_two_7 : decode b_De_two 7 = .ok (.bipush 8, 2) := by decide +kernel
theorem d_De_two_9 : decode b_De_two 9 = .ok (.ishl, 1) := by decide +kernel
theorem d_De_two_10 : decode b_De_two 10 = .ok (.aload_n 0, 1) := by decide +kernel
theorem d_De_two_11 : decode b_De_two 11 = .ok (.iload_n 1, 1) := by decide +kernel
theorem d_De_two_12 : decode b_De_two 12 = .ok (.iconst 1, 1) := by decide +kernel
theorem d_De_two_13 : decode b_De_two 13 = .ok (.iadd, 1) := by decide +kernel
theorem d_De_two_14 : decode b_De_two 14 = .ok (.baload, 1) := by decide +kernel
theorem d_De_two_15 : decode b_De_two 15 = .ok (.sipush 255, 3) := by decide +kernel
theorem d_De_two_18 : decode b_De_two 18 = .ok (.iand, 1) := by decide +kernel
theorem d_De_two_19 : decode b_De_two 19 = .ok (.ior, 1) := by decide +kernel
theorem d_De_two_20 : decode b_De_two 20 = .ok (.ireturn, 1) := by decide +kernel
theorem d_De_apply_0 : decode b_De_apply 0 = .ok (.iconst 0, 1) := by decide +kernel
theorem d_De_apply_1 : decode b_De_apply 1 = .ok (.istore 5, 2) := by decide +kernel
theorem d_De_apply_3 : decode b_De_apply 3 = .ok (.iload_n 1, 1) := by decide +kernel
theorem d_De_apply_4 : decode b_De_apply 4 = .ok (.istore 6, 2) := by decide +kernel
theorem d_De_apply_6 : decode b_De_apply 6 = .ok (.iload 6, 2) := by decide +kernel
theorem d_De_apply_8 : decode b_De_apply 8 = .ok (.iload_n 2, 1) := by decide +kernel
theorem d_De_apply_9 : decode b_De_apply 9 = .ok (.if_icmp .ge 132, 3) := by decide +kernel
theorem d_De_apply_12 : decode b_De_apply 12 = .ok (.aload_n 0, 1) := by decide +kernel
theorem d_De_apply_13 : decode b_De_apply 13 = .ok (.iload 6, 2) := by decide +kernel
theorem d_De_apply_15 : decode b_De_apply 15 = .ok (.baload, 1) := by decide +kernel
theorem d_De_apply_16 : decode b_De_apply 16 = .ok (.iconst 1, 1) := by decide +kernel
theorem d_De_apply_17 : decode b_De_apply 17 = .ok (.if_icmp .ne 7, 3) := by decide +kernel
theorem d_De_apply_20 : decode b_De_apply 20 = .ok (.iconst 1, 1) := by decide +kernel
theorem d_De_apply_21 : decode b_De_apply 21 = .ok (.goto 4, 3) := by decide +kernel
theorem d_De_apply_24 : decode b_De_apply 24 = .ok (.iconst 0, 1) := by decide +kernel
theorem d_De_apply_25 : decode b_De_apply 25 = .ok (.istore 7, 2) := by decide +kernel
theorem d_De_apply_27 : decode b_De_apply 27 = .ok (.iload 7, 2) := by decide +kernel
theorem d_De_apply_29 : decode b_De_apply 29 = .ok (.ifCond .eq 14, 3) := by decide +kernel
theorem d_De_apply_32 : decode b_De_apply 32 = .ok (.aload_n 0, 1) := by decide +kernel
theorem d_De_apply_33 : decode b_De_apply 33 = .ok (.iload 6, 2) := by decide +kernel
theorem d_De_apply_35 : decode b_De_apply 35 = .ok (.iconst 1, 1) := by decide +kernel
theorem d_De_apply_36 : decode b_De_apply 36 = .ok (.iadd, 1) := by decide +kernel
theorem d_De_apply_37 : decode b_De_apply 37 = .ok (.invokestatic 49, 3) := by decide +kernel
theorem d_De_apply_40 : decode b_De_apply 40 = .ok (.goto 7, 3) := by decide +kernel
theorem d_De_apply_43 : decode b_De_apply 43 = .ok (.iload 6, 2) := by decide +kernel
theorem d_De_apply_45 : decode b_De_apply 45 = .ok (.iconst 3, 1) := by decide +kernel
theorem d_De_apply_46 : decode b_De_apply 46 = .ok (.iadd, 1) := by decide +kernel
theorem d_De_apply_47 : decode b_De_apply 47 = .ok (.istore 8, 2) := by decide +kernel
theorem d_De_apply_49 : decode b_De_apply 49 = .ok (.aload_n 0, 1) := by decide +kernel
theorem d_De_apply_50 : decode b_De_apply 50 = .ok (.iload 7, 2) := by decide +kernel
theorem d_De_apply_52 : decode b_De_apply 52 = .ok (.ifCond .eq 10, 3) := by decide +kernel
theorem d_De_apply_55 : decode b_De_apply 55 = .ok (.iload 6, 2) := by decide +kernel
theorem d_De_apply_57 : decode b_De_apply 57 = .ok (.iconst 3, 1) := by decide +kernel
theorem d_De_apply_58 : decode b_De_apply 58 = .ok (.iadd, 1) := by decide +kernel
theorem d_De_apply_59 : decode b_De_apply 59 = .ok (.goto 7, 3) := by decide +kernel
theorem d_De_apply_62 : decode b_De_apply 62 = .ok (.iload 6, 2) := by decide +kernel
theorem d_De_apply_64 : decode b_De_apply 64 = .ok (.iconst 1, 1) := by decide +kernel
theorem d_De_apply_65 : decode b_De_apply 65 = .ok (.iadd, 1) := by decide +kernel
theorem d_De_apply_66 : decode b_De_apply 66 = .ok (.invokestatic 49, 3) := by decide +kernel
theorem d_De_apply_69 : decode b_De_apply 69 = .ok (.istore 9, 2) := by decide +kernel
theorem d_De_apply_71 : decode b_De_apply 71 = .ok (.iconst 0, 1) := by decide +kernel
theorem d_De_apply_72 : decode b_De_apply 72 = .ok (.istore 10, 2) := by decide +kernel
theorem d_De_apply_74 : decode b_De_apply 74 = .ok (.iload 10, 2) := by decide +kernel
theorem d_De_apply_76 : decode b_De_apply 76 = .ok (.iload 9, 2) := by decide +kernel
theorem d_De_apply_78 : decode b_De_apply 78 = .ok (.if_icmp .ge 39, 3) := by decide +kernel
theorem d_De_apply_81 : decode b_De_apply 81 = .ok (.aload 4, 2) := by decide +kernel
theorem d_De_apply_83 : decode b_De_apply 83 = .ok (.iload 5, 2) := by decide +kernel
theorem d_De_apply_85 : decode b_De_apply 85 = .ok (.iinc 5 1, 3) := by decide +kernel
theorem d_De_apply_88 : decode b_De_apply 88 = .ok (.iload 7, 2) := by decide +kernel
theorem d_De_apply_90 : decode b_De_apply 90 = .ok (.ifCond .eq 13, 3) := by decide +kernel
theorem d_De_apply_93 : decode b_De_apply 93 = .ok (.aload_n 3, 1) := by decide +kernel
theorem d_De_apply_94 : decode b_De_apply 94 = .ok (.iload 8, 2) := by decide +kernel
theorem d_De_apply_96 : decode b_De_apply 96 = .ok (.iload 10, 2) := by decide +kernel
theorem d_De_apply_98 : decode b_De_apply 98 = .ok (.iadd, 1) := by decide +kernel
theorem d_De_apply_99 : decode b_De_apply 99 = .ok (.baload, 1) := by decide +kernel
theorem d_De_apply_100 : decode b_De_apply 100 = .ok (.goto 10, 3) := by decide +kernel
theorem d_De_apply_103 : decode b_De_apply 103 = .ok (.aload_n 0, 1) := by decide +kernel
theorem d_De_apply_104 : decode b_De_apply 104 = .ok (.iload 8, 2) := by decide +kernel
theorem d_De_apply_106 : decode b_De_apply 106 = .ok (.iload 10, 2) := by decide +kernel
theorem d_De_apply_108 : decode b_De_apply 108 = .ok (.iadd, 1) := by decide +kernel
theorem d_De_apply_109 : decode b_De_apply 109 = .ok (.baload, 1) := by decide +kernel
theorem d_De_apply_110 : decode b_De_apply 110 = .ok (.bastore, 1) := by decide +kernel
theorem d_De_apply_111 : decode b_De_apply 111 = .ok (.iinc 10 1, 3) := by decide +kernel
theorem d_De_apply_114 : decode b_De_apply 114 = .ok (.goto (-40), 3) := by decide +kernel
theorem d_De_apply_117 : decode b_De_apply 117 = .ok (.iload 7, 2) := by decide +kernel
theorem d_De_apply_119 : decode b_De_apply 119 = .ok (.ifCond .eq 10, 3) := by decide +kernel
theorem d_De_apply_122 : decode b_De_apply 122 = .ok (.iload 6, 2) := by decide +kernel
theorem d_De_apply_124 : decode b_De_apply 124 = .ok (.iconst 5, 1) := by decide +kernel
theorem d_De_apply_125 : decode b_De_apply 125 = .ok (.iadd, 1) := by decide +kernel
theorem d_De_apply_126 : decode b_De_apply 126 = .ok (.goto 10, 3) := by decide +kernel
theorem d_De_apply_129 : decode b_De_apply 129 = .ok (.iload 6, 2) := by decide +kernel
theorem d_De_apply_131 : decode b_De_apply 131 = .ok (.iconst 3, 1) := by decide +kernel
theorem d_De_apply_132 : decode b_De_apply 132 = .ok (.iadd, 1) := by decide +kernel
theorem d_De_apply_133 : decode b_De_apply 133 = .ok (.iload 9, 2) := by decide +kernel
theorem d_De_apply_135 : decode b_De_apply 135 = .ok (.iadd, 1) := by decide +kernel
theorem d_De_apply_136 : decode b_De_apply 136 = .ok (.istore 6, 2) := by decide +kernel
theorem d_De_apply_138 : decode b_De_apply 138 = .ok (.goto (-132), 3) := by decide +kernel
theorem d_De_apply_141 : decode b_De_apply 141 = .ok (.iload 5, 2) := by decide +kernel
theorem d_De_apply_143 : decode b_De_apply 143 = .ok (.ireturn, 1) := by decide +kernel
end
section
theorem d_La_go_0 : decode b_La_go 0 = .ok (.aload_n 1, 1) := by decide +kernel
theorem d_La_go_1 : decode b_La_go 1 = .ok (.iconst 0, 1) := by decide +kernel
theorem d_La_go_2 : decode b_La_go 2 = .ok (.aload_n 0, 1) := by decide +kernel
theorem d_La_go_3 : decode b_La_go 3 = .ok (.invokevirtual 7, 3) := by decide +kernel
theorem d_La_go_6 : decode b_La_go 6 = .ok (.i2l, 1) := by decide +kernel
theorem d_La_go_7 : decode b_La_go 7 = .ok (.lastore, 1) := by decide +kernel
theorem d_La_go_8 : decode b_La_go 8 = .ok (.goto 6, 3) := by decide +kernel
theorem d_La_go_11 : decode b_La_go 11 = .ok (.astore_n 2, 1) := by decide +kernel
theorem d_La_go_12 : decode b_La_go 12 = .ok (.iconst 1, 1) := by decide +kernel
theorem d_La_go_13 : decode b_La_go 13 = .ok (.ireturn, 1) := by decide +kernel
theorem d_La_go_14 : decode b_La_go 14 = .ok (.iconst 0, 1) := by decide +kernel
theorem d_La_go_15 : decode b_La_go 15 = .ok (.ireturn, 1) := by decide +kernel
theorem d_La_law_0 : decode code 0 = .ok (.new 8, 3) := by decide +kernel
theorem d_La_law_3 : decode code 3 = .ok (.dup, 1) := by decide +kernel
theorem d_La_law_4 : decode code 4 = .ok (.invokespecial 15, 3) := by decide +kernel
theorem d_La_law_7 : decode code 7 = .ok (.astore_n 1, 1) := by decide +kernel
theorem d_La_law_8 : decode code 8 = .ok (.new 16, 3) := by decide +kernel
theorem d_La_law_11 : decode code 11 = .ok (.dup, 1) := by decide +kernel
theorem d_La_law_12 : decode code 12 = .ok (.invokespecial 18, 3) := by decide +kernel
theorem d_La_law_15 : decode code 15 = .ok (.astore_n 2, 1) := by decide +kernel
theorem d_La_law_16 : decode code 16 = .ok (.iconst 1, 1) := by decide +kernel
theorem d_La_law_17 : decode code 17 = .ok (.newarray .long, 2) := by decide +kernel
theorem d_La_law_19 : decode code 19 = .ok (.astore_n 3, 1) := by decide +kernel
theorem d_La_law_20 : decode code 20 = .ok (.iconst 0, 1) := by decide +kernel
theorem d_La_law_21 : decode code 21 = .ok (.istore 4, 2) := by decide +kernel
theorem d_La_law_23 : decode code 23 = .ok (.iload 4, 2) := by decide +kernel
theorem d_La_law_25 : decode code 25 = .ok (.aload_n 0, 1) := by decide +kernel
theorem d_La_law_26 : decode code 26 = .ok (.arraylength, 1) := by decide +kernel
theorem d_La_law_27 : decode code 27 = .ok (.iconst 5, 1) := by decide +kernel
theorem d_La_law_28 : decode code 28 = .ok (.isub, 1) := by decide +kernel
theorem d_La_law_29 : decode code 29 = .ok (.if_icmp .gt 383, 3) := by decide +kernel
theorem d_La_law_32 : decode code 32 = .ok (.aload_n 0, 1) := by decide +kernel
theorem d_La_law_33 : decode code 33 = .ok (.iload 4, 2) := by decide +kernel
theorem d_La_law_35 : decode code 35 = .ok (.iaload, 1) := by decide +kernel
theorem d_La_law_36 : decode code 36 = .ok (.bipush 15, 2) := by decide +kernel
theorem d_La_law_38 : decode code 38 = .ok (.iand, 1) := by decide +kernel
theorem d_La_law_39 : decode code 39 = .ok (.tableswitch 367 0 8 #[49, 146, 185, 198, 235, 248, 273, 317, 342], 49) := by decide +kernel
theorem d_La_law_88 : decode code 88 = .ok (.aload_n 1, 1) := by decide +kernel
theorem d_La_law_89 : decode code 89 = .ok (.aload_n 0, 1) := by decide +kernel
theorem d_La_law_90 : decode code 90 = .ok (.iload 4, 2) := by decide +kernel
theorem d_La_law_92 : decode code 92 = .ok (.iconst 1, 1) := by decide +kernel
theorem d_La_law_93 : decode code 93 = .ok (.iadd, 1) := by decide +kernel
theorem d_La_law_94 : decode code 94 = .ok (.iaload, 1) := by decide +kernel
theorem d_La_law_95 : decode code 95 = .ok (.ifCond .eq 7, 3) := by decide +kernel
theorem d_La_law_98 : decode code 98 = .ok (.iconst 1, 1) := by decide +kernel
theorem d_La_law_99 : decode code 99 = .ok (.goto 4, 3) := by decide +kernel
theorem d_La_law_102 : decode code 102 = .ok (.iconst 0, 1) := by decide +kernel
theorem d_La_law_103 : decode code 103 = .ok (.aload_n 0, 1) := by decide +kernel
theorem d_La_law_104 : decode code 104 = .ok (.iload 4, 2) := by decide +kernel
theorem d_La_law_106 : decode code 106 = .ok (.iconst 2, 1) := by decide +kernel
theorem d_La_law_107 : decode code 107 = .ok (.iadd, 1) := by decide +kernel
theorem d_La_law_108 : decode code 108 = .ok (.iaload, 1) := by decide +kernel
theorem d_La_law_109 : decode code 109 = .ok (.i2l, 1) := by decide +kernel
theorem d_La_law_110 : decode code 110 = .ok (.bipush 32, 2) := by decide +kernel
theorem d_La_law_112 : decode code 112 = .ok (.lshl, 1) := by decide +kernel
theorem d_La_law_113 : decode code 113 = .ok (.aload_n 0, 1) := by decide +kernel
theorem d_La_law_114 : decode code 114 = .ok (.iload 4, 2) := by decide +kernel
theorem d_La_law_116 : decode code 116 = .ok (.iconst 3, 1) := by decide +kernel
theorem d_La_law_117 : decode code 117 = .ok (.iadd, 1) := by decide +kernel
theorem d_La_law_118 : decode code 118 = .ok (.iaload, 1) := by decide +kernel
theorem d_La_law_119 : decode code 119 = .ok (.i2l, 1) := by decide +kernel
theorem d_La_law_120 : decode code 120 = .ok (.ldc2_w 19, 3) := by decide +kernel
theorem d_La_law_123 : decode code 123 = .ok (.land, 1) := by decide +kernel
theorem d_La_law_124 : decode code 124 = .ok (.lor, 1) := by decide +kernel
theorem d_La_law_125 : decode code 125 = .ok (.aload_n 0, 1) := by decide +kernel
theorem d_La_law_126 : decode code 126 = .ok (.iload 4, 2) := by decide +kernel
theorem d_La_law_128 : decode code 128 = .ok (.iconst 4, 1) := by decide +kernel
theorem d_La_law_129 : decode code 129 = .ok (.iadd, 1) := by decide +kernel
theorem d_La_law_130 : decode code 130 = .ok (.iaload, 1) := by decide +kernel
theorem d_La_law_131 : decode code 131 = .ok (.invokevirtual 21, 3) := by decide +kernel
theorem d_La_law_134 : decode code 134 = .ok (.aload_n 2, 1) := by decide +kernel
theorem d_La_law_135 : decode code 135 = .ok (.aload_n 0, 1) := by decide +kernel
theorem d_La_law_136 : decode code 136 = .ok (.iload 4, 2) := by decide +kernel
theorem d_La_law_138 : decode code 138 = .ok (.iconst 1, 1) := by decide +kernel
theorem d_La_law_139 : decode code 139 = .ok (.iadd, 1) := by decide +kernel
theorem d_La_law_140 : decode code 140 = .ok (.iaload, 1) := by decide +kernel
theorem d_La_law_141 : decode code 141 = .ok (.ifCond .eq 7, 3) := by decide +kernel
theorem d_La_law_144 : decode code 144 = .ok (.iconst 1, 1) := by decide +kernel
theorem d_La_law_145 : decode code 145 = .ok (.goto 4, 3) := by decide +kernel
theorem d_La_law_148 : decode code 148 = .ok (.iconst 0, 1) := by decide +kernel
theorem d_La_law_149 : decode code 149 = .ok (.aload_n 0, 1) := by decide +kernel
theorem d_La_law_150 : decode code 150 = .ok (.iload 4, 2) := by decide +kernel
theorem d_La_law_152 : decode code 152 = .ok (.iconst 2, 1) := by decide +kernel
theorem d_La_law_153 : decode code 153 = .ok (.iadd, 1) := by decide +kernel
theorem d_La_law_154 : decode code 154 = .ok (.iaload, 1) := by decide +kernel
theorem d_La_law_155 : decode code 155 = .ok (.i2l, 1) := by decide +kernel
theorem d_La_law_156 : decode code 156 = .ok (.bipush 32, 2) := by decide +kernel
theorem d_La_law_158 : decode code 158 = .ok (.lshl, 1) := by decide +kernel
theorem d_La_law_159 : decode code 159 = .ok (.aload_n 0, 1) := by decide +kernel
theorem d_La_law_160 : decode code 160 = .ok (.iload 4, 2) := by decide +kernel
theorem d_La_law_162 : decode code 162 = .ok (.iconst 3, 1) := by decide +kernel
theorem d_La_law_163 : decode code 163 = .ok (.iadd, 1) := by decide +kernel
theorem d_La_law_164 : decode code 164 = .ok (.iaload, 1) := by decide +kernel
theorem d_La_law_165 : decode code 165 = .ok (.i2l, 1) := by decide +kernel
theorem d_La_law_166 : decode code 166 = .ok (.ldc2_w 19, 3) := by decide +kernel
theorem d_La_law_169 : decode code 169 = .ok (.land, 1) := by decide +kernel
theorem d_La_law_170 : decode code 170 = .ok (.lor, 1) := by decide +kernel
theorem d_La_law_171 : decode code 171 = .ok (.aload_n 0, 1) := by decide +kernel
theorem d_La_law_172 : decode code 172 = .ok (.iload 4, 2) := by decide +kernel
theorem d_La_law_174 : decode code 174 = .ok (.iconst 4, 1) := by decide +kernel
theorem d_La_law_175 : decode code 175 = .ok (.iadd, 1) := by decide +kernel
theorem d_La_law_176 : decode code 176 = .ok (.iaload, 1) := by decide +kernel
theorem d_La_law_177 : decode code 177 = .ok (.invokevirtual 25, 3) := by decide +kernel
theorem d_La_law_180 : decode code 180 = .ok (.if_icmp .eq 226, 3) := by decide +kernel
theorem d_La_law_183 : decode code 183 = .ok (.iconst 0, 1) := by decide +kernel
theorem d_La_law_184 : decode code 184 = .ok (.ireturn, 1) := by decide +kernel
theorem d_La_law_185 : decode code 185 = .ok (.aload_n 1, 1) := by decide +kernel
theorem d_La_law_186 : decode code 186 = .ok (.aload_n 0, 1) := by decide +kernel
theorem d_La_law_187 : decode code 187 = .ok (.iload 4, 2) := by decide +kernel
theorem d_La_law_189 : decode code 189 = .ok (.iconst 1, 1) := by decide +kernel
theorem d_La_law_190 : decode code 190 = .ok (.iadd, 1) := by decide +kernel
theorem d_La_law_191 : decode code 191 = .ok (.iaload, 1) := by decide +kernel
theorem d_La_law_192 : decode code 192 = .ok (.ifCond .eq 7, 3) := by decide +kernel
theorem d_La_law_195 : decode code 195 = .ok (.iconst 1, 1) := by decide +kernel
theorem d_La_law_196 : decode code 196 = .ok (.goto 4, 3) := by decide +kernel
theorem d_La_law_199 : decode code 199 = .ok (.iconst 0, 1) := by decide +kernel
theorem d_La_law_200 : decode code 200 = .ok (.invokevirtual 26, 3) := by decide +kernel
theorem d_La_law_203 : decode code 203 = .ok (.aload_n 2, 1) := by decide +kernel
theorem d_La_law_204 : decode code 204 = .ok (.aload_n 0, 1) := by decide +kernel
theorem d_La_law_205 : decode code 205 = .ok (.iload 4, 2) := by decide +kernel
theorem d_La_law_207 : decode code 207 = .ok (.iconst 1, 1) := by decide +kernel
theorem d_La_law_208 : decode code 208 = .ok (.iadd, 1) := by decide +kernel
theorem d_La_law_209 : decode code 209 = .ok (.iaload, 1) := by decide +kernel
theorem d_La_law_210 : decode code 210 = .ok (.ifCond .eq 7, 3) := by decide +kernel
theorem d_La_law_213 : decode code 213 = .ok (.iconst 1, 1) := by decide +kernel
theorem d_La_law_214 : decode code 214 = .ok (.goto 4, 3) := by decide +kernel
theorem d_La_law_217 : decode code 217 = .ok (.iconst 0, 1) := by decide +kernel
theorem d_La_law_218 : decode code 218 = .ok (.invokevirtual 30, 3) := by decide +kernel
theorem d_La_law_221 : decode code 221 = .ok (.goto 185, 3) := by decide +kernel
theorem d_La_law_224 : decode code 224 = .ok (.aload_n 1, 1) := by decide +kernel
theorem d_La_law_225 : decode code 225 = .ok (.invokevirtual 31, 3) := by decide +kernel
theorem d_La_law_228 : decode code 228 = .ok (.aload_n 2, 1) := by decide +kernel
theorem d_La_law_229 : decode code 229 = .ok (.invokevirtual 34, 3) := by decide +kernel
theorem d_La_law_232 : decode code 232 = .ok (.if_icmp .eq 174, 3) := by decide +kernel
theorem d_La_law_235 : decode code 235 = .ok (.iconst 0, 1) := by decide +kernel
theorem d_La_law_236 : decode code 236 = .ok (.ireturn, 1) := by decide +kernel
theorem d_La_law_237 : decode code 237 = .ok (.aload_n 1, 1) := by decide +kernel
theorem d_La_law_238 : decode code 238 = .ok (.aload_n 0, 1) := by decide +kernel
theorem d_La_law_239 : decode code 239 = .ok (.iload 4, 2) := by decide +kernel
theorem d_La_law_241 : decode code 241 = .ok (.iconst 1, 1) := by decide +kernel
theorem d_La_law_242 : decode code 242 = .ok (.iadd, 1) := by decide +kernel
theorem d_La_law_243 : decode code 243 = .ok (.iaload, 1) := by decide +kernel
theorem d_La_law_244 : decode code 244 = .ok (.aload_n 0, 1) := by decide +kernel
theorem d_La_law_245 : decode code 245 = .ok (.iload 4, 2) := by decide +kernel
theorem d_La_law_247 : decode code 247 = .ok (.iconst 2, 1) := by decide +kernel
theorem d_La_law_248 : decode code 248 = .ok (.iadd, 1) := by decide +kernel
theorem d_La_law_249 : decode code 249 = .ok (.iaload, 1) := by decide +kernel
theorem d_La_law_250 : decode code 250 = .ok (.invokevirtual 35, 3) := by decide +kernel
theorem d_La_law_253 : decode code 253 = .ok (.aload_n 2, 1) := by decide +kernel
theorem d_La_law_254 : decode code 254 = .ok (.aload_n 0, 1) := by decide +kernel
theorem d_La_law_255 : decode code 255 = .ok (.iload 4, 2) := by decide +kernel
theorem d_La_law_257 : decode code 257 = .ok (.iconst 1, 1) := by decide +kernel
theorem d_La_law_258 : decode code 258 = .ok (.iadd, 1) := by decide +kernel
theorem d_La_law_259 : decode code 259 = .ok (.iaload, 1) := by decide +kernel
theorem d_La_law_260 : decode code 260 = .ok (.aload_n 0, 1) := by decide +kernel
theorem d_La_law_261 : decode code 261 = .ok (.iload 4, 2) := by decide +kernel
theorem d_La_law_263 : decode code 263 = .ok (.iconst 2, 1) := by decide +kernel
theorem d_La_law_264 : decode code 264 = .ok (.iadd, 1) := by decide +kernel
theorem d_La_law_265 : decode code 265 = .ok (.iaload, 1) := by decide +kernel
theorem d_La_law_266 : decode code 266 = .ok (.invokevirtual 39, 3) := by decide +kernel
theorem d_La_law_269 : decode code 269 = .ok (.if_icmp .eq 137, 3) := by decide +kernel
theorem d_La_law_272 : decode code 272 = .ok (.iconst 0, 1) := by decide +kernel
theorem d_La_law_273 : decode code 273 = .ok (.ireturn, 1) := by decide +kernel
theorem d_La_law_274 : decode code 274 = .ok (.aload_n 1, 1) := by decide +kernel
theorem d_La_law_275 : decode code 275 = .ok (.invokevirtual 40, 3) := by decide +kernel
theorem d_La_law_278 : decode code 278 = .ok (.aload_n 2, 1) := by decide +kernel
theorem d_La_law_279 : decode code 279 = .ok (.invokevirtual 43, 3) := by decide +kernel
theorem d_La_law_282 : decode code 282 = .ok (.if_icmp .eq 124, 3) := by decide +kernel
theorem d_La_law_285 : decode code 285 = .ok (.iconst 0, 1) := by decide +kernel
theorem d_La_law_286 : decode code 286 = .ok (.ireturn, 1) := by decide +kernel
theorem d_La_law_287 : decode code 287 = .ok (.aload_n 1, 1) := by decide +kernel
theorem d_La_law_288 : decode code 288 = .ok (.aload_n 0, 1) := by decide +kernel
theorem d_La_law_289 : decode code 289 = .ok (.iload 4, 2) := by decide +kernel
theorem d_La_law_291 : decode code 291 = .ok (.iconst 1, 1) := by decide +kernel
theorem d_La_law_292 : decode code 292 = .ok (.iadd, 1) := by decide +kernel
theorem d_La_law_293 : decode code 293 = .ok (.iaload, 1) := by decide +kernel
theorem d_La_law_294 : decode code 294 = .ok (.invokevirtual 44, 3) := by decide +kernel
theorem d_La_law_297 : decode code 297 = .ok (.aload_n 2, 1) := by decide +kernel
theorem d_La_law_298 : decode code 298 = .ok (.aload_n 0, 1) := by decide +kernel
theorem d_La_law_299 : decode code 299 = .ok (.iload 4, 2) := by decide +kernel
theorem d_La_law_301 : decode code 301 = .ok (.iconst 1, 1) := by decide +kernel
theorem d_La_law_302 : decode code 302 = .ok (.iadd, 1) := by decide +kernel
theorem d_La_law_303 : decode code 303 = .ok (.iaload, 1) := by decide +kernel
theorem d_La_law_304 : decode code 304 = .ok (.invokevirtual 48, 3) := by decide +kernel
theorem d_La_law_307 : decode code 307 = .ok (.if_icmp .eq 99, 3) := by decide +kernel
theorem d_La_law_310 : decode code 310 = .ok (.iconst 0, 1) := by decide +kernel
theorem d_La_law_311 : decode code 311 = .ok (.ireturn, 1) := by decide +kernel
theorem d_La_law_312 : decode code 312 = .ok (.aload_n 1, 1) := by decide +kernel
theorem d_La_law_313 : decode code 313 = .ok (.aload_n 3, 1) := by decide +kernel
theorem d_La_law_314 : decode code 314 = .ok (.invokestatic 49, 3) := by decide +kernel
theorem d_La_law_317 : decode code 317 = .ok (.istore 5, 2) := by decide +kernel
theorem d_La_law_319 : decode code 319 = .ok (.aload_n 2, 1) := by decide +kernel
theorem d_La_law_320 : decode code 320 = .ok (.invokevirtual 54, 3) := by decide +kernel
theorem d_La_law_323 : decode code 323 = .ok (.istore 6, 2) := by decide +kernel
theorem d_La_law_325 : decode code 325 = .ok (.aload_n 2, 1) := by decide +kernel
theorem d_La_law_326 : decode code 326 = .ok (.invokevirtual 55, 3) := by decide +kernel
theorem d_La_law_329 : decode code 329 = .ok (.iload 5, 2) := by decide +kernel
theorem d_La_law_331 : decode code 331 = .ok (.if_icmp .eq 5, 3) := by decide +kernel
theorem d_La_law_334 : decode code 334 = .ok (.iconst 0, 1) := by decide +kernel
theorem d_La_law_335 : decode code 335 = .ok (.ireturn, 1) := by decide +kernel
theorem d_La_law_336 : decode code 336 = .ok (.iload 5, 2) := by decide +kernel
theorem d_La_law_338 : decode code 338 = .ok (.ifCond .ne 15, 3) := by decide +kernel
theorem d_La_law_341 : decode code 341 = .ok (.aload_n 3, 1) := by decide +kernel
theorem d_La_law_342 : decode code 342 = .ok (.iconst 0, 1) := by decide +kernel
theorem d_La_law_343 : decode code 343 = .ok (.laload, 1) := by decide +kernel
theorem d_La_law_344 : decode code 344 = .ok (.iload 6, 2) := by decide +kernel
theorem d_La_law_346 : decode code 346 = .ok (.i2l, 1) := by decide +kernel
theorem d_La_law_347 : decode code 347 = .ok (.lcmp, 1) := by decide +kernel
theorem d_La_law_348 : decode code 348 = .ok (.ifCond .eq 5, 3) := by decide +kernel
theorem d_La_law_351 : decode code 351 = .ok (.iconst 0, 1) := by decide +kernel
theorem d_La_law_352 : decode code 352 = .ok (.ireturn, 1) := by decide +kernel
theorem d_La_law_353 : decode code 353 = .ok (.goto 53, 3) := by decide +kernel
theorem d_La_law_356 : decode code 356 = .ok (.aload_n 1, 1) := by decide +kernel
theorem d_La_law_357 : decode code 357 = .ok (.aload_n 0, 1) := by decide +kernel
theorem d_La_law_358 : decode code 358 = .ok (.iload 4, 2) := by decide +kernel
theorem d_La_law_360 : decode code 360 = .ok (.iconst 1, 1) := by decide +kernel
theorem d_La_law_361 : decode code 361 = .ok (.iadd, 1) := by decide +kernel
theorem d_La_law_362 : decode code 362 = .ok (.iaload, 1) := by decide +kernel
theorem d_La_law_363 : decode code 363 = .ok (.invokevirtual 58, 3) := by decide +kernel
theorem d_La_law_366 : decode code 366 = .ok (.aload_n 2, 1) := by decide +kernel
theorem d_La_law_367 : decode code 367 = .ok (.aload_n 0, 1) := by decide +kernel
theorem d_La_law_368 : decode code 368 = .ok (.iload 4, 2) := by decide +kernel
theorem d_La_law_370 : decode code 370 = .ok (.iconst 1, 1) := by decide +kernel
theorem d_La_law_371 : decode code 371 = .ok (.iadd, 1) := by decide +kernel
theorem d_La_law_372 : decode code 372 = .ok (.iaload, 1) := by decide +kernel
theorem d_La_law_373 : decode code 373 = .ok (.invokevirtual 61, 3) := by decide +kernel
theorem d_La_law_376 : decode code 376 = .ok (.if_icmp .eq 30, 3) := by decide +kernel
theorem d_La_law_379 : decode code 379 = .ok (.iconst 0, 1) := by decide +kernel
theorem d_La_law_380 : decode code 380 = .ok (.ireturn, 1) := by decide +kernel
theorem d_La_law_381 : decode code 381 = .ok (.aload_n 1, 1) := by decide +kernel
theorem d_La_law_382 : decode code 382 = .ok (.aload_n 0, 1) := by decide +kernel
theorem d_La_law_383 : decode code 383 = .ok (.iload 4, 2) := by decide +kernel
theorem d_La_law_385 : decode code 385 = .ok (.iconst 1, 1) := by decide +kernel
theorem d_La_law_386 : decode code 386 = .ok (.iadd, 1) := by decide +kernel
theorem d_La_law_387 : decode code 387 = .ok (.iaload, 1) := by decide +kernel
theorem d_La_law_388 : decode code 388 = .ok (.invokevirtual 62, 3) := by decide +kernel
theorem d_La_law_391 : decode code 391 = .ok (.aload_n 2, 1) := by decide +kernel
theorem d_La_law_392 : decode code 392 = .ok (.aload_n 0, 1) := by decide +kernel
theorem d_La_law_393 : decode code 393 = .ok (.iload 4, 2) := by decide +kernel
theorem d_La_law_395 : decode code 395 = .ok (.iconst 1, 1) := by decide +kernel
theorem d_La_law_396 : decode code 396 = .ok (.iadd, 1) := by decide +kernel
theorem d_La_law_397 : decode code 397 = .ok (.iaload, 1) := by decide +kernel
theorem d_La_law_398 : decode code 398 = .ok (.invokevirtual 65, 3) := by decide +kernel
theorem d_La_law_401 : decode code 401 = .ok (.if_icmp .eq 5, 3) := by decide +kernel
theorem d_La_law_404 : decode code 404 = .ok (.iconst 0, 1) := by decide +kernel
theorem d_La_law_405 : decode code 405 = .ok (.ireturn, 1) := by decide +kernel
theorem d_La_law_406 : decode code 406 = .ok (.iinc 4 5, 3) := by decide +kernel
theorem d_La_law_409 : decode code 409 = .ok (.goto (-386), 3) := by decide +kernel
theorem d_La_law_412 : decode code 412 = .ok (.iconst 1, 1) := by decide +kernel
theorem d_La_law_413 : decode code 413 = .ok (.ireturn, 1) := by decide +kernel
end
section
theorem d_Mo_init_0 : decode b_Mo_init 0 = .ok (.aload_n 0, 1) := by decide +kernel
theorem d_Mo_init_1 : decode b_Mo_init 1 = .ok (.invokespecial 1, 3) := by decide +kernel
theorem d_Mo_init_4 : decode b_Mo_init 4 = .ok (.aload_n 0, 1) := by decide +kernel
theorem d_Mo_init_5 : decode b_Mo_init 5 = .ok (.iconst 0, 1) := by decide +kernel
theorem d_Mo_init_6 : decode b_Mo_init 6 = .ok (.putfield 7, 3) := by decide +kernel
theorem d_Mo_init_9 : decode b_Mo_init 9 = .ok (.aload_n 0, 1) := by decide +kernel
theorem d_Mo_init_10 : decode b_Mo_init 10 = .ok (.sipush 600, 3) := by decide +kernel
theorem d_Mo_init_13 : decode b_Mo_init 13 = .ok (.newarray .int, 2) := by decide +kernel
theorem d_Mo_init_15 : decode b_Mo_init 15 = .ok (.putfield 13, 3) := by decide +kernel
theorem d_Mo_init_18 : decode b_Mo_init 18 = .ok (.aload_n 0, 1) := by decide +kernel
theorem d_Mo_init_19 : decode b_Mo_init 19 = .ok (.iconst 0, 1) := by decide +kernel
theorem d_Mo_init_20 : decode b_Mo_init 20 = .ok (.putfield 17, 3) := by decide +kernel
theorem d_Mo_init_23 : decode b_Mo_init 23 = .ok (.aload_n 0, 1) := by decide +kernel
theorem d_Mo_init_24 : decode b_Mo_init 24 = .ok (.sipush 600, 3) := by decide +kernel
theorem d_Mo_init_27 : decode b_Mo_init 27 = .ok (.newarray .int, 2) := by decide +kernel
theorem d_Mo_init_29 : decode b_Mo_init 29 = .ok (.putfield 20, 3) := by decide +kernel
theorem d_Mo_init_32 : decode b_Mo_init 32 = .ok (.aload_n 0, 1) := by decide +kernel
theorem d_Mo_init_33 : decode b_Mo_init 33 = .ok (.iconst 0, 1) := by decide +kernel
theorem d_Mo_init_34 : decode b_Mo_init 34 = .ok (.putfield 23, 3) := by decide +kernel
theorem d_Mo_init_37 : decode b_Mo_init 37 = .ok (.aload_n 0, 1) := by decide +kernel
theorem d_Mo_init_38 : decode b_Mo_init 38 = .ok (.sipush 2000, 3) := by decide +kernel
theorem d_Mo_init_41 : decode b_Mo_init 41 = .ok (.newarray .int, 2) := by decide +kernel
theorem d_Mo_init_43 : decode b_Mo_init 43 = .ok (.putfield 26, 3) := by decide +kernel
theorem d_Mo_init_46 : decode b_Mo_init 46 = .ok (.aload_n 0, 1) := by decide +kernel
theorem d_Mo_init_47 : decode b_Mo_init 47 = .ok (.iconst 0, 1) := by decide +kernel
theorem d_Mo_init_48 : decode b_Mo_init 48 = .ok (.putfield 29, 3) := by decide +kernel
theorem d_Mo_init_51 : decode b_Mo_init 51 = .ok (.aload_n 0, 1) := by decide +kernel
theorem d_Mo_init_52 : decode b_Mo_init 52 = .ok (.sipush 600, 3) := by decide +kernel
theorem d_Mo_init_55 : decode b_Mo_init 55 = .ok (.newarray .int, 2) := by decide +kernel
theorem d_Mo_init_57 : decode b_Mo_init 57 = .ok (.putfield 32, 3) := by decide +kernel
theorem d_Mo_init_60 : decode b_Mo_init 60 = .ok (.aload_n 0, 1) := by decide +kernel
theorem d_Mo_init_61 : decode b_Mo_init 61 = .ok (.iconst 0, 1) := by decide +kernel
theorem d_Mo_init_62 : decode b_Mo_init 62 = .ok (.putfield 35, 3) := by decide +kernel
theorem d_Mo_init_65 : decode b_Mo_init 65 = .ok (.aload_n 0, 1) := by decide +kernel
theorem d_Mo_init_66 : decode b_Mo_init 66 = .ok (.sipush 600, 3) := by decide +kernel
theorem d_Mo_init_69 : decode b_Mo_init 69 = .ok (.newarray .int, 2) := by decide +kernel
theorem d_Mo_init_71 : decode b_Mo_init 71 = .ok (.putfield 38, 3) := by decide +kernel
theorem d_Mo_init_74 : decode b_Mo_init 74 = .ok (.return_, 1) := by decide +kernel
theorem d_Mo_write_0 : decode b_Mo_write 0 = .ok (.aload_n 0, 1) := by decide +kernel
theorem d_Mo_write_1 : decode b_Mo_write 1 = .ok (.getfield 26, 3) := by decide +kernel
theorem d_Mo_write_4 : decode b_Mo_write 4 = .ok (.aload_n 0, 1) := by decide +kernel
theorem d_Mo_write_5 : decode b_Mo_write 5 = .ok (.getfield 29, 3) := by decide +kernel
theorem d_Mo_write_8 : decode b_Mo_write 8 = .ok (.iload_n 1, 1) := by decide +kernel
theorem d_Mo_write_9 : decode b_Mo_write 9 = .ok (.iastore, 1) := by decide +kernel
theorem d_Mo_write_10 : decode b_Mo_write 10 = .ok (.aload_n 0, 1) := by decide +kernel
theorem d_Mo_write_11 : decode b_Mo_write 11 = .ok (.dup, 1) := by decide +kernel
theorem d_Mo_write_12 : decode b_Mo_write 12 = .ok (.getfield 29, 3) := by decide +kernel
theorem d_Mo_write_15 : decode b_Mo_write 15 = .ok (.iconst 1, 1) := by decide +kernel
theorem d_Mo_write_16 : decode b_Mo_write 16 = .ok (.iadd, 1) := by decide +kernel
theorem d_Mo_write_17 : decode b_Mo_write 17 = .ok (.putfield 29, 3) := by decide +kernel
theorem d_Mo_write_20 : decode b_Mo_write 20 = .ok (.return_, 1) := by decide +kernel
theorem d_Mo_writeTwo_0 : decode b_Mo_writeTwo 0 = .ok (.aload_n 0, 1) := by decide +kernel
theorem d_Mo_writeTwo_1 : decode b_Mo_writeTwo 1 = .ok (.iload_n 1, 1) := by decide +kernel
theorem d_Mo_writeTwo_2 : decode b_Mo_writeTwo 2 = .ok (.sipush 256, 3) := by decide +kernel
theorem d_Mo_writeTwo_5 : decode b_Mo_writeTwo 5 = .ok (.idiv, 1) := by decide +kernel
theorem d_Mo_writeTwo_6 : decode b_Mo_writeTwo 6 = .ok (.invokevirtual 41, 3) := by decide +kernel
theorem d_Mo_writeTwo_9 : decode b_Mo_writeTwo 9 = .ok (.aload_n 0, 1) := by decide +kernel
theorem d_Mo_writeTwo_10 : decode b_Mo_writeTwo 10 = .ok (.iload_n 1, 1) := by decide +kernel
theorem d_Mo_writeTwo_11 : decode b_Mo_writeTwo 11 = .ok (.sipush 256, 3) := by decide +kernel
theorem d_Mo_writeTwo_14 : decode b_Mo_writeTwo 14 = .ok (.irem, 1) := by decide +kernel
theorem d_Mo_writeTwo_15 : decode b_Mo_writeTwo 15 = .ok (.invokevirtual 41, 3) := by decide +kernel
theorem d_Mo_writeTwo_18 : decode b_Mo_writeTwo 18 = .ok (.return_, 1) := by decide +kernel
theorem d_Mo_two_0 : decode b_Mo_two 0 = .ok (.sipush 256, 3) := by decide +kernel
theorem d_Mo_two_3 : decode b_Mo_two 3 = .ok (.aload_n 0, 1) := by decide +kernel
theorem d_Mo_two_4 : decode b_Mo_two 4 = .ok (.getfield 26, 3) := by decide +kernel
theorem d_Mo_two_7 : decode b_Mo_two 7 = .ok (.iload_n 1, 1) := by decide +kernel
theorem d_Mo_two_8 : decode b_Mo_two 8 = .ok (.iaload, 1) := by decide +kernel
theorem d_Mo_two_9 : decode b_Mo_two 9 = .ok (.imul, 1) := by decide +kernel
theorem d_Mo_two_10 : decode b_Mo_two 10 = .ok (.aload_n 0, 1) := by decide +kernel
theorem d_Mo_two_11 : decode b_Mo_two 11 = .ok (.getfield 26, 3) := by decide +kernel
theorem d_Mo_two_14 : decode b_Mo_two 14 = .ok (.iload_n 1, 1) := by decide +kernel
theorem d_Mo_two_15 : decode b_Mo_two 15 = .ok (.iconst 1, 1) := by decide +kernel
theorem d_Mo_two_16 : decode b_Mo_two 16 = .ok (.iadd, 1) := by decide +kernel
theorem d_Mo_two_17 : decode b_Mo_two 17 = .ok (.iaload, 1) := by decide +kernel
theorem d_Mo_two_18 : decode b_Mo_two 18 = .ok (.iadd, 1) := by decide +kernel
theorem d_Mo_two_19 : decode b_Mo_two 19 = .ok (.ireturn, 1) := by decide +kernel
theorem d_Mo_alike_0 : decode b_Mo_alike 0 = .ok (.iconst 0, 1) := by decide +kernel
theorem d_Mo_alike_1 : decode b_Mo_alike 1 = .ok (.istore_n 3, 1) := by decide +kernel
theorem d_Mo_alike_2 : decode b_Mo_alike 2 = .ok (.iload_n 1, 1) := by decide +kernel
theorem d_Mo_alike_3 : decode b_Mo_alike 3 = .ok (.iload_n 3, 1) := by decide +kernel
theorem d_Mo_alike_4 : decode b_Mo_alike 4 = .ok (.iadd, 1) := by decide +kernel
theorem d_Mo_alike_5 : decode b_Mo_alike 5 = .ok (.aload_n 0, 1) := by decide +kernel
theorem d_Mo_alike_6 : decode b_Mo_alike 6 = .ok (.getfield 17, 3) := by decide +kernel
theorem d_Mo_alike_9 : decode b_Mo_alike 9 = .ok (.if_icmp .ge 38, 3) := by decide +kernel
theorem d_Mo_alike_12 : decode b_Mo_alike 12 = .ok (.iload_n 2, 1) := by decide +kernel
theorem d_Mo_alike_13 : decode b_Mo_alike 13 = .ok (.iload_n 3, 1) := by decide +kernel
theorem d_Mo_alike_14 : decode b_Mo_alike 14 = .ok (.iadd, 1) := by decide +kernel
theorem d_Mo_alike_15 : decode b_Mo_alike 15 = .ok (.aload_n 0, 1) := by decide +kernel
theorem d_Mo_alike_16 : decode b_Mo_alike 16 = .ok (.getfield 23, 3) := by decide +kernel
theorem d_Mo_alike_19 : decode b_Mo_alike 19 = .ok (.if_icmp .ge 28, 3) := by decide +kernel
theorem d_Mo_alike_22 : decode b_Mo_alike 22 = .ok (.aload_n 0, 1) := by decide +kernel
theorem d_Mo_alike_23 : decode b_Mo_alike 23 = .ok (.getfield 13, 3) := by decide +kernel
theorem d_Mo_alike_26 : decode b_Mo_alike 26 = .ok (.iload_n 1, 1) := by decide +kernel
theorem d_Mo_alike_27 : decode b_Mo_alike 27 = .ok (.iload_n 3, 1) := by decide +kernel
theorem d_Mo_alike_28 : decode b_Mo_alike 28 = .ok (.iadd, 1) := by decide +kernel
theorem d_Mo_alike_29 : decode b_Mo_alike 29 = .ok (.iaload, 1) := by decide +kernel
theorem d_Mo_alike_30 : decode b_Mo_alike 30 = .ok (.aload_n 0, 1) := by decide +kernel
theorem d_Mo_alike_31 : decode b_Mo_alike 31 = .ok (.getfield 20, 3) := by decide +kernel
theorem d_Mo_alike_34 : decode b_Mo_alike 34 = .ok (.iload_n 2, 1) := by decide +kernel
theorem d_Mo_alike_35 : decode b_Mo_alike 35 = .ok (.iload_n 3, 1) := by decide +kernel
theorem d_Mo_alike_36 : decode b_Mo_alike 36 = .ok (.iadd, 1) := by decide +kernel
theorem d_Mo_alike_37 : decode b_Mo_alike 37 = .ok (.iaload, 1) := by decide +kernel
theorem d_Mo_alike_38 : decode b_Mo_alike 38 = .ok (.if_icmp .ne 9, 3) := by decide +kernel
theorem d_Mo_alike_41 : decode b_Mo_alike 41 = .ok (.iinc 3 1, 3) := by decide +kernel
theorem d_Mo_alike_44 : decode b_Mo_alike 44 = .ok (.goto (-42), 3) := by decide +kernel
theorem d_Mo_alike_47 : decode b_Mo_alike 47 = .ok (.iload_n 3, 1) := by decide +kernel
theorem d_Mo_alike_48 : decode b_Mo_alike 48 = .ok (.ireturn, 1) := by decide +kernel
theorem d_Mo_behind_0 : decode b_Mo_behind 0 = .ok (.aload_n 0, 1) := by decide +kernel
theorem d_Mo_behind_1 : decode b_Mo_behind 1 = .ok (.getfield 26, 3) := by decide +kernel
theorem d_Mo_behind_4 : decode b_Mo_behind 4 = .ok (.iload_n 1, 1) := by decide +kernel
theorem d_Mo_behind_5 : decode b_Mo_behind 5 = .ok (.iaload, 1) := by decide +kernel
theorem d_Mo_behind_6 : decode b_Mo_behind 6 = .ok (.iconst 1, 1) := by decide +kernel
theorem d_Mo_behind_7 : decode b_Mo_behind 7 = .ok (.if_icmp .ne 9, 3) := by decide +kernel
theorem d_Mo_behind_10 : decode b_Mo_behind 10 = .ok (.iload_n 1, 1) := by decide +kernel
theorem d_Mo_behind_11 : decode b_Mo_behind 11 = .ok (.iconst 5, 1) := by decide +kernel
theorem d_Mo_behind_12 : decode b_Mo_behind 12 = .ok (.iadd, 1) := by decide +kernel
theorem d_Mo_behind_13 : decode b_Mo_behind 13 = .ok (.goto 14, 3) := by decide +kernel
theorem d_Mo_behind_16 : decode b_Mo_behind 16 = .ok (.iload_n 1, 1) := by decide +kernel
theorem d_Mo_behind_17 : decode b_Mo_behind 17 = .ok (.iconst 3, 1) := by decide +kernel
theorem d_Mo_behind_18 : decode b_Mo_behind 18 = .ok (.iadd, 1) := by decide +kernel
theorem d_Mo_behind_19 : decode b_Mo_behind 19 = .ok (.aload_n 0, 1) := by decide +kernel
theorem d_Mo_behind_20 : decode b_Mo_behind 20 = .ok (.iload_n 1, 1) := by decide +kernel
theorem d_Mo_behind_21 : decode b_Mo_behind 21 = .ok (.iconst 1, 1) := by decide +kernel
theorem d_Mo_behind_22 : decode b_Mo_behind 22 = .ok (.iadd, 1) := by decide +kernel
theorem d_Mo_behind_23 : decode b_Mo_behind 23 = .ok (.invokevirtual 45, 3) := by decide +kernel
theorem d_Mo_behind_26 : decode b_Mo_behind 26 = .ok (.iadd, 1) := by decide +kernel
theorem d_Mo_behind_27 : decode b_Mo_behind 27 = .ok (.ireturn, 1) := by decide +kernel
theorem d_Mo_many_0 : decode b_Mo_many 0 = .ok (.aload_n 0, 1) := by decide +kernel
theorem d_Mo_many_1 : decode b_Mo_many 1 = .ok (.aload_n 0, 1) := by decide +kernel
theorem d_Mo_many_2 : decode b_Mo_many 2 = .ok (.getfield 26, 3) := by decide +kernel
theorem d_Mo_many_5 : decode b_Mo_many 5 = .ok (.iload_n 1, 1) := by decide +kernel
theorem d_Mo_many_6 : decode b_Mo_many 6 = .ok (.iaload, 1) := by decide +kernel
theorem d_Mo_many_7 : decode b_Mo_many 7 = .ok (.iconst 1, 1) := by decide +kernel
theorem d_Mo_many_8 : decode b_Mo_many 8 = .ok (.if_icmp .ne 9, 3) := by decide +kernel
theorem d_Mo_many_11 : decode b_Mo_many 11 = .ok (.iload_n 1, 1) := by decide +kernel
theorem d_Mo_many_12 : decode b_Mo_many 12 = .ok (.iconst 3, 1) := by decide +kernel
theorem d_Mo_many_13 : decode b_Mo_many 13 = .ok (.iadd, 1) := by decide +kernel
theorem d_Mo_many_14 : decode b_Mo_many 14 = .ok (.goto 6, 3) := by decide +kernel
theorem d_Mo_many_17 : decode b_Mo_many 17 = .ok (.iload_n 1, 1) := by decide +kernel
theorem d_Mo_many_18 : decode b_Mo_many 18 = .ok (.iconst 1, 1) := by decide +kernel
theorem d_Mo_many_19 : decode b_Mo_many 19 = .ok (.iadd, 1) := by decide +kernel
theorem d_Mo_many_20 : decode b_Mo_many 20 = .ok (.invokevirtual 45, 3) := by decide +kernel
theorem d_Mo_many_23 : decode b_Mo_many 23 = .ok (.ireturn, 1) := by decide +kernel
theorem d_Mo_thrown_0 : decode b_Mo_thrown 0 = .ok (.aload_n 0, 1) := by decide +kernel
theorem d_Mo_thrown_1 : decode b_Mo_thrown 1 = .ok (.getfield 7, 3) := by decide +kernel
theorem d_Mo_thrown_4 : decode b_Mo_thrown 4 = .ok (.ireturn, 1) := by decide +kernel
theorem d_Mo_put_0 : decode b_Mo_put 0 = .ok (.aload_n 0, 1) := by decide +kernel
theorem d_Mo_put_1 : decode b_Mo_put 1 = .ok (.iconst 0, 1) := by decide +kernel
theorem d_Mo_put_2 : decode b_Mo_put 2 = .ok (.putfield 7, 3) := by decide +kernel
theorem d_Mo_put_5 : decode b_Mo_put 5 = .ok (.iload_n 1, 1) := by decide +kernel
theorem d_Mo_put_6 : decode b_Mo_put 6 = .ok (.ifCond .eq 10, 3) := by decide +kernel
theorem d_Mo_put_9 : decode b_Mo_put 9 = .ok (.aload_n 0, 1) := by decide +kernel
theorem d_Mo_put_10 : decode b_Mo_put 10 = .ok (.getfield 23, 3) := by decide +kernel
theorem d_Mo_put_13 : decode b_Mo_put 13 = .ok (.goto 7, 3) := by decide +kernel
theorem d_Mo_put_16 : decode b_Mo_put 16 = .ok (.aload_n 0, 1) := by decide +kernel
theorem d_Mo_put_17 : decode b_Mo_put 17 = .ok (.getfield 17, 3) := by decide +kernel
theorem d_Mo_put_20 : decode b_Mo_put 20 = .ok (.istore 5, 2) := by decide +kernel
theorem d_Mo_put_22 : decode b_Mo_put 22 = .ok (.iload 4, 2) := by decide +kernel
theorem d_Mo_put_24 : decode b_Mo_put 24 = .ok (.ifCond .lt 21, 3) := by decide +kernel
theorem d_Mo_put_27 : decode b_Mo_put 27 = .ok (.iload 4, 2) := by decide +kernel
theorem d_Mo_put_29 : decode b_Mo_put 29 = .ok (.bipush 8, 2) := by decide +kernel
theorem d_Mo_put_31 : decode b_Mo_put 31 = .ok (.if_icmp .gt 14, 3) := by decide +kernel
theorem d_Mo_put_34 : decode b_Mo_put 34 = .ok (.iload 5, 2) := by decide +kernel
theorem d_Mo_put_36 : decode b_Mo_put 36 = .ok (.iload 4, 2) := by decide +kernel
theorem d_Mo_put_38 : decode b_Mo_put 38 = .ok (.iadd, 1) := by decide +kernel
theorem d_Mo_put_39 : decode b_Mo_put 39 = .ok (.sipush 600, 3) := by decide +kernel
theorem d_Mo_put_42 : decode b_Mo_put 42 = .ok (.if_icmp .le 5, 3) := by decide +kernel
theorem d_Mo_put_45 : decode b_Mo_put 45 = .ok (.iconst 0, 1) := by decide +kernel
theorem d_Mo_put_46 : decode b_Mo_put 46 = .ok (.ireturn, 1) := by decide +kernel
theorem d_Mo_put_47 : decode b_Mo_put 47 = .ok (.iload 4, 2) := by decide +kernel
theorem d_Mo_put_49 : decode b_Mo_put 49 = .ok (.iconst 1, 1) := by decide +kernel
theorem d_Mo_put_50 : decode b_Mo_put 50 = .ok (.isub, 1) := by decide +kernel
theorem d_Mo_put_51 : decode b_Mo_put 51 = .ok (.istore 6, 2) := by decide +kernel
theorem d_Mo_put_53 : decode b_Mo_put 53 = .ok (.iload 6, 2) := by decide +kernel
theorem d_Mo_put_55 : decode b_Mo_put 55 = .ok (.ifCond .lt 72, 3) := by decide +kernel
theorem d_Mo_put_58 : decode b_Mo_put 58 = .ok (.lload_n 2, 1) := by decide +kernel
theorem d_Mo_put_59 : decode b_Mo_put 59 = .ok (.bipush 8, 2) := by decide +kernel
theorem d_Mo_put_61 : decode b_Mo_put 61 = .ok (.iload 6, 2) := by decide +kernel
theorem d_Mo_put_63 : decode b_Mo_put 63 = .ok (.imul, 1) := by decide +kernel
theorem d_Mo_put_64 : decode b_Mo_put 64 = .ok (.lshr, 1) := by decide +kernel
theorem d_Mo_put_65 : decode b_Mo_put 65 = .ok (.l2i, 1) := by decide +kernel
theorem d_Mo_put_66 : decode b_Mo_put 66 = .ok (.sipush 255, 3) := by decide +kernel
theorem d_Mo_put_69 : decode b_Mo_put 69 = .ok (.iand, 1) := by decide +kernel
theorem d_Mo_put_70 : decode b_Mo_put 70 = .ok (.istore 7, 2) := by decide +kernel
theorem d_Mo_put_72 : decode b_Mo_put 72 = .ok (.iload_n 1, 1) := by decide +kernel
theorem d_Mo_put_73 : decode b_Mo_put 73 = .ok (.ifCond .eq 27, 3) := by decide +kernel
theorem d_Mo_put_76 : decode b_Mo_put 76 = .ok (.aload_n 0, 1) := by decide +kernel
theorem d_Mo_put_77 : decode b_Mo_put 77 = .ok (.getfield 20, 3) := by decide +kernel
theorem d_Mo_put_80 : decode b_Mo_put 80 = .ok (.aload_n 0, 1) := by decide +kernel
theorem d_Mo_put_81 : decode b_Mo_put 81 = .ok (.getfield 23, 3) := by decide +kernel
theorem d_Mo_put_84 : decode b_Mo_put 84 = .ok (.iload 7, 2) := by decide +kernel
theorem d_Mo_put_86 : decode b_Mo_put 86 = .ok (.iastore, 1) := by decide +kernel
theorem d_Mo_put_87 : decode b_Mo_put 87 = .ok (.aload_n 0, 1) := by decide +kernel
theorem d_Mo_put_88 : decode b_Mo_put 88 = .ok (.dup, 1) := by decide +kernel
theorem d_Mo_put_89 : decode b_Mo_put 89 = .ok (.getfield 23, 3) := by decide +kernel
theorem d_Mo_put_92 : decode b_Mo_put 92 = .ok (.iconst 1, 1) := by decide +kernel
theorem d_Mo_put_93 : decode b_Mo_put 93 = .ok (.iadd, 1) := by decide +kernel
theorem d_Mo_put_94 : decode b_Mo_put 94 = .ok (.putfield 23, 3) := by decide +kernel
theorem d_Mo_put_97 : decode b_Mo_put 97 = .ok (.goto 24, 3) := by decide +kernel
theorem d_Mo_put_100 : decode b_Mo_put 100 = .ok (.aload_n 0, 1) := by decide +kernel
theorem d_Mo_put_101 : decode b_Mo_put 101 = .ok (.getfield 13, 3) := by decide +kernel
theorem d_Mo_put_104 : decode b_Mo_put 104 = .ok (.aload_n 0, 1) := by decide +kernel
theorem d_Mo_put_105 : decode b_Mo_put 105 = .ok (.getfield 17, 3) := by decide +kernel
theorem d_Mo_put_108 : decode b_Mo_put 108 = .ok (.iload 7, 2) := by decide +kernel
theorem d_Mo_put_110 : decode b_Mo_put 110 = .ok (.iastore, 1) := by decide +kernel
theorem d_Mo_put_111 : decode b_Mo_put 111 = .ok (.aload_n 0, 1) := by decide +kernel
theorem d_Mo_put_112 : decode b_Mo_put 112 = .ok (.dup, 1) := by decide +kernel
theorem d_Mo_put_113 : decode b_Mo_put 113 = .ok (.getfield 17, 3) := by decide +kernel
theorem d_Mo_put_116 : decode b_Mo_put 116 = .ok (.iconst 1, 1) := by decide +kernel
theorem d_Mo_put_117 : decode b_Mo_put 117 = .ok (.iadd, 1) := by decide +kernel
theorem d_Mo_put_118 : decode b_Mo_put 118 = .ok (.putfield 17, 3) := by decide +kernel
theorem d_Mo_put_121 : decode b_Mo_put 121 = .ok (.iinc 6 (-1), 3) := by decide +kernel
theorem d_Mo_put_124 : decode b_Mo_put 124 = .ok (.goto (-71), 3) := by decide +kernel
theorem d_Mo_put_127 : decode b_Mo_put 127 = .ok (.iconst 1, 1) := by decide +kernel
theorem d_Mo_put_128 : decode b_Mo_put 128 = .ok (.ireturn, 1) := by decide +kernel
theorem d_Mo_clear_0 : decode b_Mo_clear 0 = .ok (.aload_n 0, 1) := by decide +kernel
theorem d_Mo_clear_1 : decode b_Mo_clear 1 = .ok (.iconst 0, 1) := by decide +kernel
theorem d_Mo_clear_2 : decode b_Mo_clear 2 = .ok (.putfield 7, 3) := by decide +kernel
theorem d_Mo_clear_5 : decode b_Mo_clear 5 = .ok (.iload_n 1, 1) := by decide +kernel
theorem d_Mo_clear_6 : decode b_Mo_clear 6 = .ok (.ifCond .eq 11, 3) := by decide +kernel
theorem d_Mo_clear_9 : decode b_Mo_clear 9 = .ok (.aload_n 0, 1) := by decide +kernel
theorem d_Mo_clear_10 : decode b_Mo_clear 10 = .ok (.iconst 0, 1) := by decide +kernel
theorem d_Mo_clear_11 : decode b_Mo_clear 11 = .ok (.putfield 23, 3) := by decide +kernel
theorem d_Mo_clear_14 : decode b_Mo_clear 14 = .ok (.goto 8, 3) := by decide +kernel
theorem d_Mo_clear_17 : decode b_Mo_clear 17 = .ok (.aload_n 0, 1) := by decide +kernel
theorem d_Mo_clear_18 : decode b_Mo_clear 18 = .ok (.iconst 0, 1) := by decide +kernel
theorem d_Mo_clear_19 : decode b_Mo_clear 19 = .ok (.putfield 17, 3) := by decide +kernel
theorem d_Mo_clear_22 : decode b_Mo_clear 22 = .ok (.return_, 1) := by decide +kernel
theorem d_Mo_make_0 : decode b_Mo_make 0 = .ok (.aload_n 0, 1) := by decide +kernel
theorem d_Mo_make_1 : decode b_Mo_make 1 = .ok (.iconst 0, 1) := by decide +kernel
theorem d_Mo_make_2 : decode b_Mo_make 2 = .ok (.putfield 7, 3) := by decide +kernel
theorem d_Mo_make_5 : decode b_Mo_make 5 = .ok (.aload_n 0, 1) := by decide +kernel
theorem d_Mo_make_6 : decode b_Mo_make 6 = .ok (.iconst 0, 1) := by decide +kernel
theorem d_Mo_make_7 : decode b_Mo_make 7 = .ok (.putfield 29, 3) := by decide +kernel
theorem d_Mo_make_10 : decode b_Mo_make 10 = .ok (.iconst 0, 1) := by decide +kernel
theorem d_Mo_make_11 : decode b_Mo_make 11 = .ok (.istore_n 1, 1) := by decide +kernel
theorem d_Mo_make_12 : decode b_Mo_make 12 = .ok (.iconst (-1), 1) := by decide +kernel
theorem d_Mo_make_13 : decode b_Mo_make 13 = .ok (.istore_n 2, 1) := by decide +kernel
theorem d_Mo_make_14 : decode b_Mo_make 14 = .ok (.iconst 0, 1) := by decide +kernel
theorem d_Mo_make_15 : decode b_Mo_make 15 = .ok (.istore_n 3, 1) := by decide +kernel
theorem d_Mo_make_16 : decode b_Mo_make 16 = .ok (.iload_n 3, 1) := by decide +kernel
theorem d_Mo_make_17 : decode b_Mo_make 17 = .ok (.aload_n 0, 1) := by decide +kernel
theorem d_Mo_make_18 : decode b_Mo_make 18 = .ok (.getfield 23, 3) := by decide +kernel
theorem d_Mo_make_21 : decode b_Mo_make 21 = .ok (.if_icmp .ge 169, 3) := by decide +kernel
theorem d_Mo_make_24 : decode b_Mo_make 24 = .ok (.bipush 7, 2) := by decide +kernel
theorem d_Mo_make_26 : decode b_Mo_make 26 = .ok (.istore 4, 2) := by decide +kernel
theorem d_Mo_make_28 : decode b_Mo_make 28 = .ok (.iconst 0, 1) := by decide +kernel
theorem d_Mo_make_29 : decode b_Mo_make 29 = .ok (.istore 5, 2) := by decide +kernel
theorem d_Mo_make_31 : decode b_Mo_make 31 = .ok (.iconst 0, 1) := by decide +kernel
theorem d_Mo_make_32 : decode b_Mo_make 32 = .ok (.istore 6, 2) := by decide +kernel
theorem d_Mo_make_34 : decode b_Mo_make 34 = .ok (.iload 6, 2) := by decide +kernel
theorem d_Mo_make_36 : decode b_Mo_make 36 = .ok (.bipush 8, 2) := by decide +kernel
theorem d_Mo_make_38 : decode b_Mo_make 38 = .ok (.iadd, 1) := by decide +kernel
theorem d_Mo_make_39 : decode b_Mo_make 39 = .ok (.aload_n 0, 1) := by decide +kernel
theorem d_Mo_make_40 : decode b_Mo_make 40 = .ok (.getfield 17, 3) := by decide +kernel
theorem d_Mo_make_43 : decode b_Mo_make 43 = .ok (.if_icmp .gt 33, 3) := by decide +kernel
theorem d_Mo_make_46 : decode b_Mo_make 46 = .ok (.aload_n 0, 1) := by decide +kernel
theorem d_Mo_make_47 : decode b_Mo_make 47 = .ok (.iload 6, 2) := by decide +kernel
theorem d_Mo_make_49 : decode b_Mo_make 49 = .ok (.iload_n 3, 1) := by decide +kernel
theorem d_Mo_make_50 : decode b_Mo_make 50 = .ok (.invokevirtual 49, 3) := by decide +kernel
theorem d_Mo_make_53 : decode b_Mo_make 53 = .ok (.istore 7, 2) := by decide +kernel
theorem d_Mo_make_55 : decode b_Mo_make 55 = .ok (.iload 7, 2) := by decide +kernel
theorem d_Mo_make_57 : decode b_Mo_make 57 = .ok (.iload 4, 2) := by decide +kernel
theorem d_Mo_make_59 : decode b_Mo_make 59 = .ok (.if_icmp .le 11, 3) := by decide +kernel
theorem d_Mo_make_62 : decode b_Mo_make 62 = .ok (.iload 7, 2) := by decide +kernel
theorem d_Mo_make_64 : decode b_Mo_make 64 = .ok (.istore 4, 2) := by decide +kernel
theorem d_Mo_make_66 : decode b_Mo_make 66 = .ok (.iload 6, 2) := by decide +kernel
theorem d_Mo_make_68 : decode b_Mo_make 68 = .ok (.istore 5, 2) := by decide +kernel
theorem d_Mo_make_70 : decode b_Mo_make 70 = .ok (.iinc 6 8, 3) := by decide +kernel
theorem d_Mo_make_73 : decode b_Mo_make 73 = .ok (.goto (-39), 3) := by decide +kernel
theorem d_Mo_make_76 : decode b_Mo_make 76 = .ok (.iload 4, 2) := by decide +kernel
theorem d_Mo_make_78 : decode b_Mo_make 78 = .ok (.bipush 7, 2) := by decide +kernel
theorem d_Mo_make_80 : decode b_Mo_make 80 = .ok (.if_icmp .le 33, 3) := by decide +kernel
theorem d_Mo_make_83 : decode b_Mo_make 83 = .ok (.aload_n 0, 1) := by decide +kernel
theorem d_Mo_make_84 : decode b_Mo_make 84 = .ok (.iconst 1, 1) := by decide +kernel
theorem d_Mo_make_85 : decode b_Mo_make 85 = .ok (.invokevirtual 41, 3) := by decide +kernel
theorem d_Mo_make_88 : decode b_Mo_make 88 = .ok (.aload_n 0, 1) := by decide +kernel
theorem d_Mo_make_89 : decode b_Mo_make 89 = .ok (.iload 5, 2) := by decide +kernel
theorem d_Mo_make_91 : decode b_Mo_make 91 = .ok (.invokevirtual 53, 3) := by decide +kernel
theorem d_Mo_make_94 : decode b_Mo_make 94 = .ok (.aload_n 0, 1) := by decide +kernel
theorem d_Mo_make_95 : decode b_Mo_make 95 = .ok (.iload 4, 2) := by decide +kernel
theorem d_Mo_make_97 : decode b_Mo_make 97 = .ok (.invokevirtual 53, 3) := by decide +kernel
theorem d_Mo_make_100 : decode b_Mo_make 100 = .ok (.iinc 1 1, 3) := by decide +kernel
theorem d_Mo_make_103 : decode b_Mo_make 103 = .ok (.iconst (-1), 1) := by decide +kernel
theorem d_Mo_make_104 : decode b_Mo_make 104 = .ok (.istore_n 2, 1) := by decide +kernel
theorem d_Mo_make_105 : decode b_Mo_make 105 = .ok (.iload_n 3, 1) := by decide +kernel
theorem d_Mo_make_106 : decode b_Mo_make 106 = .ok (.iload 4, 2) := by decide +kernel
theorem d_Mo_make_108 : decode b_Mo_make 108 = .ok (.iadd, 1) := by decide +kernel
theorem d_Mo_make_109 : decode b_Mo_make 109 = .ok (.istore_n 3, 1) := by decide +kernel
theorem d_Mo_make_110 : decode b_Mo_make 110 = .ok (.goto 77, 3) := by decide +kernel
theorem d_Mo_make_113 : decode b_Mo_make 113 = .ok (.iload_n 2, 1) := by decide +kernel
theorem d_Mo_make_114 : decode b_Mo_make 114 = .ok (.ifCond .ge 21, 3) := by decide +kernel
theorem d_Mo_make_117 : decode b_Mo_make 117 = .ok (.aload_n 0, 1) := by decide +kernel
theorem d_Mo_make_118 : decode b_Mo_make 118 = .ok (.getfield 29, 3) := by decide +kernel
theorem d_Mo_make_121 : decode b_Mo_make 121 = .ok (.istore_n 2, 1) := by decide +kernel
theorem d_Mo_make_122 : decode b_Mo_make 122 = .ok (.aload_n 0, 1) := by decide +kernel
theorem d_Mo_make_123 : decode b_Mo_make 123 = .ok (.iconst 2, 1) := by decide +kernel
theorem d_Mo_make_124 : decode b_Mo_make 124 = .ok (.invokevirtual 41, 3) := by decide +kernel
theorem d_Mo_make_127 : decode b_Mo_make 127 = .ok (.aload_n 0, 1) := by decide +kernel
theorem d_Mo_make_128 : decode b_Mo_make 128 = .ok (.iconst 0, 1) := by decide +kernel
theorem d_Mo_make_129 : decode b_Mo_make 129 = .ok (.invokevirtual 53, 3) := by decide +kernel
theorem d_Mo_make_132 : decode b_Mo_make 132 = .ok (.iinc 1 1, 3) := by decide +kernel
theorem d_Mo_make_135 : decode b_Mo_make 135 = .ok (.aload_n 0, 1) := by decide +kernel
theorem d_Mo_make_136 : decode b_Mo_make 136 = .ok (.iload_n 2, 1) := by decide +kernel
theorem d_Mo_make_137 : decode b_Mo_make 137 = .ok (.iconst 1, 1) := by decide +kernel
theorem d_Mo_make_138 : decode b_Mo_make 138 = .ok (.iadd, 1) := by decide +kernel
theorem d_Mo_make_139 : decode b_Mo_make 139 = .ok (.invokevirtual 45, 3) := by decide +kernel
theorem d_Mo_make_142 : decode b_Mo_make 142 = .ok (.iconst 1, 1) := by decide +kernel
theorem d_Mo_make_143 : decode b_Mo_make 143 = .ok (.iadd, 1) := by decide +kernel
theorem d_Mo_make_144 : decode b_Mo_make 144 = .ok (.istore 6, 2) := by decide +kernel
theorem d_Mo_make_146 : decode b_Mo_make 146 = .ok (.aload_n 0, 1) := by decide +kernel
theorem d_Mo_make_147 : decode b_Mo_make 147 = .ok (.getfield 26, 3) := by decide +kernel
theorem d_Mo_make_150 : decode b_Mo_make 150 = .ok (.iload_n 2, 1) := by decide +kernel
theorem d_Mo_make_151 : decode b_Mo_make 151 = .ok (.iconst 1, 1) := by decide +kernel
theorem d_Mo_make_152 : decode b_Mo_make 152 = .ok (.iadd, 1) := by decide +kernel
theorem d_Mo_make_153 : decode b_Mo_make 153 = .ok (.iload 6, 2) := by decide +kernel
theorem d_Mo_make_155 : decode b_Mo_make 155 = .ok (.sipush 256, 3) := by decide +kernel
theorem d_Mo_make_158 : decode b_Mo_make 158 = .ok (.idiv, 1) := by decide +kernel
theorem d_Mo_make_159 : decode b_Mo_make 159 = .ok (.iastore, 1) := by decide +kernel
theorem d_Mo_make_160 : decode b_Mo_make 160 = .ok (.aload_n 0, 1) := by decide +kernel
theorem d_Mo_make_161 : decode b_Mo_make 161 = .ok (.getfield 26, 3) := by decide +kernel
theorem d_Mo_make_164 : decode b_Mo_make 164 = .ok (.iload_n 2, 1) := by decide +kernel
theorem d_Mo_make_165 : decode b_Mo_make 165 = .ok (.iconst 2, 1) := by decide +kernel
theorem d_Mo_make_166 : decode b_Mo_make 166 = .ok (.iadd, 1) := by decide +kernel
theorem d_Mo_make_167 : decode b_Mo_make 167 = .ok (.iload 6, 2) := by decide +kernel
theorem d_Mo_make_169 : decode b_Mo_make 169 = .ok (.sipush 256, 3) := by decide +kernel
theorem d_Mo_make_172 : decode b_Mo_make 172 = .ok (.irem, 1) := by decide +kernel
theorem d_Mo_make_173 : decode b_Mo_make 173 = .ok (.iastore, 1) := by decide +kernel
theorem d_Mo_make_174 : decode b_Mo_make 174 = .ok (.aload_n 0, 1) := by decide +kernel
theorem d_Mo_make_175 : decode b_Mo_make 175 = .ok (.aload_n 0, 1) := by decide +kernel
theorem d_Mo_make_176 : decode b_Mo_make 176 = .ok (.getfield 20, 3) := by decide +kernel
theorem d_Mo_make_179 : decode b_Mo_make 179 = .ok (.iload_n 3, 1) := by decide +kernel
theorem d_Mo_make_180 : decode b_Mo_make 180 = .ok (.iaload, 1) := by decide +kernel
theorem d_Mo_make_181 : decode b_Mo_make 181 = .ok (.invokevirtual 41, 3) := by decide +kernel
theorem d_Mo_make_184 : decode b_Mo_make 184 = .ok (.iinc 3 1, 3) := by decide +kernel
theorem d_Mo_make_187 : decode b_Mo_make 187 = .ok (.goto (-171), 3) := by decide +kernel
theorem d_Mo_make_190 : decode b_Mo_make 190 = .ok (.iload_n 1, 1) := by decide +kernel
theorem d_Mo_make_191 : decode b_Mo_make 191 = .ok (.ireturn, 1) := by decide +kernel
theorem d_Mo_piece_0 : decode b_Mo_piece 0 = .ok (.aload_n 0, 1) := by decide +kernel
theorem d_Mo_piece_1 : decode b_Mo_piece 1 = .ok (.iconst 0, 1) := by decide +kernel
theorem d_Mo_piece_2 : decode b_Mo_piece 2 = .ok (.putfield 7, 3) := by decide +kernel
theorem d_Mo_piece_5 : decode b_Mo_piece 5 = .ok (.iload_n 1, 1) := by decide +kernel
theorem d_Mo_piece_6 : decode b_Mo_piece 6 = .ok (.ifCond .lt 12, 3) := by decide +kernel
theorem d_Mo_piece_9 : decode b_Mo_piece 9 = .ok (.iload_n 2, 1) := by decide +kernel
theorem d_Mo_piece_10 : decode b_Mo_piece 10 = .ok (.ifCond .lt 8, 3) := by decide +kernel
theorem d_Mo_piece_13 : decode b_Mo_piece 13 = .ok (.iload_n 2, 1) := by decide +kernel
theorem d_Mo_piece_14 : decode b_Mo_piece 14 = .ok (.iconst 2, 1) := by decide +kernel
theorem d_Mo_piece_15 : decode b_Mo_piece 15 = .ok (.if_icmp .le 5, 3) := by decide +kernel
theorem d_Mo_piece_18 : decode b_Mo_piece 18 = .ok (.iconst (-1), 1) := by decide +kernel
theorem d_Mo_piece_19 : decode b_Mo_piece 19 = .ok (.ireturn, 1) := by decide +kernel
theorem d_Mo_piece_20 : decode b_Mo_piece 20 = .ok (.iconst 0, 1) := by decide +kernel
theorem d_Mo_piece_21 : decode b_Mo_piece 21 = .ok (.istore_n 3, 1) := by decide +kernel
theorem d_Mo_piece_22 : decode b_Mo_piece 22 = .ok (.iconst 0, 1) := by decide +kernel
theorem d_Mo_piece_23 : decode b_Mo_piece 23 = .ok (.istore 4, 2) := by decide +kernel
theorem d_Mo_piece_25 : decode b_Mo_piece 25 = .ok (.iconst 0, 1) := by decide +kernel
theorem d_Mo_piece_26 : decode b_Mo_piece 26 = .ok (.istore 5, 2) := by decide +kernel
theorem d_Mo_piece_28 : decode b_Mo_piece 28 = .ok (.iload 5, 2) := by decide +kernel
theorem d_Mo_piece_30 : decode b_Mo_piece 30 = .ok (.iload_n 1, 1) := by decide +kernel
theorem d_Mo_piece_31 : decode b_Mo_piece 31 = .ok (.if_icmp .ge 33, 3) := by decide +kernel
theorem d_Mo_piece_34 : decode b_Mo_piece 34 = .ok (.iload_n 3, 1) := by decide +kernel
theorem d_Mo_piece_35 : decode b_Mo_piece 35 = .ok (.aload_n 0, 1) := by decide +kernel
theorem d_Mo_piece_36 : decode b_Mo_piece 36 = .ok (.getfield 29, 3) := by decide +kernel
theorem d_Mo_piece_39 : decode b_Mo_piece 39 = .ok (.if_icmp .ge 25, 3) := by decide +kernel
theorem d_Mo_piece_42 : decode b_Mo_piece 42 = .ok (.iload 4, 2) := by decide +kernel
theorem d_Mo_piece_44 : decode b_Mo_piece 44 = .ok (.aload_n 0, 1) := by decide +kernel
theorem d_Mo_piece_45 : decode b_Mo_piece 45 = .ok (.iload_n 3, 1) := by decide +kernel
theorem d_Mo_piece_46 : decode b_Mo_piece 46 = .ok (.invokevirtual 56, 3) := by decide +kernel
theorem d_Mo_piece_49 : decode b_Mo_piece 49 = .ok (.iadd, 1) := by decide +kernel
theorem d_Mo_piece_50 : decode b_Mo_piece 50 = .ok (.istore 4, 2) := by decide +kernel
theorem d_Mo_piece_52 : decode b_Mo_piece 52 = .ok (.aload_n 0, 1) := by decide +kernel
theorem d_Mo_piece_53 : decode b_Mo_piece 53 = .ok (.iload_n 3, 1) := by decide +kernel
theorem d_Mo_piece_54 : decode b_Mo_piece 54 = .ok (.invokevirtual 59, 3) := by decide +kernel
theorem d_Mo_piece_57 : decode b_Mo_piece 57 = .ok (.istore_n 3, 1) := by decide +kernel
theorem d_Mo_piece_58 : decode b_Mo_piece 58 = .ok (.iinc 5 1, 3) := by decide +kernel
theorem d_Mo_piece_61 : decode b_Mo_piece 61 = .ok (.goto (-33), 3) := by decide +kernel
theorem d_Mo_piece_64 : decode b_Mo_piece 64 = .ok (.iload_n 3, 1) := by decide +kernel
theorem d_Mo_piece_65 : decode b_Mo_piece 65 = .ok (.aload_n 0, 1) := by decide +kernel
theorem d_Mo_piece_66 : decode b_Mo_piece 66 = .ok (.getfield 29, 3) := by decide +kernel
theorem d_Mo_piece_69 : decode b_Mo_piece 69 = .ok (.if_icmp .lt 5, 3) := by decide +kernel
theorem d_Mo_piece_72 : decode b_Mo_piece 72 = .ok (.iconst (-1), 1) := by decide +kernel
theorem d_Mo_piece_73 : decode b_Mo_piece 73 = .ok (.ireturn, 1) := by decide +kernel
theorem d_Mo_piece_74 : decode b_Mo_piece 74 = .ok (.iload_n 2, 1) := by decide +kernel
theorem d_Mo_piece_75 : decode b_Mo_piece 75 = .ok (.ifCond .ne 12, 3) := by decide +kernel
theorem d_Mo_piece_78 : decode b_Mo_piece 78 = .ok (.aload_n 0, 1) := by decide +kernel
theorem d_Mo_piece_79 : decode b_Mo_piece 79 = .ok (.getfield 26, 3) := by decide +kernel
theorem d_Mo_piece_82 : decode b_Mo_piece 82 = .ok (.iload_n 3, 1) := by decide +kernel
theorem d_Mo_piece_83 : decode b_Mo_piece 83 = .ok (.iaload, 1) := by decide +kernel
theorem d_Mo_piece_84 : decode b_Mo_piece 84 = .ok (.goto 38, 3) := by decide +kernel
theorem d_Mo_piece_87 : decode b_Mo_piece 87 = .ok (.iload_n 2, 1) := by decide +kernel
theorem d_Mo_piece_88 : decode b_Mo_piece 88 = .ok (.iconst 2, 1) := by decide +kernel
theorem d_Mo_piece_89 : decode b_Mo_piece 89 = .ok (.if_icmp .ne 11, 3) := by decide +kernel
theorem d_Mo_piece_92 : decode b_Mo_piece 92 = .ok (.aload_n 0, 1) := by decide +kernel
theorem d_Mo_piece_93 : decode b_Mo_piece 93 = .ok (.iload_n 3, 1) := by decide +kernel
theorem d_Mo_piece_94 : decode b_Mo_piece 94 = .ok (.invokevirtual 56, 3) := by decide +kernel
theorem d_Mo_piece_97 : decode b_Mo_piece 97 = .ok (.goto 25, 3) := by decide +kernel
theorem d_Mo_piece_100 : decode b_Mo_piece 100 = .ok (.aload_n 0, 1) := by decide +kernel
theorem d_Mo_piece_101 : decode b_Mo_piece 101 = .ok (.getfield 26, 3) := by decide +kernel
theorem d_Mo_piece_104 : decode b_Mo_piece 104 = .ok (.iload_n 3, 1) := by decide +kernel
theorem d_Mo_piece_105 : decode b_Mo_piece 105 = .ok (.iaload, 1) := by decide +kernel
theorem d_Mo_piece_106 : decode b_Mo_piece 106 = .ok (.iconst 1, 1) := by decide +kernel
theorem d_Mo_piece_107 : decode b_Mo_piece 107 = .ok (.if_icmp .ne 13, 3) := by decide +kernel
theorem d_Mo_piece_110 : decode b_Mo_piece 110 = .ok (.aload_n 0, 1) := by decide +kernel
theorem d_Mo_piece_111 : decode b_Mo_piece 111 = .ok (.iload_n 3, 1) := by decide +kernel
theorem d_Mo_piece_112 : decode b_Mo_piece 112 = .ok (.iconst 1, 1) := by decide +kernel
theorem d_Mo_piece_113 : decode b_Mo_piece 113 = .ok (.iadd, 1) := by decide +kernel
theorem d_Mo_piece_114 : decode b_Mo_piece 114 = .ok (.invokevirtual 45, 3) := by decide +kernel
theorem d_Mo_piece_117 : decode b_Mo_piece 117 = .ok (.goto 5, 3) := by decide +kernel
theorem d_Mo_piece_120 : decode b_Mo_piece 120 = .ok (.iload 4, 2) := by decide +kernel
theorem d_Mo_piece_122 : decode b_Mo_piece 122 = .ok (.ireturn, 1) := by decide +kernel
theorem d_Mo_size_0 : decode b_Mo_size 0 = .ok (.aload_n 0, 1) := by decide +kernel
theorem d_Mo_size_1 : decode b_Mo_size 1 = .ok (.iconst 0, 1) := by decide +kernel
theorem d_Mo_size_2 : decode b_Mo_size 2 = .ok (.putfield 7, 3) := by decide +kernel
theorem d_Mo_size_5 : decode b_Mo_size 5 = .ok (.aload_n 0, 1) := by decide +kernel
theorem d_Mo_size_6 : decode b_Mo_size 6 = .ok (.getfield 29, 3) := by decide +kernel
theorem d_Mo_size_9 : decode b_Mo_size 9 = .ok (.ireturn, 1) := by decide +kernel
theorem d_Mo_way_0 : decode b_Mo_way 0 = .ok (.aload_n 0, 1) := by decide +kernel
theorem d_Mo_way_1 : decode b_Mo_way 1 = .ok (.iconst 0, 1) := by decide +kernel
theorem d_Mo_way_2 : decode b_Mo_way 2 = .ok (.putfield 7, 3) := by decide +kernel
theorem d_Mo_way_5 : decode b_Mo_way 5 = .ok (.iload_n 1, 1) := by decide +kernel
theorem d_Mo_way_6 : decode b_Mo_way 6 = .ok (.ifCond .lt 11, 3) := by decide +kernel
theorem d_Mo_way_9 : decode b_Mo_way 9 = .ok (.iload_n 1, 1) := by decide +kernel
theorem d_Mo_way_10 : decode b_Mo_way 10 = .ok (.aload_n 0, 1) := by decide +kernel
theorem d_Mo_way_11 : decode b_Mo_way 11 = .ok (.getfield 29, 3) := by decide +kernel
theorem d_Mo_way_14 : decode b_Mo_way 14 = .ok (.if_icmp .lt 7, 3) := by decide +kernel
theorem d_Mo_way_17 : decode b_Mo_way 17 = .ok (.iconst (-1), 1) := by decide +kernel
theorem d_Mo_way_18 : decode b_Mo_way 18 = .ok (.goto 9, 3) := by decide +kernel
theorem d_Mo_way_21 : decode b_Mo_way 21 = .ok (.aload_n 0, 1) := by decide +kernel
theorem d_Mo_way_22 : decode b_Mo_way 22 = .ok (.getfield 26, 3) := by decide +kernel
theorem d_Mo_way_25 : decode b_Mo_way 25 = .ok (.iload_n 1, 1) := by decide +kernel
theorem d_Mo_way_26 : decode b_Mo_way 26 = .ok (.iaload, 1) := by decide +kernel
theorem d_Mo_way_27 : decode b_Mo_way 27 = .ok (.ireturn, 1) := by decide +kernel
theorem d_Mo_go_0 : decode b_Mo_go 0 = .ok (.iconst 0, 1) := by decide +kernel
theorem d_Mo_go_1 : decode b_Mo_go 1 = .ok (.istore_n 1, 1) := by decide +kernel
theorem d_Mo_go_2 : decode b_Mo_go 2 = .ok (.aload_n 0, 1) := by decide +kernel
theorem d_Mo_go_3 : decode b_Mo_go 3 = .ok (.iconst 0, 1) := by decide +kernel
theorem d_Mo_go_4 : decode b_Mo_go 4 = .ok (.putfield 7, 3) := by decide +kernel
theorem d_Mo_go_7 : decode b_Mo_go 7 = .ok (.iconst 0, 1) := by decide +kernel
theorem d_Mo_go_8 : decode b_Mo_go 8 = .ok (.istore_n 2, 1) := by decide +kernel
theorem d_Mo_go_9 : decode b_Mo_go 9 = .ok (.iload_n 2, 1) := by decide +kernel
theorem d_Mo_go_10 : decode b_Mo_go 10 = .ok (.aload_n 0, 1) := by decide +kernel
theorem d_Mo_go_11 : decode b_Mo_go 11 = .ok (.getfield 29, 3) := by decide +kernel
theorem d_Mo_go_14 : decode b_Mo_go 14 = .ok (.if_icmp .ge 135, 3) := by decide +kernel
theorem d_Mo_go_17 : decode b_Mo_go 17 = .ok (.aload_n 0, 1) := by decide +kernel
theorem d_Mo_go_18 : decode b_Mo_go 18 = .ok (.getfield 7, 3) := by decide +kernel
theorem d_Mo_go_21 : decode b_Mo_go 21 = .ok (.ifCond .ne 128, 3) := by decide +kernel
theorem d_Mo_go_24 : decode b_Mo_go 24 = .ok (.iconst 0, 1) := by decide +kernel
theorem d_Mo_go_25 : decode b_Mo_go 25 = .ok (.istore_n 3, 1) := by decide +kernel
theorem d_Mo_go_26 : decode b_Mo_go 26 = .ok (.iload_n 3, 1) := by decide +kernel
theorem d_Mo_go_27 : decode b_Mo_go 27 = .ok (.aload_n 0, 1) := by decide +kernel
theorem d_Mo_go_28 : decode b_Mo_go 28 = .ok (.iload_n 2, 1) := by decide +kernel
theorem d_Mo_go_29 : decode b_Mo_go 29 = .ok (.invokevirtual 56, 3) := by decide +kernel
theorem d_Mo_go_32 : decode b_Mo_go 32 = .ok (.if_icmp .ge 108, 3) := by decide +kernel
theorem d_Mo_go_35 : decode b_Mo_go 35 = .ok (.aload_n 0, 1) := by decide +kernel
theorem d_Mo_go_36 : decode b_Mo_go 36 = .ok (.getfield 7, 3) := by decide +kernel
theorem d_Mo_go_39 : decode b_Mo_go 39 = .ok (.ifCond .ne 101, 3) := by decide +kernel
theorem d_Mo_go_42 : decode b_Mo_go 42 = .ok (.aload_n 0, 1) := by decide +kernel
theorem d_Mo_go_43 : decode b_Mo_go 43 = .ok (.getfield 26, 3) := by decide +kernel
theorem d_Mo_go_46 : decode b_Mo_go 46 = .ok (.iload_n 2, 1) := by decide +kernel
theorem d_Mo_go_47 : decode b_Mo_go 47 = .ok (.iaload, 1) := by decide +kernel
theorem d_Mo_go_48 : decode b_Mo_go 48 = .ok (.iconst 1, 1) := by decide +kernel
theorem d_Mo_go_49 : decode b_Mo_go 49 = .ok (.if_icmp .ne 15, 3) := by decide +kernel
theorem d_Mo_go_52 : decode b_Mo_go 52 = .ok (.aload_n 0, 1) := by decide +kernel
theorem d_Mo_go_53 : decode b_Mo_go 53 = .ok (.iload_n 2, 1) := by decide +kernel
theorem d_Mo_go_54 : decode b_Mo_go 54 = .ok (.iconst 1, 1) := by decide +kernel
theorem d_Mo_go_55 : decode b_Mo_go 55 = .ok (.iadd, 1) := by decide +kernel
theorem d_Mo_go_56 : decode b_Mo_go 56 = .ok (.invokevirtual 45, 3) := by decide +kernel
theorem d_Mo_go_59 : decode b_Mo_go 59 = .ok (.iload_n 3, 1) := by decide +kernel
theorem d_Mo_go_60 : decode b_Mo_go 60 = .ok (.iadd, 1) := by decide +kernel
theorem d_Mo_go_61 : decode b_Mo_go 61 = .ok (.goto 8, 3) := by decide +kernel
theorem d_Mo_go_64 : decode b_Mo_go 64 = .ok (.iload_n 2, 1) := by decide +kernel
theorem d_Mo_go_65 : decode b_Mo_go 65 = .ok (.iconst 3, 1) := by decide +kernel
theorem d_Mo_go_66 : decode b_Mo_go 66 = .ok (.iadd, 1) := by decide +kernel
theorem d_Mo_go_67 : decode b_Mo_go 67 = .ok (.iload_n 3, 1) := by decide +kernel
theorem d_Mo_go_68 : decode b_Mo_go 68 = .ok (.iadd, 1) := by decide +kernel
theorem d_Mo_go_69 : decode b_Mo_go 69 = .ok (.istore 4, 2) := by decide +kernel
theorem d_Mo_go_71 : decode b_Mo_go 71 = .ok (.aload_n 0, 1) := by decide +kernel
theorem d_Mo_go_72 : decode b_Mo_go 72 = .ok (.getfield 26, 3) := by decide +kernel
theorem d_Mo_go_75 : decode b_Mo_go 75 = .ok (.iload_n 2, 1) := by decide +kernel
theorem d_Mo_go_76 : decode b_Mo_go 76 = .ok (.iaload, 1) := by decide +kernel
theorem d_Mo_go_77 : decode b_Mo_go 77 = .ok (.iconst 1, 1) := by decide +kernel
theorem d_Mo_go_78 : decode b_Mo_go 78 = .ok (.if_icmp .ne 20, 3) := by decide +kernel
theorem d_Mo_go_81 : decode b_Mo_go 81 = .ok (.iload 4, 2) := by decide +kernel
theorem d_Mo_go_83 : decode b_Mo_go 83 = .ok (.aload_n 0, 1) := by decide +kernel
theorem d_Mo_go_84 : decode b_Mo_go 84 = .ok (.getfield 17, 3) := by decide +kernel
theorem d_Mo_go_87 : decode b_Mo_go 87 = .ok (.if_icmp .lt 11, 3) := by decide +kernel
theorem d_Mo_go_90 : decode b_Mo_go 90 = .ok (.aload_n 0, 1) := by decide +kernel
theorem d_Mo_go_91 : decode b_Mo_go 91 = .ok (.iconst 1, 1) := by decide +kernel
theorem d_Mo_go_92 : decode b_Mo_go 92 = .ok (.putfield 7, 3) := by decide +kernel
theorem d_Mo_go_95 : decode b_Mo_go 95 = .ok (.goto 39, 3) := by decide +kernel
theorem d_Mo_go_98 : decode b_Mo_go 98 = .ok (.aload_n 0, 1) := by decide +kernel
theorem d_Mo_go_99 : decode b_Mo_go 99 = .ok (.getfield 38, 3) := by decide +kernel
theorem d_Mo_go_102 : decode b_Mo_go 102 = .ok (.iload_n 1, 1) := by decide +kernel
theorem d_Mo_go_103 : decode b_Mo_go 103 = .ok (.aload_n 0, 1) := by decide +kernel
theorem d_Mo_go_104 : decode b_Mo_go 104 = .ok (.getfield 26, 3) := by decide +kernel
theorem d_Mo_go_107 : decode b_Mo_go 107 = .ok (.iload_n 2, 1) := by decide +kernel
theorem d_Mo_go_108 : decode b_Mo_go 108 = .ok (.iaload, 1) := by decide +kernel
theorem d_Mo_go_109 : decode b_Mo_go 109 = .ok (.iconst 1, 1) := by decide +kernel
theorem d_Mo_go_110 : decode b_Mo_go 110 = .ok (.if_icmp .ne 13, 3) := by decide +kernel
theorem d_Mo_go_113 : decode b_Mo_go 113 = .ok (.aload_n 0, 1) := by decide +kernel
theorem d_Mo_go_114 : decode b_Mo_go 114 = .ok (.getfield 13, 3) := by decide +kernel
theorem d_Mo_go_117 : decode b_Mo_go 117 = .ok (.iload 4, 2) := by decide +kernel
theorem d_Mo_go_119 : decode b_Mo_go 119 = .ok (.iaload, 1) := by decide +kernel
theorem d_Mo_go_120 : decode b_Mo_go 120 = .ok (.goto 10, 3) := by decide +kernel
theorem d_Mo_go_123 : decode b_Mo_go 123 = .ok (.aload_n 0, 1) := by decide +kernel
theorem d_Mo_go_124 : decode b_Mo_go 124 = .ok (.getfield 26, 3) := by decide +kernel
theorem d_Mo_go_127 : decode b_Mo_go 127 = .ok (.iload 4, 2) := by decide +kernel
theorem d_Mo_go_129 : decode b_Mo_go 129 = .ok (.iaload, 1) := by decide +kernel
theorem d_Mo_go_130 : decode b_Mo_go 130 = .ok (.iastore, 1) := by decide +kernel
theorem d_Mo_go_131 : decode b_Mo_go 131 = .ok (.iinc 1 1, 3) := by decide +kernel
theorem d_Mo_go_134 : decode b_Mo_go 134 = .ok (.iinc 3 1, 3) := by decide +kernel
theorem d_Mo_go_137 : decode b_Mo_go 137 = .ok (.goto (-111), 3) := by decide +kernel
theorem d_Mo_go_140 : decode b_Mo_go 140 = .ok (.aload_n 0, 1) := by decide +kernel
theorem d_Mo_go_141 : decode b_Mo_go 141 = .ok (.iload_n 2, 1) := by decide +kernel
theorem d_Mo_go_142 : decode b_Mo_go 142 = .ok (.invokevirtual 59, 3) := by decide +kernel
theorem d_Mo_go_145 : decode b_Mo_go 145 = .ok (.istore_n 2, 1) := by decide +kernel
theorem d_Mo_go_146 : decode b_Mo_go 146 = .ok (.goto (-137), 3) := by decide +kernel
theorem d_Mo_go_149 : decode b_Mo_go 149 = .ok (.aload_n 0, 1) := by decide +kernel
theorem d_Mo_go_150 : decode b_Mo_go 150 = .ok (.getfield 7, 3) := by decide +kernel
theorem d_Mo_go_153 : decode b_Mo_go 153 = .ok (.ifCond .eq 5, 3) := by decide +kernel
theorem d_Mo_go_156 : decode b_Mo_go 156 = .ok (.iconst 0, 1) := by decide +kernel
theorem d_Mo_go_157 : decode b_Mo_go 157 = .ok (.ireturn, 1) := by decide +kernel
theorem d_Mo_go_158 : decode b_Mo_go 158 = .ok (.iconst 0, 1) := by decide +kernel
theorem d_Mo_go_159 : decode b_Mo_go 159 = .ok (.istore_n 2, 1) := by decide +kernel
theorem d_Mo_go_160 : decode b_Mo_go 160 = .ok (.iload_n 2, 1) := by decide +kernel
theorem d_Mo_go_161 : decode b_Mo_go 161 = .ok (.iload_n 1, 1) := by decide +kernel
theorem d_Mo_go_162 : decode b_Mo_go 162 = .ok (.if_icmp .ge 21, 3) := by decide +kernel
theorem d_Mo_go_165 : decode b_Mo_go 165 = .ok (.aload_n 0, 1) := by decide +kernel
theorem d_Mo_go_166 : decode b_Mo_go 166 = .ok (.getfield 32, 3) := by decide +kernel
theorem d_Mo_go_169 : decode b_Mo_go 169 = .ok (.iload_n 2, 1) := by decide +kernel
theorem d_Mo_go_170 : decode b_Mo_go 170 = .ok (.aload_n 0, 1) := by decide +kernel
theorem d_Mo_go_171 : decode b_Mo_go 171 = .ok (.getfield 38, 3) := by decide +kernel
theorem d_Mo_go_174 : decode b_Mo_go 174 = .ok (.iload_n 2, 1) := by decide +kernel
theorem d_Mo_go_175 : decode b_Mo_go 175 = .ok (.iaload, 1) := by decide +kernel
theorem d_Mo_go_176 : decode b_Mo_go 176 = .ok (.iastore, 1) := by decide +kernel
theorem d_Mo_go_177 : decode b_Mo_go 177 = .ok (.iinc 2 1, 3) := by decide +kernel
theorem d_Mo_go_180 : decode b_Mo_go 180 = .ok (.goto (-20), 3) := by decide +kernel
theorem d_Mo_go_183 : decode b_Mo_go 183 = .ok (.aload_n 0, 1) := by decide +kernel
theorem d_Mo_go_184 : decode b_Mo_go 184 = .ok (.iload_n 1, 1) := by decide +kernel
theorem d_Mo_go_185 : decode b_Mo_go 185 = .ok (.putfield 35, 3) := by decide +kernel
theorem d_Mo_go_188 : decode b_Mo_go 188 = .ok (.iload_n 1, 1) := by decide +kernel
theorem d_Mo_go_189 : decode b_Mo_go 189 = .ok (.ireturn, 1) := by decide +kernel
theorem d_Mo_result_0 : decode b_Mo_result 0 = .ok (.aload_n 0, 1) := by decide +kernel
theorem d_Mo_result_1 : decode b_Mo_result 1 = .ok (.iconst 0, 1) := by decide +kernel
theorem d_Mo_result_2 : decode b_Mo_result 2 = .ok (.putfield 7, 3) := by decide +kernel
theorem d_Mo_result_5 : decode b_Mo_result 5 = .ok (.iload_n 1, 1) := by decide +kernel
theorem d_Mo_result_6 : decode b_Mo_result 6 = .ok (.ifCond .lt 11, 3) := by decide +kernel
theorem d_Mo_result_9 : decode b_Mo_result 9 = .ok (.iload_n 1, 1) := by decide +kernel
theorem d_Mo_result_10 : decode b_Mo_result 10 = .ok (.aload_n 0, 1) := by decide +kernel
theorem d_Mo_result_11 : decode b_Mo_result 11 = .ok (.getfield 35, 3) := by decide +kernel
theorem d_Mo_result_14 : decode b_Mo_result 14 = .ok (.if_icmp .lt 7, 3) := by decide +kernel
theorem d_Mo_result_17 : decode b_Mo_result 17 = .ok (.iconst (-1), 1) := by decide +kernel
theorem d_Mo_result_18 : decode b_Mo_result 18 = .ok (.goto 9, 3) := by decide +kernel
theorem d_Mo_result_21 : decode b_Mo_result 21 = .ok (.aload_n 0, 1) := by decide +kernel
theorem d_Mo_result_22 : decode b_Mo_result 22 = .ok (.getfield 32, 3) := by decide +kernel
theorem d_Mo_result_25 : decode b_Mo_result 25 = .ok (.iload_n 1, 1) := by decide +kernel
theorem d_Mo_result_26 : decode b_Mo_result 26 = .ok (.iaload, 1) := by decide +kernel
theorem d_Mo_result_27 : decode b_Mo_result 27 = .ok (.ireturn, 1) := by decide +kernel
theorem d_Mo_count_0 : decode b_Mo_count 0 = .ok (.aload_n 0, 1) := by decide +kernel
theorem d_Mo_count_1 : decode b_Mo_count 1 = .ok (.iconst 0, 1) := by decide +kernel
theorem d_Mo_count_2 : decode b_Mo_count 2 = .ok (.putfield 7, 3) := by decide +kernel
theorem d_Mo_count_5 : decode b_Mo_count 5 = .ok (.iload_n 1, 1) := by decide +kernel
theorem d_Mo_count_6 : decode b_Mo_count 6 = .ok (.ifCond .ne 10, 3) := by decide +kernel
theorem d_Mo_count_9 : decode b_Mo_count 9 = .ok (.aload_n 0, 1) := by decide +kernel
theorem d_Mo_count_10 : decode b_Mo_count 10 = .ok (.getfield 17, 3) := by decide +kernel
theorem d_Mo_count_13 : decode b_Mo_count 13 = .ok (.goto 28, 3) := by decide +kernel
theorem d_Mo_count_16 : decode b_Mo_count 16 = .ok (.iload_n 1, 1) := by decide +kernel
theorem d_Mo_count_17 : decode b_Mo_count 17 = .ok (.iconst 1, 1) := by decide +kernel
theorem d_Mo_count_18 : decode b_Mo_count 18 = .ok (.if_icmp .ne 10, 3) := by decide +kernel
theorem d_Mo_count_21 : decode b_Mo_count 21 = .ok (.aload_n 0, 1) := by decide +kernel
theorem d_Mo_count_22 : decode b_Mo_count 22 = .ok (.getfield 23, 3) := by decide +kernel
theorem d_Mo_count_25 : decode b_Mo_count 25 = .ok (.goto 16, 3) := by decide +kernel
theorem d_Mo_count_28 : decode b_Mo_count 28 = .ok (.iload_n 1, 1) := by decide +kernel
theorem d_Mo_count_29 : decode b_Mo_count 29 = .ok (.iconst 2, 1) := by decide +kernel
theorem d_Mo_count_30 : decode b_Mo_count 30 = .ok (.if_icmp .ne 10, 3) := by decide +kernel
theorem d_Mo_count_33 : decode b_Mo_count 33 = .ok (.aload_n 0, 1) := by decide +kernel
theorem d_Mo_count_34 : decode b_Mo_count 34 = .ok (.getfield 35, 3) := by decide +kernel
theorem d_Mo_count_37 : decode b_Mo_count 37 = .ok (.goto 4, 3) := by decide +kernel
theorem d_Mo_count_40 : decode b_Mo_count 40 = .ok (.iconst (-1), 1) := by decide +kernel
theorem d_Mo_count_41 : decode b_Mo_count 41 = .ok (.ireturn, 1) := by decide +kernel
end
section
theorem d_PW_init_0 : decode b_PW_init 0 = .ok (.aload_n 0, 1) := by decide +kernel
theorem d_PW_init_1 : decode b_PW_init 1 = .ok (.invokespecial 1, 3) := by decide +kernel
theorem d_PW_init_4 : decode b_PW_init 4 = .ok (.aload_n 0, 1) := by decide +kernel
theorem d_PW_init_5 : decode b_PW_init 5 = .ok (.sipush 600, 3) := by decide +kernel
theorem d_PW_init_8 : decode b_PW_init 8 = .ok (.newarray .byte, 2) := by decide +kernel
theorem d_PW_init_10 : decode b_PW_init 10 = .ok (.putfield 9, 3) := by decide +kernel
theorem d_PW_init_13 : decode b_PW_init 13 = .ok (.aload_n 0, 1) := by decide +kernel
theorem d_PW_init_14 : decode b_PW_init 14 = .ok (.sipush 600, 3) := by decide +kernel
theorem d_PW_init_17 : decode b_PW_init 17 = .ok (.newarray .byte, 2) := by decide +kernel
theorem d_PW_init_19 : decode b_PW_init 19 = .ok (.putfield 13, 3) := by decide +kernel
theorem d_PW_init_22 : decode b_PW_init 22 = .ok (.aload_n 0, 1) := by decide +kernel
theorem d_PW_init_23 : decode b_PW_init 23 = .ok (.sipush 600, 3) := by decide +kernel
theorem d_PW_init_26 : decode b_PW_init 26 = .ok (.newarray .byte, 2) := by decide +kernel
theorem d_PW_init_28 : decode b_PW_init 28 = .ok (.putfield 16, 3) := by decide +kernel
theorem d_PW_init_31 : decode b_PW_init 31 = .ok (.aload_n 0, 1) := by decide +kernel
theorem d_PW_init_32 : decode b_PW_init 32 = .ok (.new 19, 3) := by decide +kernel
theorem d_PW_init_35 : decode b_PW_init 35 = .ok (.dup, 1) := by decide +kernel
theorem d_PW_init_36 : decode b_PW_init 36 = .ok (.invokespecial 21, 3) := by decide +kernel
theorem d_PW_init_39 : decode b_PW_init 39 = .ok (.putfield 22, 3) := by decide +kernel
theorem d_PW_init_42 : decode b_PW_init 42 = .ok (.return_, 1) := by decide +kernel
theorem d_PW_put_0 : decode b_PW_put 0 = .ok (.iload_n 1, 1) := by decide +kernel
theorem d_PW_put_1 : decode b_PW_put 1 = .ok (.ifCond .eq 10, 3) := by decide +kernel
theorem d_PW_put_4 : decode b_PW_put 4 = .ok (.aload_n 0, 1) := by decide +kernel
theorem d_PW_put_5 : decode b_PW_put 5 = .ok (.getfield 26, 3) := by decide +kernel
theorem d_PW_put_8 : decode b_PW_put 8 = .ok (.goto 7, 3) := by decide +kernel
theorem d_PW_put_11 : decode b_PW_put 11 = .ok (.aload_n 0, 1) := by decide +kernel
theorem d_PW_put_12 : decode b_PW_put 12 = .ok (.getfield 30, 3) := by decide +kernel
theorem d_PW_put_15 : decode b_PW_put 15 = .ok (.istore 5, 2) := by decide +kernel
theorem d_PW_put_17 : decode b_PW_put 17 = .ok (.iload 4, 2) := by decide +kernel
theorem d_PW_put_19 : decode b_PW_put 19 = .ok (.ifCond .lt 21, 3) := by decide +kernel
theorem d_PW_put_22 : decode b_PW_put 22 = .ok (.iload 4, 2) := by decide +kernel
theorem d_PW_put_24 : decode b_PW_put 24 = .ok (.bipush 8, 2) := by decide +kernel
theorem d_PW_put_26 : decode b_PW_put 26 = .ok (.if_icmp .gt 14, 3) := by decide +kernel
theorem d_PW_put_29 : decode b_PW_put 29 = .ok (.iload 5, 2) := by decide +kernel
theorem d_PW_put_31 : decode b_PW_put 31 = .ok (.iload 4, 2) := by decide +kernel
theorem d_PW_put_33 : decode b_PW_put 33 = .ok (.iadd, 1) := by decide +kernel
theorem d_PW_put_34 : decode b_PW_put 34 = .ok (.sipush 600, 3) := by decide +kernel
theorem d_PW_put_37 : decode b_PW_put 37 = .ok (.if_icmp .le 5, 3) := by decide +kernel
theorem d_PW_put_40 : decode b_PW_put 40 = .ok (.iconst 0, 1) := by decide +kernel
theorem d_PW_put_41 : decode b_PW_put 41 = .ok (.ireturn, 1) := by decide +kernel
theorem d_PW_put_42 : decode b_PW_put 42 = .ok (.iload_n 1, 1) := by decide +kernel
theorem d_PW_put_43 : decode b_PW_put 43 = .ok (.ifCond .eq 10, 3) := by decide +kernel
theorem d_PW_put_46 : decode b_PW_put 46 = .ok (.aload_n 0, 1) := by decide +kernel
theorem d_PW_put_47 : decode b_PW_put 47 = .ok (.getfield 13, 3) := by decide +kernel
theorem d_PW_put_50 : decode b_PW_put 50 = .ok (.goto 7, 3) := by decide +kernel
theorem d_PW_put_53 : decode b_PW_put 53 = .ok (.aload_n 0, 1) := by decide +kernel
theorem d_PW_put_54 : decode b_PW_put 54 = .ok (.getfield 9, 3) := by decide +kernel
theorem d_PW_put_57 : decode b_PW_put 57 = .ok (.astore 6, 2) := by decide +kernel
theorem d_PW_put_59 : decode b_PW_put 59 = .ok (.iconst 0, 1) := by decide +kernel
theorem d_PW_put_60 : decode b_PW_put 60 = .ok (.istore 7, 2) := by decide +kernel
theorem d_PW_put_62 : decode b_PW_put 62 = .ok (.iload 7, 2) := by decide +kernel
theorem d_PW_put_64 : decode b_PW_put 64 = .ok (.iload 4, 2) := by decide +kernel
theorem d_PW_put_66 : decode b_PW_put 66 = .ok (.if_icmp .ge 31, 3) := by decide +kernel
theorem d_PW_put_69 : decode b_PW_put 69 = .ok (.aload 6, 2) := by decide +kernel
theorem d_PW_put_71 : decode b_PW_put 71 = .ok (.iload 5, 2) := by decide +kernel
theorem d_PW_put_73 : decode b_PW_put 73 = .ok (.iload 7, 2) := by decide +kernel
theorem d_PW_put_75 : decode b_PW_put 75 = .ok (.iadd, 1) := by decide +kernel
theorem d_PW_put_76 : decode b_PW_put 76 = .ok (.lload_n 2, 1) := by decide +kernel
theorem d_PW_put_77 : decode b_PW_put 77 = .ok (.bipush 8, 2) := by decide +kernel
theorem d_PW_put_79 : decode b_PW_put 79 = .ok (.iload 4, 2) := by decide +kernel
theorem d_PW_put_81 : decode b_PW_put 81 = .ok (.iconst 1, 1) := by decide +kernel
theorem d_PW_put_82 : decode b_PW_put 82 = .ok (.isub, 1) := by decide +kernel
theorem d_PW_put_83 : decode b_PW_put 83 = .ok (.iload 7, 2) := by decide +kernel
theorem d_PW_put_85 : decode b_PW_put 85 = .ok (.isub, 1) := by decide +kernel
theorem d_PW_put_86 : decode b_PW_put 86 = .ok (.imul, 1) := by decide +kernel
theorem d_PW_put_87 : decode b_PW_put 87 = .ok (.lshr, 1) := by decide +kernel
theorem d_PW_put_88 : decode b_PW_put 88 = .ok (.l2i, 1) := by decide +kernel
theorem d_PW_put_89 : decode b_PW_put 89 = .ok (.i2b, 1) := by decide +kernel
theorem d_PW_put_90 : decode b_PW_put 90 = .ok (.bastore, 1) := by decide +kernel
theorem d_PW_put_91 : decode b_PW_put 91 = .ok (.iinc 7 1, 3) := by decide +kernel
theorem d_PW_put_94 : decode b_PW_put 94 = .ok (.goto (-32), 3) := by decide +kernel
theorem d_PW_put_97 : decode b_PW_put 97 = .ok (.iload_n 1, 1) := by decide +kernel
theorem d_PW_put_98 : decode b_PW_put 98 = .ok (.ifCond .eq 17, 3) := by decide +kernel
theorem d_PW_put_101 : decode b_PW_put 101 = .ok (.aload_n 0, 1) := by decide +kernel
theorem d_PW_put_102 : decode b_PW_put 102 = .ok (.dup, 1) := by decide +kernel
theorem d_PW_put_103 : decode b_PW_put 103 = .ok (.getfield 26, 3) := by decide +kernel
theorem d_PW_put_106 : decode b_PW_put 106 = .ok (.iload 4, 2) := by decide +kernel
theorem d_PW_put_108 : decode b_PW_put 108 = .ok (.iadd, 1) := by decide +kernel
theorem d_PW_put_109 : decode b_PW_put 109 = .ok (.putfield 26, 3) := by decide +kernel
theorem d_PW_put_112 : decode b_PW_put 112 = .ok (.goto 14, 3) := by decide +kernel
theorem d_PW_put_115 : decode b_PW_put 115 = .ok (.aload_n 0, 1) := by decide +kernel
theorem d_PW_put_116 : decode b_PW_put 116 = .ok (.dup, 1) := by decide +kernel
theorem d_PW_put_117 : decode b_PW_put 117 = .ok (.getfield 30, 3) := by decide +kernel
theorem d_PW_put_120 : decode b_PW_put 120 = .ok (.iload 4, 2) := by decide +kernel
theorem d_PW_put_122 : decode b_PW_put 122 = .ok (.iadd, 1) := by decide +kernel
theorem d_PW_put_123 : decode b_PW_put 123 = .ok (.putfield 30, 3) := by decide +kernel
theorem d_PW_put_126 : decode b_PW_put 126 = .ok (.iconst 1, 1) := by decide +kernel
theorem d_PW_put_127 : decode b_PW_put 127 = .ok (.ireturn, 1) := by decide +kernel
theorem d_PW_clear_0 : decode b_PW_clear 0 = .ok (.iload_n 1, 1) := by decide +kernel
theorem d_PW_clear_1 : decode b_PW_clear 1 = .ok (.ifCond .eq 11, 3) := by decide +kernel
theorem d_PW_clear_4 : decode b_PW_clear 4 = .ok (.aload_n 0, 1) := by decide +kernel
theorem d_PW_clear_5 : decode b_PW_clear 5 = .ok (.iconst 0, 1) := by decide +kernel
theorem d_PW_clear_6 : decode b_PW_clear 6 = .ok (.putfield 26, 3) := by decide +kernel
theorem d_PW_clear_9 : decode b_PW_clear 9 = .ok (.goto 8, 3) := by decide +kernel
theorem d_PW_clear_12 : decode b_PW_clear 12 = .ok (.aload_n 0, 1) := by decide +kernel
theorem d_PW_clear_13 : decode b_PW_clear 13 = .ok (.iconst 0, 1) := by decide +kernel
theorem d_PW_clear_14 : decode b_PW_clear 14 = .ok (.putfield 30, 3) := by decide +kernel
theorem d_PW_clear_17 : decode b_PW_clear 17 = .ok (.return_, 1) := by decide +kernel
theorem d_PW_isCopy_0 : decode b_PW_isCopy 0 = .ok (.aload_n 0, 1) := by decide +kernel
theorem d_PW_isCopy_1 : decode b_PW_isCopy 1 = .ok (.getfield 22, 3) := by decide +kernel
theorem d_PW_isCopy_4 : decode b_PW_isCopy 4 = .ok (.invokevirtual 33, 3) := by decide +kernel
theorem d_PW_isCopy_7 : decode b_PW_isCopy 7 = .ok (.iload_n 1, 1) := by decide +kernel
theorem d_PW_isCopy_8 : decode b_PW_isCopy 8 = .ok (.baload, 1) := by decide +kernel
theorem d_PW_isCopy_9 : decode b_PW_isCopy 9 = .ok (.iconst 1, 1) := by decide +kernel
theorem d_PW_isCopy_10 : decode b_PW_isCopy 10 = .ok (.if_icmp .ne 7, 3) := by decide +kernel
theorem d_PW_isCopy_13 : decode b_PW_isCopy 13 = .ok (.iconst 1, 1) := by decide +kernel
theorem d_PW_isCopy_14 : decode b_PW_isCopy 14 = .ok (.goto 4, 3) := by decide +kernel
theorem d_PW_isCopy_17 : decode b_PW_isCopy 17 = .ok (.iconst 0, 1) := by decide +kernel
theorem d_PW_isCopy_18 : decode b_PW_isCopy 18 = .ok (.ireturn, 1) := by decide +kernel
theorem d_PW_many_0 : decode b_PW_many 0 = .ok (.aload_n 0, 1) := by decide +kernel
theorem d_PW_many_1 : decode b_PW_many 1 = .ok (.getfield 22, 3) := by decide +kernel
theorem d_PW_many_4 : decode b_PW_many 4 = .ok (.invokevirtual 33, 3) := by decide +kernel
theorem d_PW_many_7 : decode b_PW_many 7 = .ok (.aload_n 0, 1) := by decide +kernel
theorem d_PW_many_8 : decode b_PW_many 8 = .ok (.iload_n 1, 1) := by decide +kernel
theorem d_PW_many_9 : decode b_PW_many 9 = .ok (.invokevirtual 37, 3) := by decide +kernel
theorem d_PW_many_12 : decode b_PW_many 12 = .ok (.ifCond .eq 9, 3) := by decide +kernel
theorem d_PW_many_15 : decode b_PW_many 15 = .ok (.iload_n 1, 1) := by decide +kernel
theorem d_PW_many_16 : decode b_PW_many 16 = .ok (.iconst 3, 1) := by decide +kernel
theorem d_PW_many_17 : decode b_PW_many 17 = .ok (.iadd, 1) := by decide +kernel
theorem d_PW_many_18 : decode b_PW_many 18 = .ok (.goto 6, 3) := by decide +kernel
theorem d_PW_many_21 : decode b_PW_many 21 = .ok (.iload_n 1, 1) := by decide +kernel
theorem d_PW_many_22 : decode b_PW_many 22 = .ok (.iconst 1, 1) := by decide +kernel
theorem d_PW_many_23 : decode b_PW_many 23 = .ok (.iadd, 1) := by decide +kernel
theorem d_PW_many_24 : decode b_PW_many 24 = .ok (.invokestatic 41, 3) := by decide +kernel
theorem d_PW_many_27 : decode b_PW_many 27 = .ok (.ireturn, 1) := by decide +kernel
theorem d_PW_next_0 : decode b_PW_next 0 = .ok (.aload_n 0, 1) := by decide +kernel
theorem d_PW_next_1 : decode b_PW_next 1 = .ok (.iload_n 1, 1) := by decide +kernel
theorem d_PW_next_2 : decode b_PW_next 2 = .ok (.invokevirtual 37, 3) := by decide +kernel
theorem d_PW_next_5 : decode b_PW_next 5 = .ok (.ifCond .eq 9, 3) := by decide +kernel
theorem d_PW_next_8 : decode b_PW_next 8 = .ok (.iload_n 1, 1) := by decide +kernel
theorem d_PW_next_9 : decode b_PW_next 9 = .ok (.iconst 5, 1) := by decide +kernel
theorem d_PW_next_10 : decode b_PW_next 10 = .ok (.iadd, 1) := by decide +kernel
theorem d_PW_next_11 : decode b_PW_next 11 = .ok (.goto 12, 3) := by decide +kernel
theorem d_PW_next_14 : decode b_PW_next 14 = .ok (.iload_n 1, 1) := by decide +kernel
theorem d_PW_next_15 : decode b_PW_next 15 = .ok (.iconst 3, 1) := by decide +kernel
theorem d_PW_next_16 : decode b_PW_next 16 = .ok (.iadd, 1) := by decide +kernel
theorem d_PW_next_17 : decode b_PW_next 17 = .ok (.aload_n 0, 1) := by decide +kernel
theorem d_PW_next_18 : decode b_PW_next 18 = .ok (.iload_n 1, 1) := by decide +kernel
theorem d_PW_next_19 : decode b_PW_next 19 = .ok (.invokevirtual 45, 3) := by decide +kernel
theorem d_PW_next_22 : decode b_PW_next 22 = .ok (.iadd, 1) := by decide +kernel
theorem d_PW_next_23 : decode b_PW_next 23 = .ok (.ireturn, 1) := by decide +kernel
theorem d_PW_make_0 : decode b_PW_make 0 = .ok (.aload_n 0, 1) := by decide +kernel
theorem d_PW_make_1 : decode b_PW_make 1 = .ok (.getfield 22, 3) := by decide +kernel
theorem d_PW_make_4 : decode b_PW_make 4 = .ok (.aload_n 0, 1) := by decide +kernel
theorem d_PW_make_5 : decode b_PW_make 5 = .ok (.getfield 9, 3) := by decide +kernel
theorem d_PW_make_8 : decode b_PW_make 8 = .ok (.aload_n 0, 1) := by decide +kernel
theorem d_PW_make_9 : decode b_PW_make 9 = .ok (.getfield 30, 3) := by decide +kernel
theorem d_PW_make_12 : decode b_PW_make 12 = .ok (.aload_n 0, 1) := by decide +kernel
theorem d_PW_make_13 : decode b_PW_make 13 = .ok (.getfield 13, 3) := by decide +kernel
theorem d_PW_make_16 : decode b_PW_make 16 = .ok (.aload_n 0, 1) := by decide +kernel
theorem d_PW_make_17 : decode b_PW_make 17 = .ok (.getfield 26, 3) := by decide +kernel
theorem d_PW_make_20 : decode b_PW_make 20 = .ok (.invokevirtual 49, 3) := by decide +kernel
theorem d_PW_make_23 : decode b_PW_make 23 = .ok (.aload_n 0, 1) := by decide +kernel
theorem d_PW_make_24 : decode b_PW_make 24 = .ok (.iconst 0, 1) := by decide +kernel
theorem d_PW_make_25 : decode b_PW_make 25 = .ok (.putfield 53, 3) := by decide +kernel
theorem d_PW_make_28 : decode b_PW_make 28 = .ok (.iconst 0, 1) := by decide +kernel
theorem d_PW_make_29 : decode b_PW_make 29 = .ok (.istore_n 1, 1) := by decide +kernel
theorem d_PW_make_30 : decode b_PW_make 30 = .ok (.iload_n 1, 1) := by decide +kernel
theorem d_PW_make_31 : decode b_PW_make 31 = .ok (.aload_n 0, 1) := by decide +kernel
theorem d_PW_make_32 : decode b_PW_make 32 = .ok (.getfield 22, 3) := by decide +kernel
theorem d_PW_make_35 : decode b_PW_make 35 = .ok (.invokevirtual 56, 3) := by decide +kernel
theorem d_PW_make_38 : decode b_PW_make 38 = .ok (.if_icmp .ge 22, 3) := by decide +kernel
theorem d_PW_make_41 : decode b_PW_make 41 = .ok (.aload_n 0, 1) := by decide +kernel
theorem d_PW_make_42 : decode b_PW_make 42 = .ok (.dup, 1) := by decide +kernel
theorem d_PW_make_43 : decode b_PW_make 43 = .ok (.getfield 53, 3) := by decide +kernel
theorem d_PW_make_46 : decode b_PW_make 46 = .ok (.iconst 1, 1) := by decide +kernel
theorem d_PW_make_47 : decode b_PW_make 47 = .ok (.iadd, 1) := by decide +kernel
theorem d_PW_make_48 : decode b_PW_make 48 = .ok (.putfield 53, 3) := by decide +kernel
theorem d_PW_make_51 : decode b_PW_make 51 = .ok (.aload_n 0, 1) := by decide +kernel
theorem d_PW_make_52 : decode b_PW_make 52 = .ok (.iload_n 1, 1) := by decide +kernel
theorem d_PW_make_53 : decode b_PW_make 53 = .ok (.invokevirtual 60, 3) := by decide +kernel
theorem d_PW_make_56 : decode b_PW_make 56 = .ok (.istore_n 1, 1) := by decide +kernel
theorem d_PW_make_57 : decode b_PW_make 57 = .ok (.goto (-27), 3) := by decide +kernel
theorem d_PW_make_60 : decode b_PW_make 60 = .ok (.aload_n 0, 1) := by decide +kernel
theorem d_PW_make_61 : decode b_PW_make 61 = .ok (.getfield 53, 3) := by decide +kernel
theorem d_PW_make_64 : decode b_PW_make 64 = .ok (.ireturn, 1) := by decide +kernel
theorem d_PW_piece_0 : decode b_PW_piece 0 = .ok (.iload_n 1, 1) := by decide +kernel
theorem d_PW_piece_1 : decode b_PW_piece 1 = .ok (.ifCond .lt 11, 3) := by decide +kernel
theorem d_PW_piece_4 : decode b_PW_piece 4 = .ok (.iload_n 1, 1) := by decide +kernel
theorem d_PW_piece_5 : decode b_PW_piece 5 = .ok (.aload_n 0, 1) := by decide +kernel
theorem d_PW_piece_6 : decode b_PW_piece 6 = .ok (.getfield 53, 3) := by decide +kernel
theorem d_PW_piece_9 : decode b_PW_piece 9 = .ok (.if_icmp .lt 5, 3) := by decide +kernel
theorem d_PW_piece_12 : decode b_PW_piece 12 = .ok (.iconst (-1), 1) := by decide +kernel
theorem d_PW_piece_13 : decode b_PW_piece 13 = .ok (.ireturn, 1) := by decide +kernel
theorem d_PW_piece_14 : decode b_PW_piece 14 = .ok (.iconst 0, 1) := by decide +kernel
theorem d_PW_piece_15 : decode b_PW_piece 15 = .ok (.istore_n 3, 1) := by decide +kernel
theorem d_PW_piece_16 : decode b_PW_piece 16 = .ok (.iconst 0, 1) := by decide +kernel
theorem d_PW_piece_17 : decode b_PW_piece 17 = .ok (.istore 4, 2) := by decide +kernel
theorem d_PW_piece_19 : decode b_PW_piece 19 = .ok (.iconst 0, 1) := by decide +kernel
theorem d_PW_piece_20 : decode b_PW_piece 20 = .ok (.istore 5, 2) := by decide +kernel
theorem d_PW_piece_22 : decode b_PW_piece 22 = .ok (.iload 5, 2) := by decide +kernel
theorem d_PW_piece_24 : decode b_PW_piece 24 = .ok (.iload_n 1, 1) := by decide +kernel
theorem d_PW_piece_25 : decode b_PW_piece 25 = .ok (.if_icmp .ge 25, 3) := by decide +kernel
theorem d_PW_piece_28 : decode b_PW_piece 28 = .ok (.iload 4, 2) := by decide +kernel
theorem d_PW_piece_30 : decode b_PW_piece 30 = .ok (.aload_n 0, 1) := by decide +kernel
theorem d_PW_piece_31 : decode b_PW_piece 31 = .ok (.iload_n 3, 1) := by decide +kernel
theorem d_PW_piece_32 : decode b_PW_piece 32 = .ok (.invokevirtual 45, 3) := by decide +kernel
theorem d_PW_piece_35 : decode b_PW_piece 35 = .ok (.iadd, 1) := by decide +kernel
theorem d_PW_piece_36 : decode b_PW_piece 36 = .ok (.istore 4, 2) := by decide +kernel
theorem d_PW_piece_38 : decode b_PW_piece 38 = .ok (.aload_n 0, 1) := by decide +kernel
theorem d_PW_piece_39 : decode b_PW_piece 39 = .ok (.iload_n 3, 1) := by decide +kernel
theorem d_PW_piece_40 : decode b_PW_piece 40 = .ok (.invokevirtual 60, 3) := by decide +kernel
theorem d_PW_piece_43 : decode b_PW_piece 43 = .ok (.istore_n 3, 1) := by decide +kernel
theorem d_PW_piece_44 : decode b_PW_piece 44 = .ok (.iinc 5 1, 3) := by decide +kernel
theorem d_PW_piece_47 : decode b_PW_piece 47 = .ok (.goto (-25), 3) := by decide +kernel
theorem d_PW_piece_50 : decode b_PW_piece 50 = .ok (.iload_n 2, 1) := by decide +kernel
theorem d_PW_piece_51 : decode b_PW_piece 51 = .ok (.tableswitch 68 0 2 #[25, 35, 62], 25) := by decide +kernel
theorem d_PW_piece_76 : decode b_PW_piece 76 = .ok (.aload_n 0, 1) := by decide +kernel
theorem d_PW_piece_77 : decode b_PW_piece 77 = .ok (.getfield 22, 3) := by decide +kernel
theorem d_PW_piece_80 : decode b_PW_piece 80 = .ok (.invokevirtual 33, 3) := by decide +kernel
theorem d_PW_piece_83 : decode b_PW_piece 83 = .ok (.iload_n 3, 1) := by decide +kernel
theorem d_PW_piece_84 : decode b_PW_piece 84 = .ok (.baload, 1) := by decide +kernel
theorem d_PW_piece_85 : decode b_PW_piece 85 = .ok (.ireturn, 1) := by decide +kernel
theorem d_PW_piece_86 : decode b_PW_piece 86 = .ok (.aload_n 0, 1) := by decide +kernel
theorem d_PW_piece_87 : decode b_PW_piece 87 = .ok (.iload_n 3, 1) := by decide +kernel
theorem d_PW_piece_88 : decode b_PW_piece 88 = .ok (.invokevirtual 37, 3) := by decide +kernel
theorem d_PW_piece_91 : decode b_PW_piece 91 = .ok (.ifCond .eq 19, 3) := by decide +kernel
theorem d_PW_piece_94 : decode b_PW_piece 94 = .ok (.aload_n 0, 1) := by decide +kernel
theorem d_PW_piece_95 : decode b_PW_piece 95 = .ok (.getfield 22, 3) := by decide +kernel
theorem d_PW_piece_98 : decode b_PW_piece 98 = .ok (.invokevirtual 33, 3) := by decide +kernel
theorem d_PW_piece_101 : decode b_PW_piece 101 = .ok (.iload_n 3, 1) := by decide +kernel
theorem d_PW_piece_102 : decode b_PW_piece 102 = .ok (.iconst 1, 1) := by decide +kernel
theorem d_PW_piece_103 : decode b_PW_piece 103 = .ok (.iadd, 1) := by decide +kernel
theorem d_PW_piece_104 : decode b_PW_piece 104 = .ok (.invokestatic 41, 3) := by decide +kernel
theorem d_PW_piece_107 : decode b_PW_piece 107 = .ok (.goto 5, 3) := by decide +kernel
theorem d_PW_piece_110 : decode b_PW_piece 110 = .ok (.iload 4, 2) := by decide +kernel
theorem d_PW_piece_112 : decode b_PW_piece 112 = .ok (.ireturn, 1) := by decide +kernel
theorem d_PW_piece_113 : decode b_PW_piece 113 = .ok (.aload_n 0, 1) := by decide +kernel
theorem d_PW_piece_114 : decode b_PW_piece 114 = .ok (.iload_n 3, 1) := by decide +kernel
theorem d_PW_piece_115 : decode b_PW_piece 115 = .ok (.invokevirtual 45, 3) := by decide +kernel
theorem d_PW_piece_118 : decode b_PW_piece 118 = .ok (.ireturn, 1) := by decide +kernel
theorem d_PW_piece_119 : decode b_PW_piece 119 = .ok (.iconst (-1), 1) := by decide +kernel
theorem d_PW_piece_120 : decode b_PW_piece 120 = .ok (.ireturn, 1) := by decide +kernel
theorem d_PW_size_0 : decode b_PW_size 0 = .ok (.aload_n 0, 1) := by decide +kernel
theorem d_PW_size_1 : decode b_PW_size 1 = .ok (.getfield 22, 3) := by decide +kernel
theorem d_PW_size_4 : decode b_PW_size 4 = .ok (.invokevirtual 56, 3) := by decide +kernel
theorem d_PW_size_7 : decode b_PW_size 7 = .ok (.ireturn, 1) := by decide +kernel
theorem d_PW_way_0 : decode b_PW_way 0 = .ok (.iload_n 1, 1) := by decide +kernel
theorem d_PW_way_1 : decode b_PW_way 1 = .ok (.ifCond .lt 14, 3) := by decide +kernel
theorem d_PW_way_4 : decode b_PW_way 4 = .ok (.iload_n 1, 1) := by decide +kernel
theorem d_PW_way_5 : decode b_PW_way 5 = .ok (.aload_n 0, 1) := by decide +kernel
theorem d_PW_way_6 : decode b_PW_way 6 = .ok (.getfield 22, 3) := by decide +kernel
theorem d_PW_way_9 : decode b_PW_way 9 = .ok (.invokevirtual 56, 3) := by decide +kernel
theorem d_PW_way_12 : decode b_PW_way 12 = .ok (.if_icmp .lt 7, 3) := by decide +kernel
theorem d_PW_way_15 : decode b_PW_way 15 = .ok (.iconst (-1), 1) := by decide +kernel
theorem d_PW_way_16 : decode b_PW_way 16 = .ok (.goto 16, 3) := by decide +kernel
theorem d_PW_way_19 : decode b_PW_way 19 = .ok (.aload_n 0, 1) := by decide +kernel
theorem d_PW_way_20 : decode b_PW_way 20 = .ok (.getfield 22, 3) := by decide +kernel
theorem d_PW_way_23 : decode b_PW_way 23 = .ok (.invokevirtual 33, 3) := by decide +kernel
theorem d_PW_way_26 : decode b_PW_way 26 = .ok (.iload_n 1, 1) := by decide +kernel
theorem d_PW_way_27 : decode b_PW_way 27 = .ok (.baload, 1) := by decide +kernel
theorem d_PW_way_28 : decode b_PW_way 28 = .ok (.sipush 255, 3) := by decide +kernel
theorem d_PW_way_31 : decode b_PW_way 31 = .ok (.iand, 1) := by decide +kernel
theorem d_PW_way_32 : decode b_PW_way 32 = .ok (.ireturn, 1) := by decide +kernel
theorem d_PW_go_0 : decode b_PW_go 0 = .ok (.iconst 0, 1) := by decide +kernel
theorem d_PW_go_1 : decode b_PW_go 1 = .ok (.istore_n 1, 1) := by decide +kernel
theorem d_PW_go_2 : decode b_PW_go 2 = .ok (.iload_n 1, 1) := by decide +kernel
theorem d_PW_go_3 : decode b_PW_go 3 = .ok (.aload_n 0, 1) := by decide +kernel
theorem d_PW_go_4 : decode b_PW_go 4 = .ok (.getfield 22, 3) := by decide +kernel
theorem d_PW_go_7 : decode b_PW_go 7 = .ok (.invokevirtual 56, 3) := by decide +kernel
theorem d_PW_go_10 : decode b_PW_go 10 = .ok (.if_icmp .ge 54, 3) := by decide +kernel
theorem d_PW_go_13 : decode b_PW_go 13 = .ok (.aload_n 0, 1) := by decide +kernel
theorem d_PW_go_14 : decode b_PW_go 14 = .ok (.iload_n 1, 1) := by decide +kernel
theorem d_PW_go_15 : decode b_PW_go 15 = .ok (.invokevirtual 37, 3) := by decide +kernel
theorem d_PW_go_18 : decode b_PW_go 18 = .ok (.ifCond .eq 37, 3) := by decide +kernel
theorem d_PW_go_21 : decode b_PW_go 21 = .ok (.aload_n 0, 1) := by decide +kernel
theorem d_PW_go_22 : decode b_PW_go 22 = .ok (.getfield 22, 3) := by decide +kernel
theorem d_PW_go_25 : decode b_PW_go 25 = .ok (.invokevirtual 33, 3) := by decide +kernel
theorem d_PW_go_28 : decode b_PW_go 28 = .ok (.iload_n 1, 1) := by decide +kernel
theorem d_PW_go_29 : decode b_PW_go 29 = .ok (.iconst 1, 1) := by decide +kernel
theorem d_PW_go_30 : decode b_PW_go 30 = .ok (.iadd, 1) := by decide +kernel
theorem d_PW_go_31 : decode b_PW_go 31 = .ok (.invokestatic 41, 3) := by decide +kernel
theorem d_PW_go_34 : decode b_PW_go 34 = .ok (.aload_n 0, 1) := by decide +kernel
theorem d_PW_go_35 : decode b_PW_go 35 = .ok (.iload_n 1, 1) := by decide +kernel
theorem d_PW_go_36 : decode b_PW_go 36 = .ok (.invokevirtual 45, 3) := by decide +kernel
theorem d_PW_go_39 : decode b_PW_go 39 = .ok (.iadd, 1) := by decide +kernel
theorem d_PW_go_40 : decode b_PW_go 40 = .ok (.aload_n 0, 1) := by decide +kernel
theorem d_PW_go_41 : decode b_PW_go 41 = .ok (.getfield 30, 3) := by decide +kernel
theorem d_PW_go_44 : decode b_PW_go 44 = .ok (.if_icmp .le 11, 3) := by decide +kernel
theorem d_PW_go_47 : decode b_PW_go 47 = .ok (.new 63, 3) := by decide +kernel
theorem d_PW_go_50 : decode b_PW_go 50 = .ok (.dup, 1) := by decide +kernel
theorem d_PW_go_51 : decode b_PW_go 51 = .ok (.invokespecial 65, 3) := by decide +kernel
theorem d_PW_go_54 : decode b_PW_go 54 = .ok (.athrow, 1) := by decide +kernel
theorem d_PW_go_55 : decode b_PW_go 55 = .ok (.aload_n 0, 1) := by decide +kernel
theorem d_PW_go_56 : decode b_PW_go 56 = .ok (.iload_n 1, 1) := by decide +kernel
theorem d_PW_go_57 : decode b_PW_go 57 = .ok (.invokevirtual 60, 3) := by decide +kernel
theorem d_PW_go_60 : decode b_PW_go 60 = .ok (.istore_n 1, 1) := by decide +kernel
theorem d_PW_go_61 : decode b_PW_go 61 = .ok (.goto (-59), 3) := by decide +kernel
theorem d_PW_go_64 : decode b_PW_go 64 = .ok (.aload_n 0, 1) := by decide +kernel
theorem d_PW_go_65 : decode b_PW_go 65 = .ok (.aload_n 0, 1) := by decide +kernel
theorem d_PW_go_66 : decode b_PW_go 66 = .ok (.getfield 22, 3) := by decide +kernel
theorem d_PW_go_69 : decode b_PW_go 69 = .ok (.invokevirtual 33, 3) := by decide +kernel
theorem d_PW_go_72 : decode b_PW_go 72 = .ok (.iconst 0, 1) := by decide +kernel
theorem d_PW_go_73 : decode b_PW_go 73 = .ok (.aload_n 0, 1) := by decide +kernel
theorem d_PW_go_74 : decode b_PW_go 74 = .ok (.getfield 22, 3) := by decide +kernel
theorem d_PW_go_77 : decode b_PW_go 77 = .ok (.invokevirtual 56, 3) := by decide +kernel
theorem d_PW_go_80 : decode b_PW_go 80 = .ok (.aload_n 0, 1) := by decide +kernel
theorem d_PW_go_81 : decode b_PW_go 81 = .ok (.getfield 9, 3) := by decide +kernel
theorem d_PW_go_84 : decode b_PW_go 84 = .ok (.aload_n 0, 1) := by decide +kernel
theorem d_PW_go_85 : decode b_PW_go 85 = .ok (.getfield 16, 3) := by decide +kernel
theorem d_PW_go_88 : decode b_PW_go 88 = .ok (.invokestatic 66, 3) := by decide +kernel
theorem d_PW_go_91 : decode b_PW_go 91 = .ok (.putfield 70, 3) := by decide +kernel
theorem d_PW_go_94 : decode b_PW_go 94 = .ok (.aload_n 0, 1) := by decide +kernel
theorem d_PW_go_95 : decode b_PW_go 95 = .ok (.getfield 70, 3) := by decide +kernel
theorem d_PW_go_98 : decode b_PW_go 98 = .ok (.ireturn, 1) := by decide +kernel
theorem d_PW_result_0 : decode b_PW_result 0 = .ok (.iload_n 1, 1) := by decide +kernel
theorem d_PW_result_1 : decode b_PW_result 1 = .ok (.ifCond .lt 11, 3) := by decide +kernel
theorem d_PW_result_4 : decode b_PW_result 4 = .ok (.iload_n 1, 1) := by decide +kernel
theorem d_PW_result_5 : decode b_PW_result 5 = .ok (.aload_n 0, 1) := by decide +kernel
theorem d_PW_result_6 : decode b_PW_result 6 = .ok (.getfield 70, 3) := by decide +kernel
theorem d_PW_result_9 : decode b_PW_result 9 = .ok (.if_icmp .lt 7, 3) := by decide +kernel
theorem d_PW_result_12 : decode b_PW_result 12 = .ok (.iconst (-1), 1) := by decide +kernel
theorem d_PW_result_13 : decode b_PW_result 13 = .ok (.goto 13, 3) := by decide +kernel
theorem d_PW_result_16 : decode b_PW_result 16 = .ok (.aload_n 0, 1) := by decide +kernel
theorem d_PW_result_17 : decode b_PW_result 17 = .ok (.getfield 16, 3) := by decide +kernel
theorem d_PW_result_20 : decode b_PW_result 20 = .ok (.iload_n 1, 1) := by decide +kernel
theorem d_PW_result_21 : decode b_PW_result 21 = .ok (.baload, 1) := by decide +kernel
theorem d_PW_result_22 : decode b_PW_result 22 = .ok (.sipush 255, 3) := by decide +kernel
theorem d_PW_result_25 : decode b_PW_result 25 = .ok (.iand, 1) := by decide +kernel
theorem d_PW_result_26 : decode b_PW_result 26 = .ok (.ireturn, 1) := by decide +kernel
theorem d_PW_count_0 : decode b_PW_count 0 = .ok (.iload_n 1, 1) := by decide +kernel
theorem d_PW_count_1 : decode b_PW_count 1 = .ok (.ifCond .ne 10, 3) := by decide +kernel
theorem d_PW_count_4 : decode b_PW_count 4 = .ok (.aload_n 0, 1) := by decide +kernel
theorem d_PW_count_5 : decode b_PW_count 5 = .ok (.getfield 30, 3) := by decide +kernel
theorem d_PW_count_8 : decode b_PW_count 8 = .ok (.goto 28, 3) := by decide +kernel
theorem d_PW_count_11 : decode b_PW_count 11 = .ok (.iload_n 1, 1) := by decide +kernel
theorem d_PW_count_12 : decode b_PW_count 12 = .ok (.iconst 1, 1) := by decide +kernel
theorem d_PW_count_13 : decode b_PW_count 13 = .ok (.if_icmp .ne 10, 3) := by decide +kernel
theorem d_PW_count_16 : decode b_PW_count 16 = .ok (.aload_n 0, 1) := by decide +kernel
theorem d_PW_count_17 : decode b_PW_count 17 = .ok (.getfield 26, 3) := by decide +kernel
theorem d_PW_count_20 : decode b_PW_count 20 = .ok (.goto 16, 3) := by decide +kernel
theorem d_PW_count_23 : decode b_PW_count 23 = .ok (.iload_n 1, 1) := by decide +kernel
theorem d_PW_count_24 : decode b_PW_count 24 = .ok (.iconst 2, 1) := by decide +kernel
theorem d_PW_count_25 : decode b_PW_count 25 = .ok (.if_icmp .ne 10, 3) := by decide +kernel
theorem d_PW_count_28 : decode b_PW_count 28 = .ok (.aload_n 0, 1) := by decide +kernel
theorem d_PW_count_29 : decode b_PW_count 29 = .ok (.getfield 70, 3) := by decide +kernel
theorem d_PW_count_32 : decode b_PW_count 32 = .ok (.goto 4, 3) := by decide +kernel
theorem d_PW_count_35 : decode b_PW_count 35 = .ok (.iconst (-1), 1) := by decide +kernel
theorem d_PW_count_36 : decode b_PW_count 36 = .ok (.ireturn, 1) := by decide +kernel
end
section
/-! numbers: a byte as a Java byte holds it; arrays of bytes and of ints as functions of naturals; a list laid into an array -/
def bI (n : Nat) : Int32 := (nI n).toInt8.toInt32
def iA (g : Nat → Nat) : Nat → Int32 := fun i => nI (g i)
def bA (g : Nat → Nat) : Nat → Int32 := fun i => bI (g i)
theorem iA_upd (g : Nat → Nat) (k v : Nat) : upd (iA g) k (nI v) = iA (va_up g k v) := by
  funext j
  by_cases h : j = k <;> simp [upd, iA, va_up, h]
theorem bA_upd (g : Nat → Nat) (k v : Nat) : upd (bA g) k (bI v) = bA (va_up g k v) := by
  funext j
  by_cases h : j = k <;> simp [upd, bA, va_up, h]
theorem bI_255 {n : Nat} (h : n < 256) : bI n &&& 255 = nI n := sc_k8 n h
theorem bI_nar (n : Nat) : (bI n).toInt8.toInt32 = bI n := pk_vb (nI n)
theorem bI_inj {a b : Nat} (ha : a < 256) (hb : b < 256) : bI a = bI b ↔ a = b := by
  constructor
  · intro h
    have h1 : nI a = nI b := by rw [← bI_255 ha, ← bI_255 hb, h]
    exact (nI_eq (by omega) (by omega)).mp h1
  · intro h; rw [h]
theorem bI_1 {a : Nat} (ha : a < 256) : bI a = nI 1 ↔ a = 1 := by
  rw [show nI 1 = bI 1 by decide +kernel]
  exact bI_inj ha (by omega)
theorem bI_m (x : Int32) : x.toInt8.toInt32 = bI (x.toBitVec.toNat % 256) := by
  have h : x.toInt8 = (nI (x.toBitVec.toNat % 256)).toInt8 := by
    apply Int8.toBitVec_inj.mp
    show x.toBitVec.signExtend 8 = (BitVec.ofNat 32 (x.toBitVec.toNat % 256)).signExtend 8
    rw [BitVec.signExtend_eq_setWidth_of_le _ (by omega), BitVec.signExtend_eq_setWidth_of_le _ (by omega)]
    apply BitVec.eq_of_toNat_eq
    simp
  rw [h]; rfl
theorem nI_b (n : Nat) (h : n < 2 ^ 32) : (nI n).toInt8.toInt32 = bI (n % 256) := by
  have := bI_m (nI n)
  rwa [pk_tn h] at this
theorem nI_or {a b : Nat} (hb : b < 256) : nI (a * 256) ||| nI b = nI (a * 256 + b) := by
  have h1 : a * 256 + b = a * 256 ||| b := by
    have := Nat.two_pow_add_eq_or_of_lt (i := 8) (b := b) (by omega) a
    rw [Nat.mul_comm a 256]; exact this
  rw [h1]
  apply Int32.toBitVec_inj.mp
  show BitVec.ofNat 32 (a * 256) ||| BitVec.ofNat 32 b = BitVec.ofNat 32 (a * 256 ||| b)
  apply BitVec.eq_of_toNat_eq
  simp [Nat.or_mod_two_pow]
theorem nI_two {a b : Nat} (ha : a < 256) (hb : b < 256) : ((bI a &&& 255) <<< (nI 8 &&& 31)) ||| (bI b &&& 255) = nI (a * 256 + b) := by
  rw [bI_255 ha, bI_255 hb, pk_shlN (nI 8 &&& 31) 8 (by decide +kernel) (by omega)]
  exact nI_or hb
theorem nI_shr8 {n : Nat} (h : n < 2 ^ 31) : nI n >>> (nI 8 &&& 31) = nI (n / 256) := pk_shrN h (nI 8 &&& 31) 8 (by decide +kernel)
theorem nI_inc1 (k : Nat) : nI k + Int32.ofInt 1 = nI (k + 1) := nI_1 k
theorem nI_inc8 (k : Nat) : nI k + Int32.ofInt 8 = nI (k + 8) := nI_add k 8
theorem nI_inc5 (k : Nat) : nI k + Int32.ofInt 5 = nI (k + 5) := nI_add k 5
theorem nI_dec1 (k : Nat) : nI k + Int32.ofInt (-1) = nI k - nI 1 := by
  rw [show Int32.ofInt (-1) = -(nI 1) by decide +kernel, Int32.sub_eq_add_neg]
theorem nI_m1lt : nI 0 - nI 1 < 0 := by decide +kernel
/-- a list laid into an array from a place on -/
def spl (g : Nat → Nat) (a : Nat) (l : List Nat) : Nat → Nat := fun i => if a ≤ i ∧ i < a + l.length then l.getD (i - a) 0 else g i
theorem spl_nil (g : Nat → Nat) (a : Nat) : spl g a [] = g := by
  funext i
  simp only [spl, List.length_nil]
  rw [if_neg (by omega)]
theorem spl_in {g : Nat → Nat} {a : Nat} {l : List Nat} {j : Nat} (h : j < l.length) : spl g a l (a + j) = l.getD j 0 := by
  simp only [spl]
  rw [if_pos (by omega)]
  congr 1; omega
theorem spl_0 {g : Nat → Nat} {l : List Nat} {j : Nat} (h : j < l.length) : spl g 0 l j = l.getD j 0 := by
  have := spl_in (g := g) (a := 0) h
  rwa [Nat.zero_add] at this
theorem spl_out {g : Nat → Nat} {a : Nat} {l : List Nat} {i : Nat} (h : i < a ∨ a + l.length ≤ i) : spl g a l i = g i := by
  simp only [spl]
  rw [if_neg (by omega)]
theorem spl_app (g : Nat → Nat) (a : Nat) (l k : List Nat) : spl (spl g a l) (a + l.length) k = spl g a (l ++ k) := by
  funext i
  by_cases h1 : i < a
  · rw [spl_out (Or.inl (by omega)), spl_out (Or.inl h1), spl_out (Or.inl h1)]
  · by_cases h2 : i < a + l.length
    · obtain ⟨j, rfl⟩ : ∃ j, i = a + j := ⟨i - a, by omega⟩
      rw [spl_out (Or.inl h2), spl_in (by omega), spl_in (by simp; omega)]
      simp [List.getD_eq_getElem?_getD, List.getElem?_append_left (show j < l.length by omega)]
    · by_cases h3 : i < a + l.length + k.length
      · obtain ⟨j, rfl⟩ : ∃ j, i = a + l.length + j := ⟨i - (a + l.length), by omega⟩
        rw [spl_in (by omega), Nat.add_assoc, spl_in (by simp; omega)]
        simp [List.getD_eq_getElem?_getD, List.getElem?_append_right (show l.length ≤ l.length + j by omega)]
      · rw [spl_out (Or.inr (by omega)), spl_out (Or.inr (by omega)), spl_out (Or.inr (by simp; omega))]
theorem spl_one (g : Nat → Nat) (a v : Nat) : va_up g a v = spl g a [v] := by
  funext i
  by_cases h : i = a
  · subst h
    simp [va_up, spl]
  · rw [va_up_ne _ _ h, spl_out (by simp; omega)]
theorem spl_snoc (g : Nat → Nat) (a v : Nat) (l : List Nat) : va_up (spl g a l) (a + l.length) v = spl g a (l ++ [v]) := by
  rw [spl_one, spl_app]
theorem spl_set (g : Nat → Nat) (a k v : Nat) (l : List Nat) (hk : k < l.length) : va_up (spl g a l) (a + k) v = spl g a (l.set k v) := by
  funext i
  by_cases h : i = a + k
  · subst h
    rw [va_up_self, spl_in (by simpa using hk)]
    simp [List.getD_eq_getElem?_getD, hk]
  · rw [va_up_ne _ _ h]
    by_cases h2 : a ≤ i ∧ i < a + l.length
    · obtain ⟨j, rfl⟩ : ∃ j, i = a + j := ⟨i - a, by omega⟩
      rw [spl_in (by omega), spl_in (by simp; omega)]
      simp [List.getD_eq_getElem?_getD, List.getElem?_set, show ¬ k = j by omega]
    · rw [spl_out (by omega), spl_out (by simp; omega)]
theorem spl_256 {g : Nat → Nat} {a : Nat} {l : List Nat} (hg : ∀ i, g i < 256) (hl : ∀ x ∈ l, x < 256) : ∀ i, spl g a l i < 256 := by
  intro i
  by_cases h2 : a ≤ i ∧ i < a + l.length
  · obtain ⟨j, rfl⟩ : ∃ j, i = a + j := ⟨i - a, by omega⟩
    rw [spl_in (by omega)]
    have hj : j < l.length := by omega
    simp only [List.getD_eq_getElem?_getD, List.getElem?_eq_getElem hj, Option.getD_some]
    exact hl _ (List.getElem_mem hj)
  · rw [spl_out (by omega)]
    exact hg i
theorem va_up_256 {g : Nat → Nat} {k v : Nat} (hg : ∀ i, g i < 256) (hv : v < 256) : ∀ i, va_up g k v i < 256 := by
  intro i
  by_cases h : i = k
  · subst h; rw [va_up_self]; exact hv
  · rw [va_up_ne _ _ h]; exact hg i
end
section
/-! rows of the machine over naturals -/
section NRows
variable {p : Program} {l : Launch} {e : Env} {R : Room} {s : State} {m : MethodId} {args : Array Value} {below : List Frame} {meth : Method} {c : Code} {H : Heap} {locs : List Loc} {cells slots : Nat} {Q : State → Prop} {cc : ByteArray} {pc : Nat} {ls : Array Slot} {rest : List Value}
theorem tv_i {x y : Int32} (h : x = y) (k : W p l e R s m args below meth c H locs cells slots Q (F0 m pc ls (.int y :: rest))) : W p l e R s m args below meth c H locs cells slots Q (F0 m pc ls (.int x :: rest)) := by rw [h]; exact k
theorem n_iadd (hx : p.tables.exec = Jvm.exec) (hb : c.code = cc) {a b : Nat} (hdg : decode cc pc = .ok (.iadd, 1)) (k : W p l e R s m args below meth c H locs cells slots Q (F0 m (pc + 1) ls (.int (nI (a + b)) :: rest))) : W p l e R s m args below meth c H locs cells slots Q (F0 m pc ls (.int (nI b) :: .int (nI a) :: rest)) := lv_iadd hx hb hdg (by rw [nI_add]; exact k)
theorem n_isub (hx : p.tables.exec = Jvm.exec) (hb : c.code = cc) {a b : Nat} (hdg : decode cc pc = .ok (.isub, 1)) (h : b ≤ a) (k : W p l e R s m args below meth c H locs cells slots Q (F0 m (pc + 1) ls (.int (nI (a - b)) :: rest))) : W p l e R s m args below meth c H locs cells slots Q (F0 m pc ls (.int (nI b) :: .int (nI a) :: rest)) := lv_isub hx hb hdg (by rw [pk_sub h]; exact k)
theorem n_imul (hx : p.tables.exec = Jvm.exec) (hb : c.code = cc) {a b : Nat} (hdg : decode cc pc = .ok (.imul, 1)) (k : W p l e R s m args below meth c H locs cells slots Q (F0 m (pc + 1) ls (.int (nI (a * b)) :: rest))) : W p l e R s m args below meth c H locs cells slots Q (F0 m pc ls (.int (nI b) :: .int (nI a) :: rest)) := lv_imul hx hb hdg (by rw [pk_mul]; exact k)
theorem n_idiv (hx : p.tables.exec = Jvm.exec) (hb : c.code = cc) {a b : Nat} (hdg : decode cc pc = .ok (.idiv, 1)) (ha : a < 2 ^ 31) (h0 : 0 < b) (hb2 : b < 2 ^ 31) (k : W p l e R s m args below meth c H locs cells slots Q (F0 m (pc + 1) ls (.int (nI (a / b)) :: rest))) : W p l e R s m args below meth c H locs cells slots Q (F0 m pc ls (.int (nI b) :: .int (nI a) :: rest)) := lv_idiv hx hb hdg (nI_ne0 h0 hb2) (by rw [pk_div ha h0 hb2]; exact k)
theorem n_irem (hx : p.tables.exec = Jvm.exec) (hb : c.code = cc) {a b : Nat} (hdg : decode cc pc = .ok (.irem, 1)) (ha : a < 2 ^ 31) (h0 : 0 < b) (hb2 : b < 2 ^ 31) (k : W p l e R s m args below meth c H locs cells slots Q (F0 m (pc + 1) ls (.int (nI (a % b)) :: rest))) : W p l e R s m args below meth c H locs cells slots Q (F0 m pc ls (.int (nI b) :: .int (nI a) :: rest)) := lv_irem hx hb hdg (nI_ne0 h0 hb2) (by rw [pk_rem ha h0 hb2]; exact k)
theorem n_icmp_ge (hx : p.tables.exec = Jvm.exec) (hb : c.code = cc) {a b : Nat} {off : Int} {tgt : Nat} (hdg : decode cc pc = .ok (.if_icmp .ge off, 3)) (ht : (pc : Int) + off = (tgt : Int)) (ha : a < 2 ^ 31) (hb2 : b < 2 ^ 31)
    (kt : b ≤ a → W p l e R s m args below meth c H locs cells slots Q (F0 m tgt ls rest)) (kf : a < b → W p l e R s m args below meth c H locs cells slots Q (F0 m (pc + 3) ls rest)) : W p l e R s m args below meth c H locs cells slots Q (F0 m pc ls (.int (nI b) :: .int (nI a) :: rest)) :=
  lv_icmp_ge hx hb hdg ht (fun q => kt ((nI_leI hb2 ha).mp q)) (fun q => kf (Nat.not_le.mp (fun z => q ((nI_leI hb2 ha).mpr z))))
theorem n_icmp_gt (hx : p.tables.exec = Jvm.exec) (hb : c.code = cc) {a b : Nat} {off : Int} {tgt : Nat} (hdg : decode cc pc = .ok (.if_icmp .gt off, 3)) (ht : (pc : Int) + off = (tgt : Int)) (ha : a < 2 ^ 31) (hb2 : b < 2 ^ 31)
    (kt : b < a → W p l e R s m args below meth c H locs cells slots Q (F0 m tgt ls rest)) (kf : a ≤ b → W p l e R s m args below meth c H locs cells slots Q (F0 m (pc + 3) ls rest)) : W p l e R s m args below meth c H locs cells slots Q (F0 m pc ls (.int (nI b) :: .int (nI a) :: rest)) :=
  lv_icmp_gt hx hb hdg ht (fun q => kt ((nI_ltI hb2 ha).mp q)) (fun q => kf (Nat.not_lt.mp (fun z => q ((nI_ltI hb2 ha).mpr z))))
theorem n_icmp_lt (hx : p.tables.exec = Jvm.exec) (hb : c.code = cc) {a b : Nat} {off : Int} {tgt : Nat} (hdg : decode cc pc = .ok (.if_icmp .lt off, 3)) (ht : (pc : Int) + off = (tgt : Int)) (ha : a < 2 ^ 31) (hb2 : b < 2 ^ 31)
    (kt : a < b → W p l e R s m args below meth c H locs cells slots Q (F0 m tgt ls rest)) (kf : b ≤ a → W p l e R s m args below meth c H locs cells slots Q (F0 m (pc + 3) ls rest)) : W p l e R s m args below meth c H locs cells slots Q (F0 m pc ls (.int (nI b) :: .int (nI a) :: rest)) :=
  lv_icmp_lt hx hb hdg ht (fun q => kt ((nI_ltI ha hb2).mp q)) (fun q => kf (Nat.not_lt.mp (fun z => q ((nI_ltI ha hb2).mpr z))))
theorem n_icmp_le (hx : p.tables.exec = Jvm.exec) (hb : c.code = cc) {a b : Nat} {off : Int} {tgt : Nat} (hdg : decode cc pc = .ok (.if_icmp .le off, 3)) (ht : (pc : Int) + off = (tgt : Int)) (ha : a < 2 ^ 31) (hb2 : b < 2 ^ 31)
    (kt : a ≤ b → W p l e R s m args below meth c H locs cells slots Q (F0 m tgt ls rest)) (kf : b < a → W p l e R s m args below meth c H locs cells slots Q (F0 m (pc + 3) ls rest)) : W p l e R s m args below meth c H locs cells slots Q (F0 m pc ls (.int (nI b) :: .int (nI a) :: rest)) :=
  lv_icmp_le hx hb hdg ht (fun q => kt ((nI_leI ha hb2).mp q)) (fun q => kf (Nat.not_le.mp (fun z => q ((nI_leI ha hb2).mpr z))))
theorem n_icmp_eq (hx : p.tables.exec = Jvm.exec) (hb : c.code = cc) {a b : Nat} {off : Int} {tgt : Nat} (hdg : decode cc pc = .ok (.if_icmp .eq off, 3)) (ht : (pc : Int) + off = (tgt : Int)) (ha : a < 2 ^ 31) (hb2 : b < 2 ^ 31)
    (kt : a = b → W p l e R s m args below meth c H locs cells slots Q (F0 m tgt ls rest)) (kf : a ≠ b → W p l e R s m args below meth c H locs cells slots Q (F0 m (pc + 3) ls rest)) : W p l e R s m args below meth c H locs cells slots Q (F0 m pc ls (.int (nI b) :: .int (nI a) :: rest)) :=
  lv_icmp_eq hx hb hdg ht (fun q => kt ((nI_eq ha hb2).mp q)) (fun q => kf (fun z => q ((nI_eq ha hb2).mpr z)))
theorem n_icmp_ne (hx : p.tables.exec = Jvm.exec) (hb : c.code = cc) {a b : Nat} {off : Int} {tgt : Nat} (hdg : decode cc pc = .ok (.if_icmp .ne off, 3)) (ht : (pc : Int) + off = (tgt : Int)) (ha : a < 2 ^ 31) (hb2 : b < 2 ^ 31)
    (kt : a ≠ b → W p l e R s m args below meth c H locs cells slots Q (F0 m tgt ls rest)) (kf : a = b → W p l e R s m args below meth c H locs cells slots Q (F0 m (pc + 3) ls rest)) : W p l e R s m args below meth c H locs cells slots Q (F0 m pc ls (.int (nI b) :: .int (nI a) :: rest)) :=
  lv_icmp_ne hx hb hdg ht (fun q => kt (fun z => q ((nI_eq ha hb2).mpr z))) (fun q => kf ((nI_eq ha hb2).mp q))
/-- bytes compared -/
theorem b_icmp_ne (hx : p.tables.exec = Jvm.exec) (hb : c.code = cc) {a b : Nat} {off : Int} {tgt : Nat} (hdg : decode cc pc = .ok (.if_icmp .ne off, 3)) (ht : (pc : Int) + off = (tgt : Int)) (ha : a < 256) (hb2 : b < 256)
    (kt : a ≠ b → W p l e R s m args below meth c H locs cells slots Q (F0 m tgt ls rest)) (kf : a = b → W p l e R s m args below meth c H locs cells slots Q (F0 m (pc + 3) ls rest)) : W p l e R s m args below meth c H locs cells slots Q (F0 m pc ls (.int (bI b) :: .int (bI a) :: rest)) :=
  lv_icmp_ne hx hb hdg ht (fun q => kt (fun z => q ((bI_inj ha hb2).mpr z))) (fun q => kf ((bI_inj ha hb2).mp q))
theorem b1_icmp_ne (hx : p.tables.exec = Jvm.exec) (hb : c.code = cc) {a : Nat} {off : Int} {tgt : Nat} (hdg : decode cc pc = .ok (.if_icmp .ne off, 3)) (ht : (pc : Int) + off = (tgt : Int)) (ha : a < 256)
    (kt : a ≠ 1 → W p l e R s m args below meth c H locs cells slots Q (F0 m tgt ls rest)) (kf : a = 1 → W p l e R s m args below meth c H locs cells slots Q (F0 m (pc + 3) ls rest)) : W p l e R s m args below meth c H locs cells slots Q (F0 m pc ls (.int (nI 1) :: .int (bI a) :: rest)) :=
  lv_icmp_ne hx hb hdg ht (fun q => kt (fun z => q ((bI_1 ha).mpr z))) (fun q => kf ((bI_1 ha).mp q))
theorem n_if_eq (hx : p.tables.exec = Jvm.exec) (hb : c.code = cc) {a : Nat} {off : Int} {tgt : Nat} (hdg : decode cc pc = .ok (.ifCond .eq off, 3)) (ht : (pc : Int) + off = (tgt : Int)) (ha : a < 2 ^ 31)
    (kt : a = 0 → W p l e R s m args below meth c H locs cells slots Q (F0 m tgt ls rest)) (kf : a ≠ 0 → W p l e R s m args below meth c H locs cells slots Q (F0 m (pc + 3) ls rest)) : W p l e R s m args below meth c H locs cells slots Q (F0 m pc ls (.int (nI a) :: rest)) :=
  lv_if_eq hx hb hdg ht (fun q => kt ((nI_eq ha (by omega)).mp (q.trans nI_0.symm))) (fun q => kf (fun z => q (by rw [z]; exact nI_0)))
theorem n_if_ne (hx : p.tables.exec = Jvm.exec) (hb : c.code = cc) {a : Nat} {off : Int} {tgt : Nat} (hdg : decode cc pc = .ok (.ifCond .ne off, 3)) (ht : (pc : Int) + off = (tgt : Int)) (ha : a < 2 ^ 31)
    (kt : a ≠ 0 → W p l e R s m args below meth c H locs cells slots Q (F0 m tgt ls rest)) (kf : a = 0 → W p l e R s m args below meth c H locs cells slots Q (F0 m (pc + 3) ls rest)) : W p l e R s m args below meth c H locs cells slots Q (F0 m pc ls (.int (nI a) :: rest)) :=
  lv_if_ne hx hb hdg ht (fun q => kt (fun z => q (by rw [z]; exact nI_0))) (fun q => kf ((nI_eq ha (by omega)).mp (q.trans nI_0.symm)))
theorem n_if_lt (hx : p.tables.exec = Jvm.exec) (hb : c.code = cc) {a : Nat} {off : Int} {tgt : Nat} (hdg : decode cc pc = .ok (.ifCond .lt off, 3)) (ht : (pc : Int) + off = (tgt : Int)) (ha : a < 2 ^ 31)
    (kf : W p l e R s m args below meth c H locs cells slots Q (F0 m (pc + 3) ls rest)) : W p l e R s m args below meth c H locs cells slots Q (F0 m pc ls (.int (nI a) :: rest)) :=
  lv_if_lt hx hb hdg ht (fun q => absurd q (nI_pos ha)) (fun _ => kf)
theorem n_if_ge (hx : p.tables.exec = Jvm.exec) (hb : c.code = cc) {a : Nat} {off : Int} {tgt : Nat} (hdg : decode cc pc = .ok (.ifCond .ge off, 3)) (ht : (pc : Int) + off = (tgt : Int)) (ha : a < 2 ^ 31)
    (kt : W p l e R s m args below meth c H locs cells slots Q (F0 m tgt ls rest)) : W p l e R s m args below meth c H locs cells slots Q (F0 m pc ls (.int (nI a) :: rest)) :=
  lv_if_ge hx hb hdg ht (fun _ => kt) (fun q => absurd (nI_pos' ha) q)
end NRows
section ARows
variable {p : Program} {l : Launch} {e : Env} {R : Room} {s : State} {m : MethodId} {args : Array Value} {below : List Frame} {meth : Method} {c : Code} {H : Heap} {locs : List Loc} {cells slots : Nat} {Q : State → Prop} {cc : ByteArray} {pc : Nat} {ls : Array Slot} {rest : List Value} {D : va_G} {cl : List vw_C} {A : Nat → Prop} {a : Nat} {tys : List (ClassId × FieldType)} {ws : va_W} {H0 : Heap}
theorem fa_ld (hx : p.tables.exec = Jvm.exec) (hb : c.code = cc) (hK : va_K D cl tys s) (hP : va_P D cl ws H) (q0 t0 : Nat) {cA : ClassId} {n k : Nat} {f : Nat → Int32} (ha : ws[q0]? = some (a, .inl (cA, n, .inl f))) (ht : tys[t0]? = some (cA, .int)) (hk : k < n) (hn : n < 2 ^ 31) (hdg : decode cc pc = .ok (.iaload, 1))
    (kk : W p l e R s m args below meth c H locs cells slots Q (F0 m (pc + 1) ls (.int (f k) :: rest))) : W p l e R s m args below meth c H locs cells slots Q (F0 m pc ls (.int (nI k) :: .ref a :: rest)) :=
  va_iald hx hb hK hP q0 t0 ha ht (vp_in_nI hk hn) hdg (by rw [nI_clamp (by omega)]; exact kk)
theorem ia_ld (hx : p.tables.exec = Jvm.exec) (hb : c.code = cc) (hK : va_K D cl tys s) (hP : va_P D cl ws H) (q0 t0 : Nat) {cA : ClassId} {n k : Nat} {g : Nat → Nat} (ha : ws[q0]? = some (a, .inl (cA, n, .inl (iA g)))) (ht : tys[t0]? = some (cA, .int)) (hk : k < n) (hn : n < 2 ^ 31) (hdg : decode cc pc = .ok (.iaload, 1))
    (kk : W p l e R s m args below meth c H locs cells slots Q (F0 m (pc + 1) ls (.int (nI (g k)) :: rest))) : W p l e R s m args below meth c H locs cells slots Q (F0 m pc ls (.int (nI k) :: .ref a :: rest)) :=
  fa_ld hx hb hK hP q0 t0 ha ht hk hn hdg kk
theorem ba_ld (hx : p.tables.exec = Jvm.exec) (hb : c.code = cc) (hK : va_K D cl tys s) (hP : va_P D cl ws H) (q0 t0 : Nat) {cA : ClassId} {n k : Nat} {g : Nat → Nat} (ha : ws[q0]? = some (a, .inl (cA, n, .inl (bA g)))) (ht : tys[t0]? = some (cA, .byte)) (hk : k < n) (hn : n < 2 ^ 31) (hdg : decode cc pc = .ok (.baload, 1))
    (kk : W p l e R s m args below meth c H locs cells slots Q (F0 m (pc + 1) ls (.int (bI (g k)) :: rest))) : W p l e R s m args below meth c H locs cells slots Q (F0 m pc ls (.int (nI k) :: .ref a :: rest)) :=
  va_bald hx hb hK hP q0 t0 ha ht (vp_in_nI hk hn) hdg (by rw [nI_clamp (by omega)]; exact kk)
theorem fa_st (hx : p.tables.exec = Jvm.exec) (hb : c.code = cc) (hK : va_K D cl tys s) (hP : va_P D cl ws H) (hD : va_D A ws) (hS : va_S A H0 H locs) (q0 t0 : Nat) {cA : ClassId} {n k : Nat} {f : Nat → Int32} {x : Int32} (ha : ws[q0]? = some (a, .inl (cA, n, .inl f))) (ht : tys[t0]? = some (cA, .int)) (hk : k < n) (hn : n < 2 ^ 31) (hdg : decode cc pc = .ok (.iastore, 1))
    (kk : ∀ (H1 : Heap) (locs1 : List Loc), va_P D cl (ws.set q0 (a, .inl (cA, n, .inl (upd f k x)))) H1 → va_D A (ws.set q0 (a, .inl (cA, n, .inl (upd f k x)))) → va_S A H0 H1 locs1 → W p l e R s m args below meth c H1 locs1 cells slots Q (F0 m (pc + 1) ls rest)) : W p l e R s m args below meth c H locs cells slots Q (F0 m pc ls (.int x :: .int (nI k) :: .ref a :: rest)) :=
  va_iast hx hb hK hP hD hS q0 t0 ha ht (vp_in_nI hk hn) hdg (fun H1 locs1 h1 h2 h3 => by
    rw [nI_clamp (by omega)] at h1 h2
    exact kk H1 locs1 h1 h2 h3)
theorem ia_st (hx : p.tables.exec = Jvm.exec) (hb : c.code = cc) (hK : va_K D cl tys s) (hP : va_P D cl ws H) (hD : va_D A ws) (hS : va_S A H0 H locs) (q0 t0 : Nat) {cA : ClassId} {n k v : Nat} {g : Nat → Nat} (ha : ws[q0]? = some (a, .inl (cA, n, .inl (iA g)))) (ht : tys[t0]? = some (cA, .int)) (hk : k < n) (hn : n < 2 ^ 31) (hdg : decode cc pc = .ok (.iastore, 1))
    (kk : ∀ (H1 : Heap) (locs1 : List Loc), va_P D cl (ws.set q0 (a, .inl (cA, n, .inl (iA (va_up g k v))))) H1 → va_D A (ws.set q0 (a, .inl (cA, n, .inl (iA (va_up g k v))))) → va_S A H0 H1 locs1 → W p l e R s m args below meth c H1 locs1 cells slots Q (F0 m (pc + 1) ls rest)) : W p l e R s m args below meth c H locs cells slots Q (F0 m pc ls (.int (nI v) :: .int (nI k) :: .ref a :: rest)) :=
  fa_st hx hb hK hP hD hS q0 t0 ha ht hk hn hdg (fun H1 locs1 h1 h2 h3 => by
    rw [iA_upd] at h1 h2
    exact kk H1 locs1 h1 h2 h3)
theorem ba_st (hx : p.tables.exec = Jvm.exec) (hb : c.code = cc) (hK : va_K D cl tys s) (hP : va_P D cl ws H) (hD : va_D A ws) (hS : va_S A H0 H locs) (q0 t0 : Nat) {cA : ClassId} {n k v : Nat} {g : Nat → Nat} (ha : ws[q0]? = some (a, .inl (cA, n, .inl (bA g)))) (ht : tys[t0]? = some (cA, .byte)) (hk : k < n) (hn : n < 2 ^ 31) (hdg : decode cc pc = .ok (.bastore, 1))
    (kk : ∀ (H1 : Heap) (locs1 : List Loc), va_P D cl (ws.set q0 (a, .inl (cA, n, .inl (bA (va_up g k v))))) H1 → va_D A (ws.set q0 (a, .inl (cA, n, .inl (bA (va_up g k v))))) → va_S A H0 H1 locs1 → W p l e R s m args below meth c H1 locs1 cells slots Q (F0 m (pc + 1) ls rest)) : W p l e R s m args below meth c H locs cells slots Q (F0 m pc ls (.int (bI v) :: .int (nI k) :: .ref a :: rest)) :=
  va_bast hx hb hK hP hD hS q0 t0 ha ht (vp_in_nI hk hn) hdg (fun H1 locs1 h1 h2 h3 => by
    rw [nI_clamp (by omega), vp_nar_byte, bI_nar, bA_upd] at h1 h2
    exact kk H1 locs1 h1 h2 h3)
end ARows
end
section
/-! contracts: 'ro': a method that only reads and answers a known value; 'ip': a method that changes its cells in place -/
abbrev TYs (cB cI cJ : ClassId) : List (ClassId × FieldType) := [(cB, .byte), (cI, .int), (cJ, .long)]
def KX (D : va_G) (cB cI cJ : ClassId) (U : State) : Prop := va_K D classes (TYs cB cI cJ) U ∧ va_Nw (.methodLinkNest R_PW 41 y_De_two R_PW) U ∧ va_Nw (.methodLinkNest R_PW 21 y_De_init R_PW) U ∧ va_Nw (.castable "java/lang/IllegalStateException" "java/lang/IllegalStateException") U
theorem KX.warm {D : va_G} {cB cI cJ : ClassId} {s U : State} (hW : s.WarmedH U.vm) (h : KX D cB cI cJ s) : KX D cB cI cJ U := ⟨va_K.moved hW.alike h.1, va_Nw.warmM hW h.2.1, va_Nw.warmM hW h.2.2.1, va_Nw.warmC hW h.2.2.2⟩
theorem KX.vm {D : va_G} {cB cI cJ : ClassId} {u U : State} (hv : u.vm = U.vm) (h : KX D cB cI cJ u) : KX D cB cI cJ U := ⟨va_K.moved (by rw [hv]; exact Vm.Alike.refl U.vm) h.1, va_Nw.same rfl hv h.2.1, va_Nw.same rfl hv h.2.2.1, va_Nw.same rfl hv h.2.2.2⟩
def ro_P (D : va_G) (cB cI cJ : ClassId) (av : List Value) (w : va_W) : Array Value → State → Prop := fun v U => v = av.toArray ∧ va_P D classes w U.heap ∧ KX D cB cI cJ U
def ro_Q (v : Option Value) : Array Value → State → Outcome → State → Prop := fun _ st oc t => oc = .returned v ∧ t.heap = st.heap
theorem ro_blind {D : va_G} {cB cI cJ : ClassId} {av : List Value} {w : va_W} : FrameBlind (ro_P D cB cI cJ av w) := fun _ _ _ _ q => ⟨q.1, q.2.1, KX.vm rfl q.2.2⟩
def inW (w : va_W) : Nat → Prop := fun q => ∃ (k : Nat) (e : va_E), w[k]? = some (q, e)
def ip_P (D : va_G) (cB cI cJ : ClassId) (av : List Value) (w : va_W) : Array Value → State → Prop := fun v U => v = av.toArray ∧ va_P D classes w U.heap ∧ KX D cB cI cJ U ∧ va_D (fun _ => True) w
def ip_Q {S : Type} (D : va_G) (w : va_W) (post : S → Prop) (v : S → Option Value) (w' : S → va_W) : Array Value → State → Outcome → State → Prop := fun _ st oc t => ∃ u : S, oc = .returned (v u) ∧ post u ∧ va_P D classes (w' u) t.heap ∧ va_F (inW w) st t
abbrev ip_D (D : va_G) (w : va_W) (v : Option Value) (w' : va_W) : Array Value → State → Outcome → State → Prop := ip_Q D w (fun _ : Unit => True) (fun _ => v) (fun _ => w')
theorem ip_blind {D : va_G} {cB cI cJ : ClassId} {av : List Value} {w : va_W} : FrameBlind (ip_P D cB cI cJ av w) := fun _ _ _ _ q => ⟨q.1, q.2.1, KX.vm rfl q.2.2.1, q.2.2.2⟩
theorem mt_ro {l : Launch} {D : va_G} {cB cI cJ : ClassId} {y : MethodName} {cc : ByteArray} {maxL : Nat} {ret : Option FieldType} {rm : Room} {av : List Value} {w : va_W} {v : Option Value} (hy : plainName y.cls = true) (hle : (lg_sl av).length ≤ maxL)
    (body : ∀ (p : Program) (e : Env) (s : State) (m : MethodId) (args : Array Value) (below : List Frame) (meth : Method) (c : Code) (ls : Array Slot) (Q : State → Prop), p.tables.exec = Jvm.exec → c.code = cc → meth.sig.returnType = ret → c.maxLocals = maxL → (∀ w ∈ gw, w.before args s = true) → s.vm.findClass y.cls = some m.cls → meth.locks = false → va_P D classes w s.heap → KX D cB cI cJ s → lv_has ls maxL (lv_args 0 av) → Q = MQ below (ro_Q v) args s 0 0 (fun _ => False) →
      W p l e rm s m args below meth c s.heap [] 0 0 Q (F0 m 0 ls [])) : Met l y (Wd y cc maxL ret) rm (ro_P D cB cI cJ av w) (ro_Q v) 0 0 (fun _ => False) := by
  refine Met.ofW (cc := cc) (maxL := maxL) (ret := ret) hy rfl ?_
  intro p e s m args below meth c s₁ B hml hv
  obtain ⟨rfl, hP, hK⟩ := hv
  have hts := atoms_spec (ws := Wd y cc maxL ret) B.pre
  rw [lg_entry_eq]
  exact body p e s m _ below meth c _ _ B.exec B.bytes B.returns hml (fun w hw => hts w (List.mem_cons_of_mem _ hw)) (findClass_of_methodNamed B.named) B.notSynchronized hP hK (lv_entry av hle) rfl
theorem inW_D {w : va_W} (h : va_D (fun _ => True) w) : va_D (inW w) w := ⟨h.1, fun k q hk => ⟨k, q.2, hk⟩⟩
theorem mt_ip {S : Type} {l : Launch} {D : va_G} {cB cI cJ : ClassId} {y : MethodName} {cc : ByteArray} {maxL : Nat} {ret : Option FieldType} {rm : Room} {av : List Value} {w : va_W} {post : S → Prop} {v : S → Option Value} {w' : S → va_W} (hy : plainName y.cls = true) (hle : (lg_sl av).length ≤ maxL)
    (body : ∀ (p : Program) (e : Env) (s : State) (m : MethodId) (args : Array Value) (below : List Frame) (meth : Method) (c : Code) (ls : Array Slot) (Q : State → Prop) (A : Nat → Prop), p.tables.exec = Jvm.exec → c.code = cc → meth.sig.returnType = ret → c.maxLocals = maxL → (∀ w ∈ gw, w.before args s = true) → s.vm.findClass y.cls = some m.cls → meth.locks = false → va_P D classes w s.heap → KX D cB cI cJ s → va_D A w → va_S A s.heap s.heap [] → lv_has ls maxL (lv_args 0 av) → A = inW w → Q = MQ below (ip_Q D w post v w') args s 0 0 (inW w) →
      W p l e rm s m args below meth c s.heap [] 0 0 Q (F0 m 0 ls [])) : Met l y (Wd y cc maxL ret) rm (ip_P D cB cI cJ av w) (ip_Q D w post v w') 0 0 (inW w) := by
  refine Met.ofW (cc := cc) (maxL := maxL) (ret := ret) hy rfl ?_
  intro p e s m args below meth c s₁ B hml hv
  obtain ⟨rfl, hP, hK, hD⟩ := hv
  have hts := atoms_spec (ws := Wd y cc maxL ret) B.pre
  rw [lg_entry_eq]
  exact body p e s m _ below meth c _ _ _ B.exec B.bytes B.returns hml (fun w hw => hts w (List.mem_cons_of_mem _ hw)) (findClass_of_methodNamed B.named) B.notSynchronized hP hK (inW_D hD) va_S.rf (lv_entry av hle) rfl rfl
/-! a callee's cells put back at their places -/
def sw : va_W → List Nat → va_W → va_W
  | ws, i :: is, x :: xs => sw (ws.set i x) is xs
  | ws, _, _ => ws
theorem sw_get : ∀ (is : List Nat) (w1 ws : va_W) (k : Nat) (q : Nat × va_E), is.length = w1.length → (sw ws is w1)[k]? = some q → (∃ j : Nat, w1[j]? = some q) ∨ (ws[k]? = some q ∧ k ∉ is)
  | [], w1, ws, k, q, _, h => Or.inr ⟨by cases w1 <;> exact h, List.not_mem_nil⟩
  | i :: is, [], ws, k, q, hl, h => by simp at hl
  | i :: is, x :: xs, ws, k, q, hl, h => by
    rcases sw_get is xs (ws.set i x) k q (by simpa using hl) h with ⟨j, hj⟩ | ⟨h1, h2⟩
    · exact Or.inl ⟨j + 1, by simpa using hj⟩
    · by_cases hk : k = i
      · subst hk
        refine Or.inl ⟨0, ?_⟩
        rw [List.getElem?_set_self'] at h1
        cases hw : ws[k]? with
        | none => rw [hw] at h1; cases h1
        | some z => rw [hw] at h1; simpa using h1
      · rw [List.getElem?_set_ne (Ne.symm hk)] at h1
        exact Or.inr ⟨h1, by simp [hk, h2]⟩
theorem sw_D {A : Nat → Prop} : ∀ (is : List Nat) (w1 ws : va_W), is.map (fun i => (ws[i]?).map (·.1)) = w1.map (fun x => some x.1) → va_D A ws → va_D A (sw ws is w1)
  | [], w1, ws, _, h => by cases w1 <;> exact h
  | i :: is, [], ws, hl, h => h
  | i :: is, x :: xs, ws, hl, h => by
    have h0 : (ws[i]?).map (·.1) = some x.1 := by simpa using (List.cons.inj hl).1
    cases hw : ws[i]? with
    | none => rw [hw] at h0; cases h0
    | some z =>
      rw [hw] at h0
      have hz : z.1 = x.1 := by simpa using h0
      refine sw_D is xs (ws.set i x) ?_ ?_
      · rw [← (List.cons.inj hl).2]
        refine List.map_congr_left (fun j _ => ?_)
        by_cases hj : j = i
        · subst hj
          rw [List.getElem?_set_self', hw]
          simp [hz]
        · rw [List.getElem?_set_ne (Ne.symm hj)]
      · exact h.set (a := x.1) (e0 := z.2) (e := x.2) (by rw [hw, ← hz])
theorem sw_P {D : va_G} {cl : List vw_C} {A : Nat → Prop} {ws wc w1 : va_W} {is : List Nat} {H H1 : Heap} (hP : va_P D cl ws H) (hD : va_D A ws) (hC : is.map (fun i => ws[i]?) = wc.map some) (ha : w1.map (·.1) = wc.map (·.1)) (hk : ∀ q : Nat, q < H.size → ¬ inW wc q → H1[q]? = H[q]?) (hP1 : va_P D cl w1 H1) : va_P D cl (sw ws is w1) H1 ∧ va_D A (sw ws is w1) := by
  have hlen : is.length = w1.length := by
    have h1 := congrArg List.length hC
    have h2 := congrArg List.length ha
    simp at h1 h2
    omega
  refine ⟨fun k q hq => ?_, sw_D is w1 ws ?_ hD⟩
  · rcases sw_get is w1 ws k q hlen hq with ⟨j, hj⟩ | ⟨h1, h2⟩
    · exact hP1 j q hj
    · refine (hP k q h1).kept (hk q.1 (hP k q h1).lt (fun ⟨j, e, hj⟩ => ?_))
      have h3 : (is.map (fun i => ws[i]?))[j]? = some (some (q.1, e)) := by rw [hC, List.getElem?_map, hj]; rfl
      rw [List.getElem?_map] at h3
      cases hi : is[j]? with
      | none => rw [hi] at h3; cases h3
      | some i =>
        rw [hi] at h3
        have h4 : ws[i]? = some (q.1, e) := Option.some.inj h3
        have h5 := hD.1 k i q (q.1, e) h1 h4 rfl
        exact h2 (by rw [h5]; exact List.mem_of_getElem? hi)
  · have h1 : w1.map (fun x => some x.1) = wc.map (fun x => some x.1) := by
      have := congrArg (List.map some) ha
      rw [List.map_map, List.map_map] at this
      exact this
    rw [h1]
    have h2 := congrArg (List.map (Option.map (fun x : Nat × va_E => x.1))) hC
    rw [List.map_map, List.map_map] at h2
    exact h2
section Ends
variable {p : Program} {l : Launch} {e : Env} {R : Room} {s : State} {m : MethodId} {args : Array Value} {below : List Frame} {meth : Method} {c : Code} {H : Heap} {locs : List Loc} {cc : ByteArray} {pc : Nat} {ls : Array Slot} {D : va_G} {w : va_W} {Q : State → Prop}
theorem ro_iret (hx : p.tables.exec = Jvm.exec) (hb : c.code = cc) (hr : meth.sig.returnType = some .int) (hlk : meth.locks = false) {v r : Int32} (hv : r = v) (hQ : Q = MQ below (ro_Q (some (.int v))) args s 0 0 (fun _ => False)) (hdg : decode cc pc = .ok (.ireturn, 1)) : W p l e R s m args below meth c s.heap [] 0 0 Q (F0 m pc ls [.int r]) := by
  rw [hv, hQ]
  exact W.iret hx hb hr (fun t ht _ => ⟨rfl, ht⟩) (fun q h => by cases h) hdg (hlocks := hlk)
theorem ro_zret (hx : p.tables.exec = Jvm.exec) (hb : c.code = cc) (hr : meth.sig.returnType = some .boolean) (hlk : meth.locks = false) {v r : Int32} (hv : r = v) (hn : narrow .boolean (.int v) = .int v) (hQ : Q = MQ below (ro_Q (some (.int v))) args s 0 0 (fun _ => False)) (hdg : decode cc pc = .ok (.ireturn, 1)) : W p l e R s m args below meth c s.heap [] 0 0 Q (F0 m pc ls [.int r]) := by
  rw [hv, hQ]
  exact W.zret hx hb hr hn (fun t ht _ => ⟨rfl, ht⟩) (fun q h => by cases h) hdg (hlocks := hlk)
theorem ro_aret (hx : p.tables.exec = Jvm.exec) (hb : c.code = cc) {ty : FieldType} (hr : meth.sig.returnType = some (.array ty)) (hlk : meth.locks = false) {a : Nat} (hQ : Q = MQ below (ro_Q (some (.ref a))) args s 0 0 (fun _ => False)) (hdg : decode cc pc = .ok (.areturn, 1)) : W p l e R s m args below meth c s.heap [] 0 0 Q (F0 m pc ls [.ref a]) := by
  rw [hQ]
  exact W.aret hx hb hr (Or.inr ⟨_, rfl⟩) (Or.inr ⟨_, rfl⟩) (fun t ht _ => ⟨rfl, ht⟩) (fun q h => by cases h) hdg (hlocks := hlk)
variable {S : Type} {post : S → Prop} {v : S → Option Value} {w' : S → va_W}
theorem ip_iret (hx : p.tables.exec = Jvm.exec) (hb : c.code = cc) (hr : meth.sig.returnType = some .int) (hlk : meth.locks = false) {A : Nat → Prop} (hAe : A = inW w) (hS : va_S A s.heap H locs) {r : Int32} (u : S) (hv : v u = some (.int r)) (hp : post u) (hP : va_P D classes (w' u) H) (hQ : Q = MQ below (ip_Q D w post v w') args s 0 0 (inW w)) (hdg : decode cc pc = .ok (.ireturn, 1)) : W p l e R s m args below meth c H locs 0 0 Q (F0 m pc ls [.int r]) := by
  rw [hQ]
  subst hAe
  exact W.iret hx hb hr (fun t ht _ => ⟨u, by rw [hv], hp, by rw [ht]; exact hP, hS.F ht⟩) hS.2.2 hdg (hlocks := hlk)
theorem ip_zret (hx : p.tables.exec = Jvm.exec) (hb : c.code = cc) (hr : meth.sig.returnType = some .boolean) (hlk : meth.locks = false) {A : Nat → Prop} (hAe : A = inW w) (hS : va_S A s.heap H locs) {r : Int32} (hn : narrow .boolean (.int r) = .int r) (u : S) (hv : v u = some (.int r)) (hp : post u) (hP : va_P D classes (w' u) H) (hQ : Q = MQ below (ip_Q D w post v w') args s 0 0 (inW w)) (hdg : decode cc pc = .ok (.ireturn, 1)) : W p l e R s m args below meth c H locs 0 0 Q (F0 m pc ls [.int r]) := by
  rw [hQ]
  subst hAe
  exact W.zret hx hb hr hn (fun t ht _ => ⟨u, by rw [hv], hp, by rw [ht]; exact hP, hS.F ht⟩) hS.2.2 hdg (hlocks := hlk)
theorem ip_vret (hx : p.tables.exec = Jvm.exec) (hb : c.code = cc) (hr : meth.sig.returnType = none) (hlk : meth.locks = false) {A : Nat → Prop} (hAe : A = inW w) (hS : va_S A s.heap H locs) (u : S) (hv : v u = none) (hp : post u) (hP : va_P D classes (w' u) H) (hQ : Q = MQ below (ip_Q D w post v w') args s 0 0 (inW w)) (hdg : decode cc pc = .ok (.return_, 1)) : W p l e R s m args below meth c H locs 0 0 Q (F0 m pc ls []) := by
  rw [hQ]
  subst hAe
  exact W.vret hx hb hr (fun t ht _ => ⟨u, by rw [hv], hp, by rw [ht]; exact hP, hS.F ht⟩) hS.2.2 hdg (hlocks := hlk)
end Ends
section Calls
variable {p : Program} {l : Launch} {e : Env} {R : Room} {s : State} {m : MethodId} {args : Array Value} {below : List Frame} {meth : Method} {c : Code} {H : Heap} {locs : List Loc} {cells slots : Nat} {Q : State → Prop} {cc bytes : ByteArray} {pc nL maxL index n : Nat} {ls : Array Slot} {st0 rest As : List Value} {own C : String} {y : MethodName} {ret : Option FieldType} {rm : Room} {D : va_G} {cB cI cJ : ClassId} {wc ws : va_W} {b : Nat}
theorem ro_end {v : Value} {a : Array Value} (hr : va_Run p l e R s m args below meth c H locs cells slots 0 0 (F0 m pc ls st0) rest (ro_Q (some v) a) (fun _ => False)) (kk : W p l e R s m args below meth c H locs cells slots Q (F0 m (pc + 3) ls (v :: rest))) : W p l e R s m args below meth c H locs cells slots Q (F0 m pc ls st0) := by
  intro T hT X
  obtain ⟨v', st₀, t, T', L, h0, X', hL, e1, e2, ⟨hv, hh⟩, st⟩ := hr T hT X
  cases hv
  obtain ⟨t2, a1, b1⟩ := kk T' (by rw [e1, hh, h0]) (Stand.forget X' (fun q h => (hL q h).elim))
  exact ⟨t2, st t2 a1, b1⟩
theorem ro_V {v : Value} (S : CallFix p m c cc nL s args gw own) (hM : Met l y (Wd y bytes maxL ret) rm (ro_P D cB cI cJ (.ref b :: As) wc) (ro_Q (some v)) 0 0 (fun _ => False)) (hG : GoodIn gw (wsV own index C y (Wd y bytes maxL ret))) (hd : y.cls ≠ "java/lang/invoke/MethodHandle" ∧ y.cls ≠ "java/lang/invoke/VarHandle" ∧ (parseMethodDescriptor y.desc).map (fun d => d.parameters.length) = some n) (hC : y.cls = C) (hr : rm.cells = 0 ∧ rm.slots = 0) (hR : rm.frames + 1 ≤ R.frames ∧ 8 + (maxL + 11) + rm.locals ≤ R.locals)
    (hP : va_P D classes ws H) (hK : KX D cB cI cJ s) (is : List Nat) (hw : is.filterMap (fun i => ws[i]?) = wc) (q0 ci : Nat) {T : u_T} {N : Nat} {fs : List Value} (hc : classes[ci]? = some (C, T, N)) (he : ws[q0]? = some (b, .inr (ci, fs))) (hn : As.length = n) (hsz : ls.size = nL) (hst : st0 = As.reverse ++ .ref b :: rest) (hrm : (rest.map fun v => v.category).sum ≤ 8) (hf : cells ≤ R.cells ∧ slots ≤ R.slots) (hdg : decode cc pc = .ok (.invokevirtual index, 3))
    (kk : W p l e R s m args below meth c H locs cells slots Q (F0 m (pc + 3) ls (v :: rest))) : W p l e R s m args below meth c H locs cells slots Q (F0 m pc ls st0) :=
  ro_end (va_runV (n := n) S hM (cwV n S.2.2.2.2 hG rfl hr.1 hr.2 ⟨hC, hd⟩ hR) ⟨ro_blind, va_recv hK.1 hP hc he, fun U hU hW => ⟨rfl, by rw [hU]; exact hP.sub is hw, hK.warm hW⟩⟩ rfl hn hsz hst (lv_room hrm) hdg hf) kk
theorem ro_S {v : Value} (S : CallFix p m c cc nL s args gw own) (hM : Met l y (Wd y bytes maxL ret) rm (ro_P D cB cI cJ As wc) (ro_Q (some v)) 0 0 (fun _ => False)) (hG : GoodIn gw (va_wsS own index y (Wd y bytes maxL ret))) (hd : y.cls ≠ "java/lang/invoke/MethodHandle" ∧ y.cls ≠ "java/lang/invoke/VarHandle" ∧ (parseMethodDescriptor y.desc).map (fun d => d.parameters.length) = some n) (hr : rm.cells = 0 ∧ rm.slots = 0) (hR : rm.frames + 1 ≤ R.frames ∧ 8 + (maxL + 11) + rm.locals ≤ R.locals)
    (hP : va_P D classes ws H) (hK : KX D cB cI cJ s) (is : List Nat) (hw : is.filterMap (fun i => ws[i]?) = wc) (hn : As.length = n) (hsz : ls.size = nL) (hst : st0 = As.reverse ++ rest) (hrm : (rest.map fun v => v.category).sum ≤ 8) (hf : cells ≤ R.cells ∧ slots ≤ R.slots) (hdg : decode cc pc = .ok (.invokestatic index, 3))
    (kk : W p l e R s m args below meth c H locs cells slots Q (F0 m (pc + 3) ls (v :: rest))) : W p l e R s m args below meth c H locs cells slots Q (F0 m pc ls st0) :=
  ro_end (va_runS (n := n) S hM (va_cwS n S.2.2.2.2 hG rfl hr.1 hr.2 hd hR) ⟨ro_blind, fun U hU hW => ⟨rfl, by rw [hU]; exact hP.sub is hw, hK.warm hW⟩⟩ rfl hn hsz hst (lv_room hrm) hdg hf) kk
/-- Delta.two out of PieceWays: a nest mate's private method -/
theorem ro_two {v : Value} (S : CallFix p m c cc nL s args gw R_PW) (hM : Met l y_De_two (Wd y_De_two b_De_two 2 (some .int)) rm (ro_P D cB cI cJ As wc) (ro_Q (some v)) 0 0 (fun _ => False)) (hr : rm.cells = 0 ∧ rm.slots = 0) (hR : rm.frames + 1 ≤ R.frames ∧ 8 + (2 + 11) + rm.locals ≤ R.locals)
    (hP : va_P D classes ws H) (hK : KX D cB cI cJ s) (is : List Nat) (hw : is.filterMap (fun i => ws[i]?) = wc) (hn : As.length = 2) (hsz : ls.size = nL) (hst : st0 = As.reverse ++ rest) (hrm : (rest.map fun v => v.category).sum ≤ 8) (hf : cells ≤ R.cells ∧ slots ≤ R.slots) (hdg : decode cc pc = .ok (.invokestatic 41, 3))
    (kk : W p l e R s m args below meth c H locs cells slots Q (F0 m (pc + 3) ls (v :: rest))) : W p l e R s m args below meth c H locs cells slots Q (F0 m pc ls st0) :=
  ro_end (va_runSN (n := 2) S hM ⟨va_cnB 2 S.2.2.2.2 g_PW_41 rfl hr.1 hr.2 hK.2.1 (S.2.2.2.2 _ k_2) hd_De_two hR, S.2.2.2.2 _ k_121, trivial⟩ ⟨ro_blind, fun U hU hW => ⟨rfl, by rw [hU]; exact hP.sub is hw, hK.warm hW⟩⟩ rfl hn hsz hst (lv_room hrm) hdg hf) kk
variable {A : Nat → Prop} {H0 : Heap} {S : Type} {post : S → Prop} {vv : S → Option Value} {w' : S → va_W}
theorem ip_end {a : Array Value} (hr : va_Run p l e R s m args below meth c H locs cells slots 0 0 (F0 m pc ls st0) rest (ip_Q D wc post vv w' a) (inW wc)) (hP : va_P D classes ws H) (hD : va_D A ws) (hS : va_S A H0 H locs) (is : List Nat) (hC : is.map (fun i => ws[i]?) = wc.map some) (ha : ∀ u, (w' u).map (·.1) = wc.map (·.1))
    (kk : ∀ (u : S) (H1 : Heap) (locs1 : List Loc), post u → va_P D classes (sw ws is (w' u)) H1 → va_D A (sw ws is (w' u)) → va_S A H0 H1 locs1 → W p l e R s m args below meth c H1 locs1 cells slots Q (F0 m (pc + 3) ls ((vv u).toList ++ rest))) : W p l e R s m args below meth c H locs cells slots Q (F0 m pc ls st0) := by
  have hA : ∀ q, inW wc q → A q := by
    intro q ⟨k, e, h⟩
    have h1 : (is.map (fun i => ws[i]?))[k]? = some (some (q, e)) := by rw [hC, List.getElem?_map, h]; rfl
    rw [List.getElem?_map] at h1
    cases hi : is[k]? with
    | none => rw [hi] at h1; cases h1
    | some i => rw [hi] at h1; exact hD.2 i (q, e) (Option.some.inj h1)
  intro T hT X
  obtain ⟨v', st₀, t, T', L, h0, X', hL, e1, e2, ⟨u, hv, hp, hB, hz, hk⟩, st⟩ := hr T hT X
  cases hv
  rw [h0] at hz hk
  obtain ⟨hP1, hD1⟩ := sw_P (H1 := T'.heap) hP hD hC (ha u) (fun q h1 h2 => by rw [e1]; exact hk q h1 h2) (by rw [e1]; exact hB)
  obtain ⟨t2, a1, b1⟩ := kk u T'.heap (locs ++ L) hp hP1 hD1 ⟨Nat.le_trans hS.1 (by rw [e1]; exact hz), fun q h1 h2 => by rw [e1, hk q (Nat.lt_of_lt_of_le h1 hS.1) (fun z => h2 (hA q z))]; exact hS.2.1 q h1 h2, fun q hq => by
    rcases List.mem_append.mp hq with h | h
    · exact hS.2.2 q h
    · exact hA _ (hL q h)⟩ T' rfl X'
  exact ⟨t2, st t2 a1, b1⟩
theorem ip_V (F : CallFix p m c cc nL s args gw own) (hM : Met l y (Wd y bytes maxL ret) rm (ip_P D cB cI cJ (.ref b :: As) wc) (ip_Q D wc post vv w') 0 0 (inW wc)) (hG : GoodIn gw (wsV own index C y (Wd y bytes maxL ret))) (hd : y.cls ≠ "java/lang/invoke/MethodHandle" ∧ y.cls ≠ "java/lang/invoke/VarHandle" ∧ (parseMethodDescriptor y.desc).map (fun d => d.parameters.length) = some n) (hC0 : y.cls = C) (hr : rm.cells = 0 ∧ rm.slots = 0) (hR : rm.frames + 1 ≤ R.frames ∧ 8 + (maxL + 11) + rm.locals ≤ R.locals)
    (hP : va_P D classes ws H) (hK : KX D cB cI cJ s) (hD : va_D A ws) (hS : va_S A H0 H locs) (is : List Nat) (hnd : va_nd is = true) (hC : is.map (fun i => ws[i]?) = wc.map some) (as : List Nat) (ha1 : wc.map (·.1) = as) (ha2 : ∀ u, (w' u).map (·.1) = as) (q0 ci : Nat) {T : u_T} {N : Nat} {fs : List Value} (hc : classes[ci]? = some (C, T, N)) (he : ws[q0]? = some (b, .inr (ci, fs))) (hn : As.length = n) (hsz : ls.size = nL) (hst : st0 = As.reverse ++ .ref b :: rest) (hrm : (rest.map fun v => v.category).sum ≤ 8) (hf : cells ≤ R.cells ∧ slots ≤ R.slots) (hdg : decode cc pc = .ok (.invokevirtual index, 3))
    (kk : ∀ (u : S) (H1 : Heap) (locs1 : List Loc), post u → va_P D classes (sw ws is (w' u)) H1 → va_D A (sw ws is (w' u)) → va_S A H0 H1 locs1 → W p l e R s m args below meth c H1 locs1 cells slots Q (F0 m (pc + 3) ls ((vv u).toList ++ rest))) : W p l e R s m args below meth c H locs cells slots Q (F0 m pc ls st0) := by
  have hfm : is.filterMap (fun i => ws[i]?) = wc := by
    have h1 : is.filterMap (fun i => ws[i]?) = (is.map (fun i => ws[i]?)).filterMap id := by rw [List.filterMap_map]; rfl
    rw [h1, hC, List.filterMap_map]
    simp
  exact ip_end (va_runV (n := n) F hM (cwV n F.2.2.2.2 hG rfl hr.1 hr.2 ⟨hC0, hd⟩ hR) ⟨ip_blind, va_recv hK.1 hP hc he, fun U hU hW => ⟨rfl, by rw [hU]; exact hP.sub is hfm, hK.warm hW, (hD.sub is hnd hC).weaken (fun _ _ _ _ => trivial)⟩⟩ rfl hn hsz hst (lv_room hrm) hdg hf) hP hD hS is hC (fun u => (ha2 u).trans ha1.symm) kk
theorem ip_S (F : CallFix p m c cc nL s args gw own) (hM : Met l y (Wd y bytes maxL ret) rm (ip_P D cB cI cJ As wc) (ip_Q D wc post vv w') 0 0 (inW wc)) (hG : GoodIn gw (va_wsS own index y (Wd y bytes maxL ret))) (hd : y.cls ≠ "java/lang/invoke/MethodHandle" ∧ y.cls ≠ "java/lang/invoke/VarHandle" ∧ (parseMethodDescriptor y.desc).map (fun d => d.parameters.length) = some n) (hr : rm.cells = 0 ∧ rm.slots = 0) (hR : rm.frames + 1 ≤ R.frames ∧ 8 + (maxL + 11) + rm.locals ≤ R.locals)
    (hP : va_P D classes ws H) (hK : KX D cB cI cJ s) (hD : va_D A ws) (hS : va_S A H0 H locs) (is : List Nat) (hnd : va_nd is = true) (hC : is.map (fun i => ws[i]?) = wc.map some) (as : List Nat) (ha1 : wc.map (·.1) = as) (ha2 : ∀ u, (w' u).map (·.1) = as) (hn : As.length = n) (hsz : ls.size = nL) (hst : st0 = As.reverse ++ rest) (hrm : (rest.map fun v => v.category).sum ≤ 8) (hf : cells ≤ R.cells ∧ slots ≤ R.slots) (hdg : decode cc pc = .ok (.invokestatic index, 3))
    (kk : ∀ (u : S) (H1 : Heap) (locs1 : List Loc), post u → va_P D classes (sw ws is (w' u)) H1 → va_D A (sw ws is (w' u)) → va_S A H0 H1 locs1 → W p l e R s m args below meth c H1 locs1 cells slots Q (F0 m (pc + 3) ls ((vv u).toList ++ rest))) : W p l e R s m args below meth c H locs cells slots Q (F0 m pc ls st0) := by
  have hfm : is.filterMap (fun i => ws[i]?) = wc := by
    have h1 : is.filterMap (fun i => ws[i]?) = (is.map (fun i => ws[i]?)).filterMap id := by rw [List.filterMap_map]; rfl
    rw [h1, hC, List.filterMap_map]
    simp
  exact ip_end (va_runS (n := n) F hM (va_cwS n F.2.2.2.2 hG rfl hr.1 hr.2 hd hR) ⟨ip_blind, fun U hU hW => ⟨rfl, by rw [hU]; exact hP.sub is hfm, hK.warm hW, (hD.sub is hnd hC).weaken (fun _ _ _ _ => trivial)⟩⟩ rfl hn hsz hst (lv_room hrm) hdg hf) hP hD hS is hC (fun u => (ha2 u).trans ha1.symm) kk
end Calls
end
section
/-! the pure picture: sums of eight bytes, how far two rows are alike, the best block, the pieces of a way, their bytes -/
def smP (g : Nat → Nat) (a : Nat) : Nat → Nat
  | 0 => 0
  | k + 1 => smP g a k + (k + 1) * g (a + k)
def smB (g : Nat → Nat) (a : Nat) : Nat := smP g a 8 % 256
theorem smP_le {g : Nat → Nat} (hg : ∀ i, g i < 256) (a : Nat) : ∀ k, smP g a k ≤ k * (k + 1) * 256
  | 0 => Nat.le_refl _
  | k + 1 => by
    have h1 := smP_le hg a k
    have h2 : (k + 1) * g (a + k) ≤ (k + 1) * 256 := Nat.mul_le_mul_left _ (Nat.le_of_lt (hg _))
    have h3 : (k + 1) * (k + 1 + 1) * 256 = k * (k + 1) * 256 + 2 * ((k + 1) * 256) := by
      rw [Nat.mul_add (k + 1) (k + 1) 1, Nat.add_mul, Nat.mul_comm k (k + 1), Nat.mul_add (k + 1) k 1, Nat.add_mul, Nat.mul_one]
      omega
    show smP g a k + (k + 1) * g (a + k) ≤ _
    omega
theorem smP_lt {g : Nat → Nat} (hg : ∀ i, g i < 256) (a : Nat) {k : Nat} (hk : k ≤ 8) : smP g a k < 2 ^ 20 := by
  have h := smP_le hg a k
  have h2 : k * (k + 1) ≤ 8 * 9 := Nat.mul_le_mul hk (by omega)
  have h3 : k * (k + 1) * 256 ≤ 8 * 9 * 256 := Nat.mul_le_mul_right _ h2
  omega
theorem smB_lt (g : Nat → Nat) (a : Nat) : smB g a < 256 := Nat.mod_lt _ (by decide)
theorem smP_congr {f g : Nat → Nat} {a b : Nat} : ∀ k, (∀ i, i < k → f (a + i) = g (b + i)) → smP f a k = smP g b k
  | 0, _ => rfl
  | k + 1, h => by
    show smP f a k + (k + 1) * f (a + k) = smP g b k + (k + 1) * g (b + k)
    rw [smP_congr k (fun i hi => h i (by omega)), h k (by omega)]
def q_alk (B : Nat → Nat) (n : Nat) (T : Nat → Nat) (m : Nat) : Nat → Nat → Nat → Nat
  | 0, _, _ => 0
  | f + 1, b, t => if b < n ∧ t < m ∧ B b = T t then q_alk B n T m f (b + 1) (t + 1) + 1 else 0
def alk (B : Nat → Nat) (n : Nat) (T : Nat → Nat) (m : Nat) (b t : Nat) : Nat := q_alk B n T m (m + 1) b t
theorem q_alk_eq {B : Nat → Nat} {n : Nat} {T : Nat → Nat} {m : Nat} : ∀ (k f b t : Nat), k < f → (∀ j, j < k → b + j < n ∧ t + j < m ∧ B (b + j) = T (t + j)) → ¬ (b + k < n ∧ t + k < m ∧ B (b + k) = T (t + k)) → q_alk B n T m f b t = k
  | 0, f + 1, b, t, _, _, h2 => by
    simp only [q_alk]
    rw [if_neg (by simpa using h2)]
  | k + 1, f + 1, b, t, hf, h1, h2 => by
    simp only [q_alk]
    rw [if_pos (by simpa using h1 0 (by omega)), q_alk_eq k f (b + 1) (t + 1) (by omega) (fun j hj => by
      have := h1 (j + 1) (by omega)
      rwa [show b + 1 + j = b + (j + 1) by omega, show t + 1 + j = t + (j + 1) by omega]) (by rwa [show b + 1 + k = b + (k + 1) by omega, show t + 1 + k = t + (k + 1) by omega])]
theorem alk_eq {B : Nat → Nat} {n : Nat} {T : Nat → Nat} {m b t k : Nat} (h1 : ∀ j, j < k → b + j < n ∧ t + j < m ∧ B (b + j) = T (t + j)) (h2 : ¬ (b + k < n ∧ t + k < m ∧ B (b + k) = T (t + k))) : alk B n T m b t = k := by
  refine q_alk_eq k (m + 1) b t ?_ h1 h2
  rcases Nat.eq_zero_or_pos k with h | h
  · omega
  · have := (h1 (k - 1) (by omega)).2.1
    omega
theorem q_alk_in {B : Nat → Nat} {n : Nat} {T : Nat → Nat} {m : Nat} : ∀ (f b t j : Nat), j < q_alk B n T m f b t → b + j < n ∧ t + j < m ∧ B (b + j) = T (t + j)
  | 0, b, t, j, h => by simp [q_alk] at h
  | f + 1, b, t, j, h => by
    simp only [q_alk] at h
    by_cases hc : b < n ∧ t < m ∧ B b = T t
    · rw [if_pos hc] at h
      cases j with
      | zero => simpa using hc
      | succ j =>
        have := q_alk_in (B := B) (n := n) (T := T) (m := m) f (b + 1) (t + 1) j (by omega)
        rwa [show b + 1 + j = b + (j + 1) by omega, show t + 1 + j = t + (j + 1) by omega] at this
    · rw [if_neg hc] at h
      omega
theorem alk_in {B : Nat → Nat} {n : Nat} {T : Nat → Nat} {m b t j : Nat} (h : j < alk B n T m b t) : b + j < n ∧ t + j < m ∧ B (b + j) = T (t + j) := q_alk_in _ _ _ _ h
theorem alk_le {B : Nat → Nat} {n : Nat} {T : Nat → Nat} {m b t : Nat} (h : 0 < alk B n T m b t) : b + alk B n T m b t ≤ n ∧ t + alk B n T m b t ≤ m := by
  have := alk_in (B := B) (n := n) (T := T) (m := m) (b := b) (t := t) (j := alk B n T m b t - 1) (by omega)
  omega
theorem alk_lt (B : Nat → Nat) (n : Nat) (T : Nat → Nat) (m b t : Nat) : alk B n T m b t ≤ m := by
  rcases Nat.eq_zero_or_pos (alk B n T m b t) with h | h
  · omega
  · have := alk_le h; omega
def bst (B : Nat → Nat) (n : Nat) (T : Nat → Nat) (m t : Nat) : Nat → Nat × Nat
  | 0 => (7, 0)
  | j + 1 => if (bst B n T m t j).1 < alk B n T m (8 * j) t then (alk B n T m (8 * j) t, 8 * j) else bst B n T m t j
def cst (B : Nat → Nat) (n : Nat) (T : Nat → Nat) (m t : Nat) : Nat → Nat × Nat
  | 0 => (0, 0)
  | j + 1 => if smB B (8 * j) = smB T t ∧ (cst B n T m t j).1 < alk B n T m (8 * j) t then (alk B n T m (8 * j) t, 8 * j) else cst B n T m t j
theorem alk_sm {B : Nat → Nat} {n : Nat} {T : Nat → Nat} {m b t : Nat} (h : 8 ≤ alk B n T m b t) : smB B b = smB T t := by
  unfold smB
  rw [smP_congr (f := B) (g := T) (a := b) (b := t) 8 (fun i hi => (alk_in (n := n) (m := m) (j := i) (by omega)).2.2)]
theorem bst_cst (B : Nat → Nat) (n : Nat) (T : Nat → Nat) (m t : Nat) : ∀ j, ((bst B n T m t j).1 = 7 ∧ (cst B n T m t j).1 < 8) ∨ (8 ≤ (bst B n T m t j).1 ∧ cst B n T m t j = bst B n T m t j)
  | 0 => Or.inl ⟨rfl, by show 0 < 8; omega⟩
  | j + 1 => by
    have ih := bst_cst B n T m t j
    simp only [bst, cst]
    by_cases h8 : 8 ≤ alk B n T m (8 * j) t
    · have hs := alk_sm h8
      rcases ih with ⟨h1, h2⟩ | ⟨h1, h2⟩
      · rw [if_pos (by omega), if_pos ⟨hs, by omega⟩]
        exact Or.inr ⟨h8, rfl⟩
      · by_cases hc : (bst B n T m t j).1 < alk B n T m (8 * j) t
        · rw [if_pos hc, if_pos ⟨hs, by rw [h2]; exact hc⟩]
          exact Or.inr ⟨h8, rfl⟩
        · rw [if_neg hc, if_neg (fun z => hc (by rw [← h2]; exact z.2))]
          exact Or.inr ⟨h1, h2⟩
    · rcases ih with ⟨h1, h2⟩ | ⟨h1, h2⟩
      · rw [if_neg (by omega)]
        refine Or.inl ⟨h1, ?_⟩
        by_cases hc : smB B (8 * j) = smB T t ∧ (cst B n T m t j).1 < alk B n T m (8 * j) t
        · rw [if_pos hc]; show alk B n T m (8 * j) t < 8; omega
        · rw [if_neg hc]; exact h2
      · rw [if_neg (by omega), if_neg (fun z => by rw [h2] at z; omega)]
        exact Or.inr ⟨h1, h2⟩
theorem bst_7 (B : Nat → Nat) (n : Nat) (T : Nat → Nat) (m t : Nat) : ∀ j, 7 ≤ (bst B n T m t j).1
  | 0 => Nat.le_refl 7
  | j + 1 => by
    have ih := bst_7 B n T m t j
    simp only [bst]
    by_cases hc : (bst B n T m t j).1 < alk B n T m (8 * j) t
    · rw [if_pos hc]; show 7 ≤ alk B n T m (8 * j) t; omega
    · rw [if_neg hc]; exact ih
theorem bst_in (B : Nat → Nat) (n : Nat) (T : Nat → Nat) (m t : Nat) : ∀ j, 7 < (bst B n T m t j).1 → (bst B n T m t j).2 + (bst B n T m t j).1 ≤ n ∧ t + (bst B n T m t j).1 ≤ m
  | 0, h => by simp [bst] at h
  | j + 1, h => by
    have ih := bst_in B n T m t j
    simp only [bst] at h ⊢
    by_cases hc : (bst B n T m t j).1 < alk B n T m (8 * j) t
    · rw [if_pos hc] at h ⊢
      have h' : 0 < alk B n T m (8 * j) t := Nat.lt_trans (by decide) (show 7 < alk B n T m (8 * j) t from h)
      exact alk_le h'
    · rw [if_neg hc] at h ⊢
      exact ih h
theorem bst_tail {B : Nat → Nat} {n : Nat} {T : Nat → Nat} {m t : Nat} (h : m < t + 8) (j : Nat) : (bst B n T m t j).1 = 7 := by
  have h1 := bst_7 B n T m t j
  rcases Nat.lt_or_ge 7 (bst B n T m t j).1 with h2 | h2
  · have := bst_in B n T m t j h2; omega
  · omega
theorem bst_le (B : Nat → Nat) (n : Nat) (T : Nat → Nat) (m t : Nat) (j : Nat) : (bst B n T m t j).1 ≤ m + 7 ∧ (bst B n T m t j).2 ≤ n := by
  rcases Nat.lt_or_ge 7 (bst B n T m t j).1 with h2 | h2
  · have := bst_in B n T m t j h2; omega
  · refine ⟨by omega, ?_⟩
    have : ∀ j, (bst B n T m t j).1 ≤ 7 → (bst B n T m t j).2 = 0 := by
      intro j
      induction j with
      | zero => intro _; rfl
      | succ j ih =>
        intro h
        simp only [bst] at h ⊢
        have h7 := bst_7 B n T m t j
        by_cases hc : (bst B n T m t j).1 < alk B n T m (8 * j) t
        · rw [if_pos hc] at h
          have h' : alk B n T m (8 * j) t ≤ 7 := h
          omega
        · rw [if_neg hc] at h ⊢
          exact ih h
    rw [this j h2]; omega
/-! the next block of a chain -/
def pI : Option Nat → Int32
  | none => -1
  | some b => nI b
def nxb (S : Nat → Nat) (s : Nat) : Nat → Nat → Option Nat
  | 0, _ => none
  | c + 1, j => if S j = s then some j else nxb S s c (j + 1)
def nx (S : Nat → Nat) (nb s j : Nat) : Option Nat := nxb S s (nb - j) j
theorem nx_end {S : Nat → Nat} {nb s j : Nat} (h : nb ≤ j) : nx S nb s j = none := by
  unfold nx
  rw [show nb - j = 0 by omega]; rfl
theorem nx_step {S : Nat → Nat} {nb s j : Nat} (h : j < nb) : nx S nb s j = if S j = s then some j else nx S nb s (j + 1) := by
  unfold nx
  obtain ⟨c, hc⟩ : ∃ c, nb - j = c + 1 := ⟨nb - j - 1, by omega⟩
  rw [hc, show nb - (j + 1) = c by omega]; rfl
theorem nxb_some {S : Nat → Nat} {s b : Nat} : ∀ (c j : Nat), nxb S s c j = some b → j ≤ b ∧ b < j + c ∧ S b = s ∧ ∀ i, j ≤ i → i < b → S i ≠ s
  | 0, j, h => by cases h
  | c + 1, j, h => by
    simp only [nxb] at h
    by_cases hs : S j = s
    · rw [if_pos hs] at h
      cases h
      exact ⟨Nat.le_refl _, by omega, hs, fun i h1 h2 => by omega⟩
    · rw [if_neg hs] at h
      obtain ⟨h1, h2, h3, h4⟩ := nxb_some c (j + 1) h
      refine ⟨by omega, by omega, h3, fun i h5 h6 => ?_⟩
      rcases Nat.eq_or_lt_of_le h5 with h7 | h7
      · rw [← h7]; exact hs
      · exact h4 i h7 h6
theorem nxb_none {S : Nat → Nat} {s : Nat} : ∀ (c j : Nat), nxb S s c j = none → ∀ i, j ≤ i → i < j + c → S i ≠ s
  | 0, j, h => fun i h1 h2 => by omega
  | c + 1, j, h => by
    simp only [nxb] at h
    by_cases hs : S j = s
    · rw [if_pos hs] at h; cases h
    · rw [if_neg hs] at h
      intro i h5 h6
      rcases Nat.eq_or_lt_of_le h5 with h7 | h7
      · rw [← h7]; exact hs
      · exact nxb_none c (j + 1) h i h7 (by omega)
theorem nx_some {S : Nat → Nat} {nb s j b : Nat} (h : nx S nb s j = some b) : j ≤ b ∧ b < nb ∧ S b = s ∧ ∀ i, j ≤ i → i < b → S i ≠ s := by
  obtain ⟨h1, h2, h3, h4⟩ := nxb_some _ _ h
  exact ⟨h1, by omega, h3, h4⟩
theorem nx_none {S : Nat → Nat} {nb s j : Nat} (h : nx S nb s j = none) : ∀ i, j ≤ i → i < nb → S i ≠ s := fun i h1 h2 => nxb_none _ _ h i h1 (by omega)
theorem cst_skip {B : Nat → Nat} {n : Nat} {T : Nat → Nat} {m t : Nat} : ∀ (d j : Nat), (∀ i, j ≤ i → i < j + d → smB B (8 * i) ≠ smB T t) → cst B n T m t (j + d) = cst B n T m t j
  | 0, j, _ => rfl
  | d + 1, j, h => by
    have ih := cst_skip (B := B) (n := n) (T := T) (m := m) (t := t) d j (fun i h1 h2 => h i h1 (by omega))
    show cst B n T m t (j + d + 1) = _
    simp only [cst]
    rw [if_neg (fun z => h (j + d) (by omega) (by omega) z.1), ih]
/-! pieces -/
abbrev Pce : Type := (Nat × Nat) ⊕ List Nat
def eP (p : Pce) : List Nat := match p with
  | .inl q => [1, q.1 / 256, q.1 % 256, q.2 / 256, q.2 % 256]
  | .inr l => 2 :: l.length / 256 :: l.length % 256 :: l
def enc (ps : List Pce) : List Nat := ps.flatMap eP
def nP (p : Pce) : Nat := match p with
  | .inl q => q.2
  | .inr l => l.length
def sN (ps : List Pce) : Nat := (ps.map nP).sum
def okP (p : Pce) : Prop := match p with
  | .inl q => q.1 < 600 ∧ 0 < q.2 ∧ q.2 ≤ 600
  | .inr l => 0 < l.length ∧ l.length ≤ 600 ∧ ∀ x ∈ l, x < 256
def okW (ps : List Pce) : Prop := (∀ p ∈ ps, okP p) ∧ sN ps ≤ 600 ∧ (enc ps).length ≤ 700
def fl (l : List Nat) : List Pce := match l with
  | [] => []
  | a :: r => [.inr (a :: r)]
def mkP (B : Nat → Nat) (n : Nat) (T : Nat → Nat) (m : Nat) : Nat → Nat → List Pce → List Nat → List Pce
  | 0, _, ps, ls => ps ++ fl ls
  | f + 1, t, ps, ls => if t < m then (if 7 < (bst B n T m t (n / 8)).1 then mkP B n T m f (t + (bst B n T m t (n / 8)).1) (ps ++ fl ls ++ [.inl ((bst B n T m t (n / 8)).2, (bst B n T m t (n / 8)).1)]) [] else mkP B n T m f (t + 1) ps (ls ++ [T t])) else ps ++ fl ls
def way (B : Nat → Nat) (n : Nat) (T : Nat → Nat) (m : Nat) : List Pce := mkP B n T m m 0 [] []
theorem mkP_stop {B : Nat → Nat} {n : Nat} {T : Nat → Nat} {m f t : Nat} {ps : List Pce} {ls : List Nat} (h : m ≤ t) : mkP B n T m f t ps ls = ps ++ fl ls := by
  cases f with
  | zero => rfl
  | succ f => simp only [mkP]; rw [if_neg (by omega)]
theorem mkP_copy {B : Nat → Nat} {n : Nat} {T : Nat → Nat} {m f t : Nat} {ps : List Pce} {ls : List Nat} (h : t < m) (h2 : 7 < (bst B n T m t (n / 8)).1) : mkP B n T m (f + 1) t ps ls = mkP B n T m f (t + (bst B n T m t (n / 8)).1) (ps ++ fl ls ++ [.inl ((bst B n T m t (n / 8)).2, (bst B n T m t (n / 8)).1)]) [] := by
  simp only [mkP]; rw [if_pos h, if_pos h2]
theorem mkP_lit {B : Nat → Nat} {n : Nat} {T : Nat → Nat} {m f t : Nat} {ps : List Pce} {ls : List Nat} (h : t < m) (h2 : (bst B n T m t (n / 8)).1 = 7) : mkP B n T m (f + 1) t ps ls = mkP B n T m f (t + 1) ps (ls ++ [T t]) := by
  simp only [mkP]; rw [if_pos h, if_neg (by omega)]
/-- a stretch of an array as a list -/
def sg (T : Nat → Nat) (a k : Nat) : List Nat := (List.range k).map (fun i => T (a + i))
theorem sg_len (T : Nat → Nat) (a k : Nat) : (sg T a k).length = k := by simp [sg]
theorem sg_snoc (T : Nat → Nat) (a k : Nat) : sg T a (k + 1) = sg T a k ++ [T (a + k)] := by simp [sg, List.range_succ]
theorem sg_app (T : Nat → Nat) (a k j : Nat) : sg T a (k + j) = sg T a k ++ sg T (a + k) j := by
  induction j with
  | zero => simp [sg]
  | succ j ih => rw [← Nat.add_assoc, sg_snoc, ih, sg_snoc, List.append_assoc, Nat.add_assoc a k j]
theorem sg_get {T : Nat → Nat} {a k j : Nat} (h : j < k) : (sg T a k).getD j 0 = T (a + j) := by
  simp [sg, List.getD_eq_getElem?_getD, h]
theorem sg_256 {T : Nat → Nat} (hT : ∀ i, T i < 256) (a k : Nat) : ∀ x ∈ sg T a k, x < 256 := by
  intro x hx
  simp only [sg, List.mem_map] at hx
  obtain ⟨i, -, rfl⟩ := hx
  exact hT _
theorem mkP_tail {B : Nat → Nat} {n : Nat} {T : Nat → Nat} {m : Nat} : ∀ (f t : Nat) (ps : List Pce) (ls : List Nat), t ≤ m → m < t + 8 → m ≤ f + t → mkP B n T m f t ps ls = ps ++ fl (ls ++ sg T t (m - t))
  | 0, t, ps, ls, h1, h2, h3 => by
    rw [show m - t = 0 by omega]
    simp [mkP, sg]
  | f + 1, t, ps, ls, h1, h2, h3 => by
    rcases Nat.lt_or_ge t m with h | h
    · rw [mkP_lit h (bst_tail h2 _), mkP_tail f (t + 1) ps (ls ++ [T t]) (by omega) (by omega) (by omega)]
      obtain ⟨d, hd⟩ : ∃ d, m - t = 1 + d := ⟨m - t - 1, by omega⟩
      rw [hd, sg_app T t 1 d, show m - (t + 1) = d by omega, List.append_assoc]
      rfl
    · rw [mkP_stop h, show m - t = 0 by omega]
      simp [sg]
theorem enc_app (a b : List Pce) : enc (a ++ b) = enc a ++ enc b := by simp [enc]
theorem enc_one (p : Pce) : enc [p] = eP p := by simp [enc]
theorem sN_app (a b : List Pce) : sN (a ++ b) = sN a + sN b := by simp [sN]
theorem fl_len (l : List Nat) : (enc (fl l)).length = if l.length = 0 then 0 else l.length + 3 := by
  cases l with
  | nil => rfl
  | cons a r => simp [fl, enc, eP]
theorem fl_sN (l : List Nat) : sN (fl l) = l.length := by
  cases l with
  | nil => rfl
  | cons a r => simp [fl, sN, nP]
theorem fl_ok {l : List Nat} (h : ∀ x ∈ l, x < 256) (h2 : l.length ≤ 600) : ∀ p ∈ fl l, okP p := by
  cases l with
  | nil => intro p hp; cases hp
  | cons a r =>
    intro p hp
    have : p = .inr (a :: r) := by simpa [fl] using hp
    rw [this]
    exact ⟨by simp, h2, h⟩
theorem fl_cons {l : List Nat} (h : 0 < l.length) : fl l = [.inr l] := by
  cases l with
  | nil => simp at h
  | cons a r => rfl
/-- what stays of a way under way -/
def mkI (m t : Nat) (ps : List Pce) (ls : List Nat) : Prop := (∀ p ∈ ps, okP p) ∧ (∀ x ∈ ls, x < 256) ∧ sN ps + ls.length = t ∧ (enc ps).length + ls.length ≤ t ∧ t ≤ m
theorem mkI_copy {B : Nat → Nat} {n : Nat} {T : Nat → Nat} {m t : Nat} {ps : List Pce} {ls : List Nat} (hn : n ≤ 600) (hm : m ≤ 600) (h : mkI m t ps ls) (h2 : 7 < (bst B n T m t (n / 8)).1) : mkI m (t + (bst B n T m t (n / 8)).1) (ps ++ fl ls ++ [.inl ((bst B n T m t (n / 8)).2, (bst B n T m t (n / 8)).1)]) [] := by
  obtain ⟨h3, h4, h5, h6, h7⟩ := h
  have hb := bst_in B n T m t _ h2
  have hl := fl_len ls
  refine ⟨?_, (fun x hx => absurd hx List.not_mem_nil), ?_, ?_, hb.2⟩
  · intro p hp
    rcases List.mem_append.mp hp with hp | hp
    · rcases List.mem_append.mp hp with hp | hp
      · exact h3 p hp
      · exact fl_ok h4 (by omega) p hp
    · rw [List.mem_singleton.mp hp]
      refine ⟨?_, ?_, ?_⟩ <;> dsimp only <;> omega
  · rw [sN_app, sN_app, fl_sN]
    have h9 : ∀ q : Nat × Nat, sN [.inl q] = q.2 := fun q => by simp [sN, nP]
    rw [h9]
    simp only [List.length_nil]
    omega
  · rw [enc_app, enc_app, enc_one]
    simp only [List.length_append, hl, eP, List.length_cons, List.length_nil]
    split <;> omega
theorem mkI_lit {T : Nat → Nat} {m t : Nat} {ps : List Pce} {ls : List Nat} (hT : ∀ i, T i < 256) (h : mkI m t ps ls) (ht : t < m) : mkI m (t + 1) ps (ls ++ [T t]) := by
  obtain ⟨h3, h4, h5, h6, h7⟩ := h
  refine ⟨h3, ?_, ?_, ?_, ht⟩
  · intro x hx
    rcases List.mem_append.mp hx with hx | hx
    · exact h4 x hx
    · rw [List.mem_singleton.mp hx]; exact hT _
  · simp; omega
  · simp; omega
theorem mkI_end {m t : Nat} {ps : List Pce} {ls : List Nat} (hm : m ≤ 600) (h : mkI m t ps ls) : okW (ps ++ fl ls) ∧ (enc (ps ++ fl ls)).length ≤ t + 3 := by
  obtain ⟨h3, h4, h5, h6, h7⟩ := h
  have hl := fl_len ls
  have hle : (enc (ps ++ fl ls)).length ≤ t + 3 := by
    rw [enc_app, List.length_append, hl]
    split <;> omega
  refine ⟨⟨?_, ?_, by omega⟩, hle⟩
  · intro p hp
    rcases List.mem_append.mp hp with hp | hp
    · exact h3 p hp
    · exact fl_ok h4 (by omega) p hp
  · rw [sN_app, fl_sN]; omega
theorem mkP_ok {B : Nat → Nat} {n : Nat} {T : Nat → Nat} {m : Nat} (hn : n ≤ 600) (hm : m ≤ 600) (hT : ∀ i, T i < 256) : ∀ (f t : Nat) (ps : List Pce) (ls : List Nat), mkI m t ps ls → okW (mkP B n T m f t ps ls)
  | 0, t, ps, ls, h => (mkI_end hm h).1
  | f + 1, t, ps, ls, h => by
    rcases Nat.lt_or_ge t m with ht | ht
    · rcases Nat.lt_or_ge 7 (bst B n T m t (n / 8)).1 with h2 | h2
      · rw [mkP_copy ht h2]
        exact mkP_ok hn hm hT f _ _ _ (mkI_copy hn hm h h2)
      · rw [mkP_lit ht (by have := bst_7 B n T m t (n / 8); omega)]
        exact mkP_ok hn hm hT f _ _ _ (mkI_lit hT h ht)
    · rw [mkP_stop ht]
      exact (mkI_end hm h).1
theorem mkI_0 (m : Nat) : mkI m 0 [] [] := ⟨fun p hp => (by cases hp), fun x hx => (by cases hx), rfl, Nat.le_refl _, Nat.zero_le _⟩
theorem way_ok {B : Nat → Nat} {n : Nat} {T : Nat → Nat} {m : Nat} (hn : n ≤ 600) (hm : m ≤ 600) (hT : ∀ i, T i < 256) : okW (way B n T m) := mkP_ok hn hm hT m 0 [] [] (mkI_0 m)
end
section
set_option maxHeartbeats 4000000 in
set_option maxRecDepth 100000 in
theorem c_De_out (l : Launch) (D : va_G) (cB cI cJ : ClassId) (d ah an ao : Nat) (z : Int32) : Met l y_De_out (Wd y_De_out b_De_out 1 (some (.array .byte))) ({ frames := 0, cells := 0, slots := 0, locals := 0 }) (ro_P D cB cI cJ [.ref d] [(d, .inr (1, [.ref ah, .ref an, .ref ao, .int z]))]) (ro_Q (some (.ref ao))) 0 0 (fun _ => False) := by
  refine mt_ro (by decide) (Nat.le_of_ble_eq_true rfl) ?_
  intro p e s m args below meth c ls Q hx hb hr hml hw hown hlk hP hK hl hQ
  have hown : s.vm.findClass R_De = some m.cls := hown
  have hl : lv_has ls 1 [(0, .ref d)] := hl
  refine lv_aload_n hx hb d_De_out_0 rfl (lv_at hl 0 rfl) ?_
  refine va_get (D := D) (ci := 1) (v := .ref ao) (C := R_De) (T := F_De) (N := 4) hx hb hw i_De hown hK.1 hP 0 rfl rfl 2 (by decide) (hw _ k_24) (fun _ h9 => h9) rfl d_De_out_1 ?_
  exact ro_aret hx hb hr hlk hQ d_De_out_4
set_option maxHeartbeats 4000000 in
set_option maxRecDepth 100000 in
theorem c_De_size (l : Launch) (D : va_G) (cB cI cJ : ClassId) (d ah an ao : Nat) (z : Int32) : Met l y_De_size (Wd y_De_size b_De_size 1 (some .int)) ({ frames := 0, cells := 0, slots := 0, locals := 0 }) (ro_P D cB cI cJ [.ref d] [(d, .inr (1, [.ref ah, .ref an, .ref ao, .int z]))]) (ro_Q (some (.int z))) 0 0 (fun _ => False) := by
  refine mt_ro (by decide) (Nat.le_of_ble_eq_true rfl) ?_
  intro p e s m args below meth c ls Q hx hb hr hml hw hown hlk hP hK hl hQ
  have hown : s.vm.findClass R_De = some m.cls := hown
  have hl : lv_has ls 1 [(0, .ref d)] := hl
  refine lv_aload_n hx hb d_De_size_0 rfl (lv_at hl 0 rfl) ?_
  refine va_get (D := D) (ci := 1) (v := .int z) (C := R_De) (T := F_De) (N := 4) hx hb hw i_De hown hK.1 hP 0 rfl rfl 3 (by decide) (hw _ k_25) (fun _ h9 => h9) rfl d_De_size_1 ?_
  exact ro_iret hx hb hr hlk rfl hQ d_De_size_4
set_option maxHeartbeats 4000000 in
set_option maxRecDepth 100000 in
/-- Delta.two: two bytes as a number -/
theorem c_De_two (l : Launch) (D : va_G) (cB cI cJ : ClassId) (a : Nat) (g : Nat → Nat) (k : Nat) (hg : ∀ i, g i < 256) (hk : k + 1 < 3064) : Met l y_De_two (Wd y_De_two b_De_two 2 (some .int)) ({ frames := 0, cells := 0, slots := 0, locals := 0 }) (ro_P D cB cI cJ [.ref a, .int (nI k)] [(a, .inl (cB, 3064, .inl (bA g)))]) (ro_Q (some (.int (nI (g k * 256 + g (k + 1)))))) 0 0 (fun _ => False) := by
  refine mt_ro (by decide) (Nat.le_of_ble_eq_true rfl) ?_
  intro p e s m args below meth c ls Q hx hb hr hml hw hown hlk hP hK hl hQ
  have hown : s.vm.findClass R_De = some m.cls := hown
  have hl : lv_has ls 2 [(0, .ref a), (1, .int (nI k))] := hl
  refine lv_aload_n hx hb d_De_two_0 rfl (lv_at hl 0 rfl) ?_
  refine lv_iload_n hx hb d_De_two_1 rfl (lv_at hl 1 rfl) ?_
  refine ba_ld hx hb hK.1 hP 0 0 rfl rfl (by omega) (by decide) d_De_two_2 ?_
  refine lv_sipush (v := nI 255) hx hb d_De_two_3 (by decide +kernel) ?_
  refine lv_iand hx hb d_De_two_6 ?_
  refine lv_bipush (v := nI 8) hx hb d_De_two_7 (by decide +kernel) ?_
  refine lv_ishl hx hb d_De_two_9 ?_
  refine lv_aload_n hx hb d_De_two_10 rfl (lv_at hl 0 rfl) ?_
  refine lv_iload_n hx hb d_De_two_11 rfl (lv_at hl 1 rfl) ?_
  refine lv_iconst (v := nI 1) hx hb d_De_two_12 (by decide +kernel) ?_
  refine n_iadd hx hb d_De_two_13 ?_
  refine ba_ld hx hb hK.1 hP 0 0 rfl rfl (by omega) (by decide) d_De_two_14 ?_
  refine lv_sipush (v := nI 255) hx hb d_De_two_15 (by decide +kernel) ?_
  refine lv_iand hx hb d_De_two_18 ?_
  refine lv_ior hx hb d_De_two_19 ?_
  exact ro_iret hx hb hr hlk (nI_two (hg _) (hg _)) hQ d_De_two_20
set_option maxHeartbeats 4000000 in
set_option maxRecDepth 100000 in
/-- Delta.sum: the sum of eight bytes from a place on -/
theorem c_De_sum (l : Launch) (D : va_G) (cB cI cJ : ClassId) (a : Nat) (g : Nat → Nat) (k : Nat) (hg : ∀ i, g i < 256) (hk : k + 8 ≤ 600) : Met l y_De_sum (Wd y_De_sum b_De_sum 4 (some .int)) ({ frames := 0, cells := 0, slots := 0, locals := 0 }) (ro_P D cB cI cJ [.ref a, .int (nI k)] [(a, .inl (cB, 600, .inl (bA g)))]) (ro_Q (some (.int (nI (smB g k))))) 0 0 (fun _ => False) := by
  refine mt_ro (by decide) (Nat.le_of_ble_eq_true rfl) ?_
  intro p e s m args below meth c ls Q hx hb hr hml hw hown hlk hP hK hl hQ
  have hown : s.vm.findClass R_De = some m.cls := hown
  have hl : lv_has ls 4 [(0, .ref a), (1, .int (nI k))] := hl
  have loop : ∀ (f i : Nat), i ≤ 8 → 8 < i + f → ∀ ls : Array Slot, lv_has ls 4 [(3, .int (nI i)), (2, .int (nI (smP g k i))), (0, .ref a), (1, .int (nI k))] → W p l e ({ frames := 0, cells := 0, slots := 0, locals := 0 }) s m args below meth c s.heap [] 0 0 Q (F0 m 4 ls []) := by
    intro f
    induction f with
    | zero => intro i h1 h2; omega
    | succ f ih =>
      intro i h1 h2 ls hl
      refine lv_iload_n hx hb d_De_sum_4 rfl (lv_at hl 0 rfl) ?_
      refine lv_bipush (v := nI 8) hx hb d_De_sum_5 (by decide +kernel) ?_
      refine n_icmp_ge (tgt := 32) hx hb d_De_sum_7 (by decide) (by omega) (by omega) (fun c_7 => ?_) (fun c_7 => ?_)
      · have hi : i = 8 := by omega
        subst hi
        refine lv_iload_n hx hb d_De_sum_32 rfl (lv_at hl 1 rfl) ?_
        refine lv_sipush (v := nI 255) hx hb d_De_sum_33 (by decide +kernel) ?_
        refine lv_iand hx hb d_De_sum_36 ?_
        exact ro_iret hx hb hr hlk (pk_andN (Nat.lt_of_lt_of_le (smP_lt hg k (Nat.le_refl 8)) (by decide)) 8 (by decide +kernel)) hQ d_De_sum_37
      · refine lv_iload_n hx hb d_De_sum_10 rfl (lv_at hl 1 rfl) ?_
        refine lv_iload_n hx hb d_De_sum_11 rfl (lv_at hl 0 rfl) ?_
        refine lv_iconst (v := nI 1) hx hb d_De_sum_12 (by decide +kernel) ?_
        refine n_iadd hx hb d_De_sum_13 ?_
        refine lv_aload_n hx hb d_De_sum_14 rfl (lv_at hl 2 rfl) ?_
        refine lv_iload_n hx hb d_De_sum_15 rfl (lv_at hl 3 rfl) ?_
        refine lv_iload_n hx hb d_De_sum_16 rfl (lv_at hl 0 rfl) ?_
        refine n_iadd hx hb d_De_sum_17 ?_
        refine ba_ld hx hb hK.1 hP 0 0 rfl rfl (by omega) (by decide) d_De_sum_18 ?_
        refine lv_sipush (v := nI 255) hx hb d_De_sum_19 (by decide +kernel) ?_
        refine lv_iand hx hb d_De_sum_22 ?_
        refine tv_i (y := nI (g (k + i))) (bI_255 (hg _)) ?_
        refine n_imul hx hb d_De_sum_23 ?_
        refine n_iadd hx hb d_De_sum_24 ?_
        refine tv_i (y := nI (smP g k (i + 1))) rfl ?_
        refine lv_istore_n (lv' := [(2, .int (nI (smP g k (i + 1)))), (3, .int (nI i)), (0, .ref a), (1, .int (nI k))]) hx hb d_De_sum_25 rfl hl (by decide) rfl (fun ls hl => ?_)
        refine lv_iinc (v := nI (i + 1)) (lv' := [(3, .int (nI (i + 1))), (2, .int (nI (smP g k (i + 1)))), (0, .ref a), (1, .int (nI k))]) hx hb d_De_sum_26 hl (k := 1) rfl (nI_inc1 _) (by decide) rfl (fun ls hl => ?_)
        refine lv_goto (tgt := 4) hx hb d_De_sum_29 (by decide) ?_
        exact ih (i + 1) (by omega) (by omega) ls (lv_sub hl [0, 1, 2, 3] rfl)
  refine lv_iconst (v := nI 0) hx hb d_De_sum_0 (by decide +kernel) ?_
  refine lv_istore_n (lv' := [(2, .int (nI 0)), (0, .ref a), (1, .int (nI k))]) hx hb d_De_sum_1 rfl hl (by decide) rfl (fun ls hl => ?_)
  refine lv_iconst (v := nI 0) hx hb d_De_sum_2 (by decide +kernel) ?_
  refine lv_istore_n (lv' := [(3, .int (nI 0)), (2, .int (nI 0)), (0, .ref a), (1, .int (nI k))]) hx hb d_De_sum_3 rfl hl (by decide) rfl (fun ls hl => ?_)
  exact loop 9 0 (by omega) (by omega) ls (lv_sub hl [0, 1, 2, 3] rfl)
set_option maxHeartbeats 4000000 in
set_option maxRecDepth 100000 in
/-- Delta.alike: how many bytes are alike -/
theorem c_De_alike (l : Launch) (D : va_G) (cB cI cJ : ClassId) (ta ba : Nat) (T B : Nat → Nat) (mm n t b : Nat) (hT : ∀ i, T i < 256) (hB : ∀ i, B i < 256) (hm : mm ≤ 600) (hn : n ≤ 600) (ht : t ≤ 600) (hb0 : b ≤ 600) : Met l y_De_alike (Wd y_De_alike b_De_alike 7 (some .int)) ({ frames := 0, cells := 0, slots := 0, locals := 0 }) (ro_P D cB cI cJ [.ref ta, .int (nI mm), .int (nI t), .ref ba, .int (nI n), .int (nI b)] [(ta, .inl (cB, 600, .inl (bA T))), (ba, .inl (cB, 600, .inl (bA B)))]) (ro_Q (some (.int (nI (alk B n T mm b t))))) 0 0 (fun _ => False) := by
  refine mt_ro (by decide) (Nat.le_of_ble_eq_true rfl) ?_
  intro p e s m args below meth c ls Q hx hb hr hml hw hown hlk hP hK hl hQ
  have hown : s.vm.findClass R_De = some m.cls := hown
  have hl : lv_has ls 7 [(0, .ref ta), (1, .int (nI mm)), (2, .int (nI t)), (3, .ref ba), (4, .int (nI n)), (5, .int (nI b))] := hl
  have loop : ∀ (f k : Nat), k ≤ 600 → 601 < k + f → (∀ j, j < k → b + j < n ∧ t + j < mm ∧ B (b + j) = T (t + j)) → ∀ ls : Array Slot, lv_has ls 7 [(6, .int (nI k)), (0, .ref ta), (1, .int (nI mm)), (2, .int (nI t)), (3, .ref ba), (4, .int (nI n)), (5, .int (nI b))] → W p l e ({ frames := 0, cells := 0, slots := 0, locals := 0 }) s m args below meth c s.heap [] 0 0 Q (F0 m 3 ls []) := by
    intro f
    induction f with
    | zero => intro k h1 h2; omega
    | succ f ih =>
      intro k h1 h2 hj ls hl
      refine lv_iload_n hx hb d_De_alike_3 rfl (lv_at hl 3 rfl) ?_
      refine lv_iload hx hb d_De_alike_4 (lv_at hl 0 rfl) ?_
      refine n_iadd hx hb d_De_alike_6 ?_
      refine lv_iload_n hx hb d_De_alike_7 rfl (lv_at hl 2 rfl) ?_
      refine n_icmp_ge (tgt := 43) hx hb d_De_alike_8 (by decide) (by omega) (by omega) (fun c_8 => ?_) (fun c_8 => ?_)
      · refine lv_iload hx hb d_De_alike_43 (lv_at hl 0 rfl) ?_
        exact ro_iret hx hb hr hlk (by rw [alk_eq hj (by omega)]) hQ d_De_alike_45
      · refine lv_iload hx hb d_De_alike_11 (lv_at hl 6 rfl) ?_
        refine lv_iload hx hb d_De_alike_13 (lv_at hl 0 rfl) ?_
        refine n_iadd hx hb d_De_alike_15 ?_
        refine lv_iload hx hb d_De_alike_16 (lv_at hl 5 rfl) ?_
        refine n_icmp_ge (tgt := 43) hx hb d_De_alike_18 (by decide) (by omega) (by omega) (fun c_18 => ?_) (fun c_18 => ?_)
        · refine lv_iload hx hb d_De_alike_43 (lv_at hl 0 rfl) ?_
          exact ro_iret hx hb hr hlk (by rw [alk_eq hj (by omega)]) hQ d_De_alike_45
        · refine lv_aload_n hx hb d_De_alike_21 rfl (lv_at hl 1 rfl) ?_
          refine lv_iload_n hx hb d_De_alike_22 rfl (lv_at hl 3 rfl) ?_
          refine lv_iload hx hb d_De_alike_23 (lv_at hl 0 rfl) ?_
          refine n_iadd hx hb d_De_alike_25 ?_
          refine ba_ld hx hb hK.1 hP 0 0 rfl rfl (by omega) (by decide) d_De_alike_26 ?_
          refine lv_aload_n hx hb d_De_alike_27 rfl (lv_at hl 4 rfl) ?_
          refine lv_iload hx hb d_De_alike_28 (lv_at hl 6 rfl) ?_
          refine lv_iload hx hb d_De_alike_30 (lv_at hl 0 rfl) ?_
          refine n_iadd hx hb d_De_alike_32 ?_
          refine ba_ld hx hb hK.1 hP 1 0 rfl rfl (by omega) (by decide) d_De_alike_33 ?_
          refine b_icmp_ne (tgt := 43) hx hb d_De_alike_34 (by decide) (hT _) (hB _) (fun c_34 => ?_) (fun c_34 => ?_)
          · refine lv_iload hx hb d_De_alike_43 (lv_at hl 0 rfl) ?_
            exact ro_iret hx hb hr hlk (by rw [alk_eq hj (by omega)]) hQ d_De_alike_45
          · refine lv_iinc (v := nI (k + 1)) (lv' := [(6, .int (nI (k + 1))), (0, .ref ta), (1, .int (nI mm)), (2, .int (nI t)), (3, .ref ba), (4, .int (nI n)), (5, .int (nI b))]) hx hb d_De_alike_37 hl (k := 0) rfl (nI_inc1 _) (by decide) rfl (fun ls hl => ?_)
            refine lv_goto (tgt := 3) hx hb d_De_alike_40 (by decide) ?_
            refine ih (k + 1) (by omega) (by omega) (fun j h => ?_) ls (lv_sub hl [0, 1, 2, 3, 4, 5, 6] rfl)
            rcases Nat.lt_or_ge j k with h6 | h6
            · exact hj j h6
            · rw [show j = k by omega]; exact ⟨by omega, by omega, c_34.symm⟩
  refine lv_iconst (v := nI 0) hx hb d_De_alike_0 (by decide +kernel) ?_
  refine lv_istore (lv' := [(6, .int (nI 0)), (0, .ref ta), (1, .int (nI mm)), (2, .int (nI t)), (3, .ref ba), (4, .int (nI n)), (5, .int (nI b))]) hx hb d_De_alike_1 hl (by decide) rfl (fun ls hl => ?_)
  exact loop 602 0 (by omega) (by omega) (fun j h => absurd h (Nat.not_lt_zero j)) ls (lv_sub hl [0, 1, 2, 3, 4, 5, 6] rfl)
end
section
theorem spl_sn0 (o : Nat → Nat) (L : List Nat) (b : Nat) {sz : Nat} (hs : sz = L.length) : va_up (spl o 0 L) sz b = spl o 0 (L ++ [b]) := by
  have := spl_snoc o 0 b L
  rwa [Nat.zero_add, ← hs] at this
set_option maxHeartbeats 4000000 in
set_option maxRecDepth 100000 in
/-- Delta.put: a byte more -/
theorem c_De_put (l : Launch) (D : va_G) (cB cI cJ : ClassId) (d ah an ao : Nat) (o : Nat → Nat) (L : List Nat) (sz : Nat) (hs : sz = L.length) (x : Int32) (b : Nat) (hv : x.toInt8.toInt32 = bI b) (hsz : sz < 3064) : Met l y_De_put (Wd y_De_put b_De_put 2 none) ({ frames := 0, cells := 0, slots := 0, locals := 0 }) (ip_P D cB cI cJ [.ref d, .int x] [(d, .inr (1, [.ref ah, .ref an, .ref ao, .int (nI sz)])), (ao, .inl (cB, 3064, .inl (bA (spl o 0 L))))]) (ip_Q D [(d, .inr (1, [.ref ah, .ref an, .ref ao, .int (nI sz)])), (ao, .inl (cB, 3064, .inl (bA (spl o 0 L))))] (fun _ : Unit => True) (fun _ : Unit => none) (fun _ : Unit => [(d, .inr (1, [.ref ah, .ref an, .ref ao, .int (nI (sz + 1))])), (ao, .inl (cB, 3064, .inl (bA (spl o 0 (L ++ [b])))))])) 0 0 (inW [(d, .inr (1, [.ref ah, .ref an, .ref ao, .int (nI sz)])), (ao, .inl (cB, 3064, .inl (bA (spl o 0 L))))]) := by
  refine mt_ip (by decide) (Nat.le_of_ble_eq_true rfl) ?_
  intro p e s m args below meth c ls Q A hx hb hr hml hw hown hlk hP hK hD hS hl hAe hQ
  have hown : s.vm.findClass R_De = some m.cls := hown
  have hl : lv_has ls 2 [(0, .ref d), (1, .int x)] := hl
  refine lv_aload_n hx hb d_De_put_0 rfl (lv_at hl 0 rfl) ?_
  refine va_get (D := D) (ci := 1) (v := .ref ao) (C := R_De) (T := F_De) (N := 4) hx hb hw i_De hown hK.1 hP 0 rfl rfl 2 (by decide) (hw _ k_24) (fun _ h9 => h9) rfl d_De_put_1 ?_
  refine lv_aload_n hx hb d_De_put_4 rfl (lv_at hl 0 rfl) ?_
  refine lv_dup hx hb d_De_put_5 rfl ?_
  refine va_get (D := D) (ci := 1) (v := .int (nI sz)) (C := R_De) (T := F_De) (N := 4) hx hb hw i_De hown hK.1 hP 0 rfl rfl 3 (by decide) (hw _ k_25) (fun _ h9 => h9) rfl d_De_put_6 ?_
  refine lv_dup_x1 hx hb d_De_put_9 rfl rfl ?_
  refine lv_iconst (v := nI 1) hx hb d_De_put_10 (by decide +kernel) ?_
  refine n_iadd hx hb d_De_put_11 ?_
  refine va_put (D := D) (ci := 1) (v := .int (nI (sz + 1))) (ty := .int) (C := R_De) (T := F_De) (N := 4) hx hb hw i_De t_De t_De_ok n_De hown hK.1 hP hD hS 0 rfl rfl 3 (by decide) (hw _ k_25) (fun _ h9 => h9) rfl (by decide +kernel) rfl rfl (Nat.le_of_ble_eq_true rfl) d_De_put_12 (fun H locs hP hD hS => ?_)
  have hP : va_P D classes [(d, .inr (1, [.ref ah, .ref an, .ref ao, .int (nI (sz + 1))])), (ao, .inl (cB, 3064, .inl (bA (spl o 0 L))))] H := hP
  have hD : va_D A [(d, .inr (1, [.ref ah, .ref an, .ref ao, .int (nI (sz + 1))])), (ao, .inl (cB, 3064, .inl (bA (spl o 0 L))))] := hD
  refine lv_iload_n hx hb d_De_put_15 rfl (lv_at hl 1 rfl) ?_
  refine lv_i2b hx hb d_De_put_16 rfl ?_
  refine tv_i (y := bI b) (hv) ?_
  refine ba_st hx hb hK.1 hP hD hS 1 0 rfl rfl (by omega) (by decide) d_De_put_17 (fun H locs hP hD hS => ?_)
  rw [show va_up (spl o 0 L) sz b = spl o 0 (L ++ [b]) from spl_sn0 o L b hs] at hP hD
  have hP : va_P D classes [(d, .inr (1, [.ref ah, .ref an, .ref ao, .int (nI (sz + 1))])), (ao, .inl (cB, 3064, .inl (bA (spl o 0 (L ++ [b])))))] H := hP
  have hD : va_D A [(d, .inr (1, [.ref ah, .ref an, .ref ao, .int (nI (sz + 1))])), (ao, .inl (cB, 3064, .inl (bA (spl o 0 (L ++ [b])))))] := hD
  exact ip_vret hx hb hr hlk hAe hS () rfl trivial hP hQ d_De_put_18
set_option maxHeartbeats 4000000 in
set_option maxRecDepth 100000 in
/-- Delta.putTwo: two bytes more -/
theorem c_De_putTwo (l : Launch) (D : va_G) (cB cI cJ : ClassId) (d ah an ao : Nat) (o : Nat → Nat) (L : List Nat) (sz : Nat) (hs : sz = L.length) (v : Nat) (hv : v < 65536) (hsz : sz + 1 < 3064) : Met l y_De_putTwo (Wd y_De_putTwo b_De_putTwo 2 none) ({ frames := 1, cells := 0, slots := 0, locals := 30 }) (ip_P D cB cI cJ [.ref d, .int (nI v)] [(d, .inr (1, [.ref ah, .ref an, .ref ao, .int (nI sz)])), (ao, .inl (cB, 3064, .inl (bA (spl o 0 L))))]) (ip_Q D [(d, .inr (1, [.ref ah, .ref an, .ref ao, .int (nI sz)])), (ao, .inl (cB, 3064, .inl (bA (spl o 0 L))))] (fun _ : Unit => True) (fun _ : Unit => none) (fun _ : Unit => [(d, .inr (1, [.ref ah, .ref an, .ref ao, .int (nI (sz + 1 + 1))])), (ao, .inl (cB, 3064, .inl (bA (spl o 0 (L ++ [v / 256] ++ [v % 256])))))])) 0 0 (inW [(d, .inr (1, [.ref ah, .ref an, .ref ao, .int (nI sz)])), (ao, .inl (cB, 3064, .inl (bA (spl o 0 L))))]) := by
  refine mt_ip (by decide) (Nat.le_of_ble_eq_true rfl) ?_
  intro p e s m args below meth c ls Q A hx hb hr hml hw hown hlk hP hK hD hS hl hAe hQ
  have hown : s.vm.findClass R_De = some m.cls := hown
  have hl : lv_has ls 2 [(0, .ref d), (1, .int (nI v))] := hl
  refine lv_aload_n hx hb d_De_putTwo_0 rfl (lv_at hl 0 rfl) ?_
  refine lv_iload_n hx hb d_De_putTwo_1 rfl (lv_at hl 1 rfl) ?_
  refine lv_bipush (v := nI 8) hx hb d_De_putTwo_2 (by decide +kernel) ?_
  refine lv_ishr hx hb d_De_putTwo_4 ?_
  refine tv_i (y := nI (v / 256)) (nI_shr8 (by omega)) ?_
  refine ip_V (As := [.int (nI (v / 256))]) (rest := []) ⟨hx, hb, hml, hown, hw⟩ (c_De_put l D cB cI cJ d ah an ao o L sz hs (nI (v / 256)) (v / 256) (by rw [nI_b _ (by omega), Nat.mod_eq_of_lt (by omega)]) (by omega)) g_De_26 hd_De_put rfl ⟨rfl, rfl⟩ ⟨by decide, by decide⟩ hP hK hD hS [0, 1] (by decide) rfl [d, ao] rfl (fun _ => rfl) 0 1 rfl rfl rfl hl.1 rfl (Nat.le_of_ble_eq_true rfl) ⟨Nat.zero_le _, Nat.zero_le _⟩ d_De_putTwo_5 (fun u_5 H locs hu_5 hP hD hS => ?_)
  refine W.eq (g2 := F0 m 8 ls []) rfl ?_
  have hP : va_P D classes [(d, .inr (1, [.ref ah, .ref an, .ref ao, .int (nI (sz + 1))])), (ao, .inl (cB, 3064, .inl (bA (spl o 0 (L ++ [v / 256])))))] H := hP
  have hD : va_D A [(d, .inr (1, [.ref ah, .ref an, .ref ao, .int (nI (sz + 1))])), (ao, .inl (cB, 3064, .inl (bA (spl o 0 (L ++ [v / 256])))))] := hD
  refine lv_aload_n hx hb d_De_putTwo_8 rfl (lv_at hl 0 rfl) ?_
  refine lv_iload_n hx hb d_De_putTwo_9 rfl (lv_at hl 1 rfl) ?_
  refine ip_V (As := [.int (nI v)]) (rest := []) ⟨hx, hb, hml, hown, hw⟩ (c_De_put l D cB cI cJ d ah an ao o (L ++ [v / 256]) (sz + 1) (by simp [hs]) (nI v) (v % 256) (nI_b _ (by omega)) (by omega)) g_De_26 hd_De_put rfl ⟨rfl, rfl⟩ ⟨by decide, by decide⟩ hP hK hD hS [0, 1] (by decide) rfl [d, ao] rfl (fun _ => rfl) 0 1 rfl rfl rfl hl.1 rfl (Nat.le_of_ble_eq_true rfl) ⟨Nat.zero_le _, Nat.zero_le _⟩ d_De_putTwo_10 (fun u_10 H locs hu_10 hP hD hS => ?_)
  refine W.eq (g2 := F0 m 13 ls []) rfl ?_
  have hP : va_P D classes [(d, .inr (1, [.ref ah, .ref an, .ref ao, .int (nI (sz + 1 + 1))])), (ao, .inl (cB, 3064, .inl (bA (spl o 0 (L ++ [v / 256] ++ [v % 256])))))] H := hP
  have hD : va_D A [(d, .inr (1, [.ref ah, .ref an, .ref ao, .int (nI (sz + 1 + 1))])), (ao, .inl (cB, 3064, .inl (bA (spl o 0 (L ++ [v / 256] ++ [v % 256])))))] := hD
  exact ip_vret hx hb hr hlk hAe hS () rfl trivial hP hQ d_De_putTwo_13
theorem plain_e {T : Nat → Nat} {a b : Nat} (h : a < b) : enc (fl (sg T a (b - a))) = 2 :: (b - a) / 256 :: (b - a) % 256 :: sg T a (b - a) := by
  rw [fl_cons (by rw [sg_len]; omega), enc_one]
  show 2 :: (sg T a (b - a)).length / 256 :: (sg T a (b - a)).length % 256 :: sg T a (b - a) = _
  rw [sg_len]
theorem plain_0 {T : Nat → Nat} {a b : Nat} (h : a = b) : enc (fl (sg T a (b - a))) = [] := by
  subst h
  rw [Nat.sub_self]; rfl
set_option maxHeartbeats 4000000 in
set_option maxRecDepth 100000 in
/-- Delta.plain: bytes as they are -/
theorem c_De_plain (l : Launch) (D : va_G) (cB cI cJ : ClassId) (d ah an ao ta : Nat) (o T : Nat → Nat) (hT : ∀ i, T i < 256) (L : List Nat) (sz : Nat) (hs : sz = L.length) (a b : Nat) (hab : a ≤ b) (hb600 : b ≤ 600) (hsz : sz + (b - a) + 3 ≤ 3064) : Met l y_De_plain (Wd y_De_plain b_De_plain 5 none) ({ frames := 2, cells := 0, slots := 0, locals := 60 }) (ip_P D cB cI cJ [.ref d, .ref ta, .int (nI a), .int (nI b)] [(d, .inr (1, [.ref ah, .ref an, .ref ao, .int (nI sz)])), (ao, .inl (cB, 3064, .inl (bA (spl o 0 L)))), (ta, .inl (cB, 600, .inl (bA T)))]) (ip_Q D [(d, .inr (1, [.ref ah, .ref an, .ref ao, .int (nI sz)])), (ao, .inl (cB, 3064, .inl (bA (spl o 0 L)))), (ta, .inl (cB, 600, .inl (bA T)))] (fun _ : Unit => True) (fun _ : Unit => none) (fun _ : Unit => [(d, .inr (1, [.ref ah, .ref an, .ref ao, .int (nI (sz + (enc (fl (sg T a (b - a)))).length))])), (ao, .inl (cB, 3064, .inl (bA (spl o 0 (L ++ enc (fl (sg T a (b - a)))))))), (ta, .inl (cB, 600, .inl (bA T)))])) 0 0 (inW [(d, .inr (1, [.ref ah, .ref an, .ref ao, .int (nI sz)])), (ao, .inl (cB, 3064, .inl (bA (spl o 0 L)))), (ta, .inl (cB, 600, .inl (bA T)))]) := by
  refine mt_ip (by decide) (Nat.le_of_ble_eq_true rfl) ?_
  intro p e s m args below meth c ls Q A hx hb hr hml hw hown hlk hP hK hD hS hl hAe hQ
  have hown : s.vm.findClass R_De = some m.cls := hown
  have hl : lv_has ls 5 [(0, .ref d), (1, .ref ta), (2, .int (nI a)), (3, .int (nI b))] := hl
  have loop : a < b → ∀ (f j : Nat), a + j ≤ b → b < a + j + f → ∀ (H : Heap) (locs : List Loc), va_P D classes [(d, .inr (1, [.ref ah, .ref an, .ref ao, .int (nI (sz + 3 + j))])), (ao, .inl (cB, 3064, .inl (bA (spl o 0 (L ++ [2] ++ [(b - a) / 256] ++ [(b - a) % 256] ++ sg T a j))))), (ta, .inl (cB, 600, .inl (bA T)))] H → va_D A [(d, .inr (1, [.ref ah, .ref an, .ref ao, .int (nI (sz + 3 + j))])), (ao, .inl (cB, 3064, .inl (bA (spl o 0 (L ++ [2] ++ [(b - a) / 256] ++ [(b - a) % 256] ++ sg T a j))))), (ta, .inl (cB, 600, .inl (bA T)))] → va_S A s.heap H locs → ∀ ls : Array Slot, lv_has ls 5 [(4, .int (nI (a + j))), (0, .ref d), (1, .ref ta), (2, .int (nI a)), (3, .int (nI b))] → W p l e ({ frames := 2, cells := 0, slots := 0, locals := 60 }) s m args below meth c H locs 0 0 Q (F0 m 21 ls []) := by
    intro hlt f
    induction f with
    | zero => intro j h1 h2; omega
    | succ f ih =>
      intro j h1 h2 H locs hP hD hS ls hl
      refine lv_iload hx hb d_De_plain_21 (lv_at hl 0 rfl) ?_
      refine lv_iload_n hx hb d_De_plain_23 rfl (lv_at hl 4 rfl) ?_
      refine n_icmp_ge (tgt := 41) hx hb d_De_plain_24 (by decide) (by omega) (by omega) (fun c_24 => ?_) (fun c_24 => ?_)
      · have hj : j = b - a := by omega
        subst hj
        have e1 : L ++ [2] ++ [(b - a) / 256] ++ [(b - a) % 256] ++ sg T a (b - a) = L ++ enc (fl (sg T a (b - a))) := by rw [plain_e hlt]; simp
        have e2 : sz + 3 + (b - a) = sz + (enc (fl (sg T a (b - a)))).length := by rw [plain_e hlt]; simp [sg_len]; omega
        rw [e1, e2] at hP
        exact ip_vret hx hb hr hlk hAe hS () rfl trivial hP hQ d_De_plain_41
      · refine lv_aload_n hx hb d_De_plain_27 rfl (lv_at hl 1 rfl) ?_
        refine lv_aload_n hx hb d_De_plain_28 rfl (lv_at hl 2 rfl) ?_
        refine lv_iload hx hb d_De_plain_29 (lv_at hl 0 rfl) ?_
        refine ba_ld hx hb hK.1 hP 2 0 rfl rfl (by omega) (by decide) d_De_plain_31 ?_
        refine ip_V (As := [.int (bI (T (a + j)))]) (rest := []) ⟨hx, hb, hml, hown, hw⟩ (c_De_put l D cB cI cJ d ah an ao o (L ++ [2] ++ [(b - a) / 256] ++ [(b - a) % 256] ++ sg T a j) (sz + 3 + j) (by simp [hs, sg_len]; omega) (bI (T (a + j))) (T (a + j)) (bI_nar _) (by omega)) g_De_26 hd_De_put rfl ⟨rfl, rfl⟩ ⟨by decide, by decide⟩ hP hK hD hS [0, 1] (by decide) rfl [d, ao] rfl (fun _ => rfl) 0 1 rfl rfl rfl hl.1 rfl (Nat.le_of_ble_eq_true rfl) ⟨Nat.zero_le _, Nat.zero_le _⟩ d_De_plain_32 (fun u_32 H locs hu_32 hP hD hS => ?_)
        refine W.eq (g2 := F0 m 35 ls []) rfl ?_
        have hP : va_P D classes [(d, .inr (1, [.ref ah, .ref an, .ref ao, .int (nI (sz + 3 + (j + 1)))])), (ao, .inl (cB, 3064, .inl (bA (spl o 0 (L ++ [2] ++ [(b - a) / 256] ++ [(b - a) % 256] ++ sg T a j ++ [T (a + j)]))))), (ta, .inl (cB, 600, .inl (bA T)))] H := hP
        have hD : va_D A [(d, .inr (1, [.ref ah, .ref an, .ref ao, .int (nI (sz + 3 + (j + 1)))])), (ao, .inl (cB, 3064, .inl (bA (spl o 0 (L ++ [2] ++ [(b - a) / 256] ++ [(b - a) % 256] ++ sg T a j ++ [T (a + j)]))))), (ta, .inl (cB, 600, .inl (bA T)))] := hD
        refine lv_iinc (v := nI ((a + j) + 1)) (lv' := [(4, .int (nI ((a + j) + 1))), (0, .ref d), (1, .ref ta), (2, .int (nI a)), (3, .int (nI b))]) hx hb d_De_plain_35 hl (k := 0) rfl (nI_inc1 _) (by decide) rfl (fun ls hl => ?_)
        refine lv_goto (tgt := 21) hx hb d_De_plain_38 (by decide) ?_
        rw [show L ++ [2] ++ [(b - a) / 256] ++ [(b - a) % 256] ++ sg T a j ++ [T (a + j)] = L ++ [2] ++ [(b - a) / 256] ++ [(b - a) % 256] ++ sg T a (j + 1) from by rw [sg_snoc, List.append_assoc]] at hP hD
        exact ih (j + 1) (by omega) (by omega) H locs hP hD hS ls (lv_sub hl [0, 1, 2, 3, 4] rfl)
  refine lv_iload_n hx hb d_De_plain_0 rfl (lv_at hl 2 rfl) ?_
  refine lv_iload_n hx hb d_De_plain_1 rfl (lv_at hl 3 rfl) ?_
  refine n_icmp_ne (tgt := 6) hx hb d_De_plain_2 (by decide) (by omega) (by omega) (fun c_2 => ?_) (fun c_2 => ?_)
  · refine lv_aload_n hx hb d_De_plain_6 rfl (lv_at hl 0 rfl) ?_
    refine lv_iconst (v := nI 2) hx hb d_De_plain_7 (by decide +kernel) ?_
    refine ip_V (As := [.int (nI 2)]) (rest := []) ⟨hx, hb, hml, hown, hw⟩ (c_De_put l D cB cI cJ d ah an ao o L sz hs (nI 2) 2 (by decide +kernel) (by omega)) g_De_26 hd_De_put rfl ⟨rfl, rfl⟩ ⟨by decide, by decide⟩ hP hK hD hS [0, 1] (by decide) rfl [d, ao] rfl (fun _ => rfl) 0 1 rfl rfl rfl hl.1 rfl (Nat.le_of_ble_eq_true rfl) ⟨Nat.zero_le _, Nat.zero_le _⟩ d_De_plain_8 (fun u_8 H locs hu_8 hP hD hS => ?_)
    refine W.eq (g2 := F0 m 11 ls []) rfl ?_
    have hP : va_P D classes [(d, .inr (1, [.ref ah, .ref an, .ref ao, .int (nI (sz + 1))])), (ao, .inl (cB, 3064, .inl (bA (spl o 0 (L ++ [2]))))), (ta, .inl (cB, 600, .inl (bA T)))] H := hP
    have hD : va_D A [(d, .inr (1, [.ref ah, .ref an, .ref ao, .int (nI (sz + 1))])), (ao, .inl (cB, 3064, .inl (bA (spl o 0 (L ++ [2]))))), (ta, .inl (cB, 600, .inl (bA T)))] := hD
    refine lv_aload_n hx hb d_De_plain_11 rfl (lv_at hl 0 rfl) ?_
    refine lv_iload_n hx hb d_De_plain_12 rfl (lv_at hl 3 rfl) ?_
    refine lv_iload_n hx hb d_De_plain_13 rfl (lv_at hl 2 rfl) ?_
    refine n_isub hx hb d_De_plain_14 (by omega) ?_
    refine ip_V (As := [.int (nI (b - a))]) (rest := []) ⟨hx, hb, hml, hown, hw⟩ (c_De_putTwo l D cB cI cJ d ah an ao o (L ++ [2]) (sz + 1) (by simp [hs]) (b - a) (by omega) (by omega)) g_De_34 hd_De_putTwo rfl ⟨rfl, rfl⟩ ⟨by decide, by decide⟩ hP hK hD hS [0, 1] (by decide) rfl [d, ao] rfl (fun _ => rfl) 0 1 rfl rfl rfl hl.1 rfl (Nat.le_of_ble_eq_true rfl) ⟨Nat.zero_le _, Nat.zero_le _⟩ d_De_plain_15 (fun u_15 H locs hu_15 hP hD hS => ?_)
    refine W.eq (g2 := F0 m 18 ls []) rfl ?_
    have hP : va_P D classes [(d, .inr (1, [.ref ah, .ref an, .ref ao, .int (nI (sz + 1 + 1 + 1))])), (ao, .inl (cB, 3064, .inl (bA (spl o 0 (L ++ [2] ++ [(b - a) / 256] ++ [(b - a) % 256]))))), (ta, .inl (cB, 600, .inl (bA T)))] H := hP
    have hD : va_D A [(d, .inr (1, [.ref ah, .ref an, .ref ao, .int (nI (sz + 1 + 1 + 1))])), (ao, .inl (cB, 3064, .inl (bA (spl o 0 (L ++ [2] ++ [(b - a) / 256] ++ [(b - a) % 256]))))), (ta, .inl (cB, 600, .inl (bA T)))] := hD
    refine lv_iload_n hx hb d_De_plain_18 rfl (lv_at hl 2 rfl) ?_
    refine lv_istore (lv' := [(4, .int (nI a)), (0, .ref d), (1, .ref ta), (2, .int (nI a)), (3, .int (nI b))]) hx hb d_De_plain_19 hl (by decide) rfl (fun ls hl => ?_)
    refine loop (by omega) (b + 1) 0 (by omega) (by omega) H locs ?_ ?_ hS ls (lv_sub hl [0, 1, 2, 3, 4] rfl)
    · rw [show sg T a 0 = [] from rfl, List.append_nil]; exact hP
    · rw [show sg T a 0 = [] from rfl, List.append_nil]; exact hD
  · subst c_2
    have e1 : L ++ enc (fl (sg T a (a - a))) = L := by rw [plain_0 rfl, List.append_nil]
    have e2 : sz + (enc (fl (sg T a (a - a)))).length = sz := by rw [plain_0 rfl]; rfl
    refine ip_vret hx hb hr hlk hAe hS () rfl trivial ?_ hQ d_De_plain_5
    rw [e1, e2]; exact hP
end
section
set_option maxHeartbeats 4000000 in
set_option maxRecDepth 100000 in
/-- Delta.index: the chains of blocks by their sums -/
theorem c_De_index (l : Launch) (D : va_G) (cB cI cJ : ClassId) (d ah an ao ba : Nat) (z : Int32) (fh0 fn0 : Nat → Int32) (B : Nat → Nat) (hB : ∀ i, B i < 256) (n : Nat) (hn : n ≤ 600) : Met l y_De_index (Wd y_De_index b_De_index 5 none) ({ frames := 1, cells := 0, slots := 0, locals := 30 }) (ip_P D cB cI cJ [.ref d, .ref ba, .int (nI n)] [(d, .inr (1, [.ref ah, .ref an, .ref ao, .int z])), (ah, .inl (cI, 256, .inl fh0)), (an, .inl (cI, 188, .inl fn0)), (ba, .inl (cB, 600, .inl (bA B)))]) (ip_Q D [(d, .inr (1, [.ref ah, .ref an, .ref ao, .int z])), (ah, .inl (cI, 256, .inl fh0)), (an, .inl (cI, 188, .inl fn0)), (ba, .inl (cB, 600, .inl (bA B)))] (fun u : (Nat → Int32) × (Nat → Int32) => (∀ s, s < 256 → u.1 s = pI (nx (fun b => smB B (8 * b)) (n / 8) s 0)) ∧ ∀ b, b < n / 8 → u.2 b = pI (nx (fun b => smB B (8 * b)) (n / 8) (smB B (8 * b)) (b + 1))) (fun u : (Nat → Int32) × (Nat → Int32) => none) (fun u : (Nat → Int32) × (Nat → Int32) => [(d, .inr (1, [.ref ah, .ref an, .ref ao, .int z])), (ah, .inl (cI, 256, .inl u.1)), (an, .inl (cI, 188, .inl u.2)), (ba, .inl (cB, 600, .inl (bA B)))])) 0 0 (inW [(d, .inr (1, [.ref ah, .ref an, .ref ao, .int z])), (ah, .inl (cI, 256, .inl fh0)), (an, .inl (cI, 188, .inl fn0)), (ba, .inl (cB, 600, .inl (bA B)))]) := by
  refine mt_ip (by decide) (Nat.le_of_ble_eq_true rfl) ?_
  intro p e s m args below meth c ls Q A hx hb hr hml hw hown hlk hP hK hD hS hl hAe hQ
  have hown : s.vm.findClass R_De = some m.cls := hown
  have hl : lv_has ls 5 [(0, .ref d), (1, .ref ba), (2, .int (nI n))] := hl
  have loop2 : ∀ (k : Nat), k ≤ n / 8 → ∀ (fh fn : Nat → Int32), (∀ s, s < 256 → fh s = pI (nx (fun b => smB B (8 * b)) (n / 8) s k)) → (∀ b, k ≤ b → b < n / 8 → fn b = pI (nx (fun b => smB B (8 * b)) (n / 8) (smB B (8 * b)) (b + 1))) → ∀ (H : Heap) (locs : List Loc), va_P D classes [(d, .inr (1, [.ref ah, .ref an, .ref ao, .int z])), (ah, .inl (cI, 256, .inl fh)), (an, .inl (cI, 188, .inl fn)), (ba, .inl (cB, 600, .inl (bA B)))] H → va_D A [(d, .inr (1, [.ref ah, .ref an, .ref ao, .int z])), (ah, .inl (cI, 256, .inl fh)), (an, .inl (cI, 188, .inl fn)), (ba, .inl (cB, 600, .inl (bA B)))] → va_S A s.heap H locs → ∀ ls : Array Slot, lv_has ls 5 [(3, .int (nI k - nI 1)), (0, .ref d), (1, .ref ba), (2, .int (nI n))] → W p l e ({ frames := 1, cells := 0, slots := 0, locals := 30 }) s m args below meth c H locs 0 0 Q (F0 m 29 ls []) := by
    intro k
    induction k with
    | zero =>
      intro hk fh fn hi1 hi2 H locs hP hD hS ls hl
      refine lv_iload_n hx hb d_De_index_29 rfl (lv_at hl 0 rfl) ?_
      refine lv_if_lt (tgt := 70) hx hb d_De_index_30 (by decide) (fun c_30 => ?_) (fun c_30 => ?_)
      · exact ip_vret hx hb hr hlk hAe hS (fh, fn) rfl ⟨hi1, fun b hb9 => hi2 b (Nat.zero_le b) hb9⟩ hP hQ d_De_index_70
      · exact absurd nI_m1lt c_30
    | succ k ih =>
      intro hk fh fn hi1 hi2 H locs hP hD hS ls hl
      rw [show nI (k + 1) - nI 1 = nI k from pk_sub (by omega)] at hl
      refine lv_iload_n hx hb d_De_index_29 rfl (lv_at hl 0 rfl) ?_
      refine n_if_lt (tgt := 70) hx hb d_De_index_30 (by decide) (by omega) ?_
      refine lv_aload_n hx hb d_De_index_33 rfl (lv_at hl 2 rfl) ?_
      refine lv_bipush (v := nI 8) hx hb d_De_index_34 (by decide +kernel) ?_
      refine lv_iload_n hx hb d_De_index_36 rfl (lv_at hl 0 rfl) ?_
      refine n_imul hx hb d_De_index_37 ?_
      refine ro_S (As := [.ref ba, .int (nI (8 * k))]) (rest := []) ⟨hx, hb, hml, hown, hw⟩ (c_De_sum l D cB cI cJ ba B (8 * k) hB (by omega)) g_De_30 hd_De_sum ⟨rfl, rfl⟩ ⟨by decide, by decide⟩ hP hK [3] rfl rfl hl.1 rfl (Nat.le_of_ble_eq_true rfl) ⟨Nat.zero_le _, Nat.zero_le _⟩ d_De_index_38 ?_
      refine lv_istore (lv' := [(4, .int (nI (smB B (8 * k)))), (3, .int (nI k)), (0, .ref d), (1, .ref ba), (2, .int (nI n))]) hx hb d_De_index_41 hl (by decide) rfl (fun ls hl => ?_)
      refine lv_aload_n hx hb d_De_index_43 rfl (lv_at hl 2 rfl) ?_
      refine va_get (D := D) (ci := 1) (v := .ref an) (C := R_De) (T := F_De) (N := 4) hx hb hw i_De hown hK.1 hP 0 rfl rfl 1 (by decide) (hw _ k_23) (fun _ h9 => h9) rfl d_De_index_44 ?_
      refine lv_iload_n hx hb d_De_index_47 rfl (lv_at hl 1 rfl) ?_
      refine lv_aload_n hx hb d_De_index_48 rfl (lv_at hl 2 rfl) ?_
      refine va_get (D := D) (ci := 1) (v := .ref ah) (C := R_De) (T := F_De) (N := 4) hx hb hw i_De hown hK.1 hP 0 rfl rfl 0 (by decide) (hw _ k_22) (fun _ h9 => h9) rfl d_De_index_49 ?_
      refine lv_iload hx hb d_De_index_52 (lv_at hl 0 rfl) ?_
      refine fa_ld hx hb hK.1 hP 1 1 rfl rfl (smB_lt _ _) (by decide) d_De_index_54 ?_
      refine fa_st hx hb hK.1 hP hD hS 2 1 rfl rfl (by omega) (by decide) d_De_index_55 (fun H locs hP hD hS => ?_)
      have hP : va_P D classes [(d, .inr (1, [.ref ah, .ref an, .ref ao, .int z])), (ah, .inl (cI, 256, .inl fh)), (an, .inl (cI, 188, .inl (upd fn k (fh (smB B (8 * k)))))), (ba, .inl (cB, 600, .inl (bA B)))] H := hP
      have hD : va_D A [(d, .inr (1, [.ref ah, .ref an, .ref ao, .int z])), (ah, .inl (cI, 256, .inl fh)), (an, .inl (cI, 188, .inl (upd fn k (fh (smB B (8 * k)))))), (ba, .inl (cB, 600, .inl (bA B)))] := hD
      refine lv_aload_n hx hb d_De_index_56 rfl (lv_at hl 2 rfl) ?_
      refine va_get (D := D) (ci := 1) (v := .ref ah) (C := R_De) (T := F_De) (N := 4) hx hb hw i_De hown hK.1 hP 0 rfl rfl 0 (by decide) (hw _ k_22) (fun _ h9 => h9) rfl d_De_index_57 ?_
      refine lv_iload hx hb d_De_index_60 (lv_at hl 0 rfl) ?_
      refine lv_iload_n hx hb d_De_index_62 rfl (lv_at hl 1 rfl) ?_
      refine fa_st hx hb hK.1 hP hD hS 1 1 rfl rfl (smB_lt _ _) (by decide) d_De_index_63 (fun H locs hP hD hS => ?_)
      have hP : va_P D classes [(d, .inr (1, [.ref ah, .ref an, .ref ao, .int z])), (ah, .inl (cI, 256, .inl (upd fh (smB B (8 * k)) (nI k)))), (an, .inl (cI, 188, .inl (upd fn k (fh (smB B (8 * k)))))), (ba, .inl (cB, 600, .inl (bA B)))] H := hP
      have hD : va_D A [(d, .inr (1, [.ref ah, .ref an, .ref ao, .int z])), (ah, .inl (cI, 256, .inl (upd fh (smB B (8 * k)) (nI k)))), (an, .inl (cI, 188, .inl (upd fn k (fh (smB B (8 * k)))))), (ba, .inl (cB, 600, .inl (bA B)))] := hD
      refine lv_iinc (v := nI k - nI 1) (lv' := [(3, .int (nI k - nI 1)), (4, .int (nI (smB B (8 * k)))), (0, .ref d), (1, .ref ba), (2, .int (nI n))]) hx hb d_De_index_64 hl (k := 1) rfl (nI_dec1 _) (by decide) rfl (fun ls hl => ?_)
      refine lv_goto (tgt := 29) hx hb d_De_index_67 (by decide) ?_
      refine ih (by omega) (upd fh (smB B (8 * k)) (nI k)) (upd fn k (fh (smB B (8 * k)))) (fun s hs => ?_) (fun b h1 h2 => ?_) H locs hP hD hS ls (lv_sub hl [0, 2, 3, 4] rfl)
      · rw [nx_step (by omega)]
        by_cases h : smB B (8 * k) = s
        · subst h; rw [pk_us, if_pos rfl]; rfl
        · rw [pk_un (Ne.symm h), if_neg h]; exact hi1 s hs
      · by_cases h : b = k
        · subst h; rw [pk_us]; exact hi1 _ (smB_lt _ _)
        · rw [pk_un h]; exact hi2 b (by omega) h2
  have loop1 : ∀ (f k : Nat), k ≤ 256 → 256 < k + f → ∀ (fh : Nat → Int32), (∀ j, j < k → fh j = -1) → ∀ (H : Heap) (locs : List Loc), va_P D classes [(d, .inr (1, [.ref ah, .ref an, .ref ao, .int z])), (ah, .inl (cI, 256, .inl fh)), (an, .inl (cI, 188, .inl fn0)), (ba, .inl (cB, 600, .inl (bA B)))] H → va_D A [(d, .inr (1, [.ref ah, .ref an, .ref ao, .int z])), (ah, .inl (cI, 256, .inl fh)), (an, .inl (cI, 188, .inl fn0)), (ba, .inl (cB, 600, .inl (bA B)))] → va_S A s.heap H locs → ∀ ls : Array Slot, lv_has ls 5 [(3, .int (nI k)), (0, .ref d), (1, .ref ba), (2, .int (nI n))] → W p l e ({ frames := 1, cells := 0, slots := 0, locals := 30 }) s m args below meth c H locs 0 0 Q (F0 m 2 ls []) := by
    intro f
    induction f with
    | zero => intro k h1 h2; omega
    | succ f ih =>
      intro k h1 h2 fh hi H locs hP hD hS ls hl
      refine lv_iload_n hx hb d_De_index_2 rfl (lv_at hl 0 rfl) ?_
      refine lv_sipush (v := nI 256) hx hb d_De_index_3 (by decide +kernel) ?_
      refine n_icmp_ge (tgt := 22) hx hb d_De_index_6 (by decide) (by omega) (by omega) (fun c_6 => ?_) (fun c_6 => ?_)
      · refine lv_iload_n hx hb d_De_index_22 rfl (lv_at hl 3 rfl) ?_
        refine lv_bipush (v := nI 8) hx hb d_De_index_23 (by decide +kernel) ?_
        refine n_idiv hx hb d_De_index_25 (by omega) (by decide) (by decide) ?_
        refine lv_iconst (v := nI 1) hx hb d_De_index_26 (by decide +kernel) ?_
        refine lv_isub hx hb d_De_index_27 ?_
        refine lv_istore_n (lv' := [(3, .int ((nI (n / 8)) - (nI 1))), (0, .ref d), (1, .ref ba), (2, .int (nI n))]) hx hb d_De_index_28 rfl hl (by decide) rfl (fun ls hl => ?_)
        refine loop2 (n / 8) (Nat.le_refl _) fh fn0 (fun s hs => ?_) (fun b h1 h2 => by omega) H locs hP hD hS ls (lv_sub hl [0, 1, 2, 3] rfl)
        rw [nx_end (Nat.le_refl _)]; exact hi s (by omega)
      · refine lv_aload_n hx hb d_De_index_9 rfl (lv_at hl 1 rfl) ?_
        refine va_get (D := D) (ci := 1) (v := .ref ah) (C := R_De) (T := F_De) (N := 4) hx hb hw i_De hown hK.1 hP 0 rfl rfl 0 (by decide) (hw _ k_22) (fun _ h9 => h9) rfl d_De_index_10 ?_
        refine lv_iload_n hx hb d_De_index_13 rfl (lv_at hl 0 rfl) ?_
        refine lv_iconst (v := -1) hx hb d_De_index_14 (by decide +kernel) ?_
        refine fa_st hx hb hK.1 hP hD hS 1 1 rfl rfl (by omega) (by decide) d_De_index_15 (fun H locs hP hD hS => ?_)
        have hP : va_P D classes [(d, .inr (1, [.ref ah, .ref an, .ref ao, .int z])), (ah, .inl (cI, 256, .inl (upd fh k (-1)))), (an, .inl (cI, 188, .inl fn0)), (ba, .inl (cB, 600, .inl (bA B)))] H := hP
        have hD : va_D A [(d, .inr (1, [.ref ah, .ref an, .ref ao, .int z])), (ah, .inl (cI, 256, .inl (upd fh k (-1)))), (an, .inl (cI, 188, .inl fn0)), (ba, .inl (cB, 600, .inl (bA B)))] := hD
        refine lv_iinc (v := nI (k + 1)) (lv' := [(3, .int (nI (k + 1))), (0, .ref d), (1, .ref ba), (2, .int (nI n))]) hx hb d_De_index_16 hl (k := 0) rfl (nI_inc1 _) (by decide) rfl (fun ls hl => ?_)
        refine lv_goto (tgt := 2) hx hb d_De_index_19 (by decide) ?_
        refine ih (k + 1) (by omega) (by omega) (upd fh k (-1)) (fun j hj => ?_) H locs hP hD hS ls (lv_sub hl [0, 1, 2, 3] rfl)
        by_cases h : j = k
        · subst h; rw [pk_us]
        · rw [pk_un h]; exact hi j (by omega)
  refine lv_iconst (v := nI 0) hx hb d_De_index_0 (by decide +kernel) ?_
  refine lv_istore_n (lv' := [(3, .int (nI 0)), (0, .ref d), (1, .ref ba), (2, .int (nI n))]) hx hb d_De_index_1 rfl hl (by decide) rfl (fun ls hl => ?_)
  exact loop1 257 0 (by omega) (by omega) fh0 (fun j h => absurd h (Nat.not_lt_zero j)) s.heap [] hP hD hS ls (lv_sub hl [0, 1, 2, 3] rfl)
end
section
theorem cst_le (B : Nat → Nat) (n : Nat) (T : Nat → Nat) (m t : Nat) : ∀ j, (cst B n T m t j).1 ≤ m
  | 0 => Nat.zero_le _
  | j + 1 => by
    have ih := cst_le B n T m t j
    simp only [cst]
    by_cases hc : smB B (8 * j) = smB T t ∧ (cst B n T m t j).1 < alk B n T m (8 * j) t
    · rw [if_pos hc]; exact alk_lt B n T m (8 * j) t
    · rw [if_neg hc]; exact ih
theorem nI_ne_m1 {b : Nat} (h : b < 2 ^ 31) : ¬ nI b = -1 := fun q => absurd (show nI b < 0 by rw [q]; decide +kernel) (nI_pos h)
theorem enc_cp (ps : List Pce) (l : List Nat) (f k : Nat) : enc ps ++ enc (fl l) ++ [1] ++ [f / 256] ++ [f % 256] ++ [k / 256] ++ [k % 256] = enc (ps ++ fl l ++ [.inl (f, k)]) := by
  rw [enc_app, enc_app, enc_one]
  simp [eP]
set_option maxHeartbeats 4000000 in
set_option maxRecDepth 100000 in
/-- Delta.make: the way from a base to a target -/
theorem c_De_make (l : Launch) (D : va_G) (cB cI cJ : ClassId) (d ah an ao ba ta : Nat) (z : Int32) (fh0 fn0 : Nat → Int32) (o B T : Nat → Nat) (hB : ∀ i, B i < 256) (hT : ∀ i, T i < 256) (n mm : Nat) (hn : n ≤ 600) (hm : mm ≤ 600) : Met l y_De_make (Wd y_De_make b_De_make 11 none) ({ frames := 3, cells := 0, slots := 0, locals := 90 }) (ip_P D cB cI cJ [.ref d, .ref ba, .int (nI n), .ref ta, .int (nI mm)] [(d, .inr (1, [.ref ah, .ref an, .ref ao, .int z])), (ah, .inl (cI, 256, .inl fh0)), (an, .inl (cI, 188, .inl fn0)), (ao, .inl (cB, 3064, .inl (bA o))), (ba, .inl (cB, 600, .inl (bA B))), (ta, .inl (cB, 600, .inl (bA T)))]) (ip_Q D [(d, .inr (1, [.ref ah, .ref an, .ref ao, .int z])), (ah, .inl (cI, 256, .inl fh0)), (an, .inl (cI, 188, .inl fn0)), (ao, .inl (cB, 3064, .inl (bA o))), (ba, .inl (cB, 600, .inl (bA B))), (ta, .inl (cB, 600, .inl (bA T)))] (fun u : (Nat → Int32) × (Nat → Int32) => True) (fun u : (Nat → Int32) × (Nat → Int32) => none) (fun u : (Nat → Int32) × (Nat → Int32) => [(d, .inr (1, [.ref ah, .ref an, .ref ao, .int (nI ((enc (way B n T mm)).length))])), (ah, .inl (cI, 256, .inl u.1)), (an, .inl (cI, 188, .inl u.2)), (ao, .inl (cB, 3064, .inl (bA (spl o 0 (enc (way B n T mm)))))), (ba, .inl (cB, 600, .inl (bA B))), (ta, .inl (cB, 600, .inl (bA T)))])) 0 0 (inW [(d, .inr (1, [.ref ah, .ref an, .ref ao, .int z])), (ah, .inl (cI, 256, .inl fh0)), (an, .inl (cI, 188, .inl fn0)), (ao, .inl (cB, 3064, .inl (bA o))), (ba, .inl (cB, 600, .inl (bA B))), (ta, .inl (cB, 600, .inl (bA T)))]) := by
  refine mt_ip (by decide) (Nat.le_of_ble_eq_true rfl) ?_
  intro p e s m args below meth c ls Q A hx hb hr hml hw hown hlk hP hK hD hS hl hAe hQ
  have hown : s.vm.findClass R_De = some m.cls := hown
  have hl : lv_has ls 11 [(0, .ref d), (1, .ref ba), (2, .int (nI n)), (3, .ref ta), (4, .int (nI mm))] := hl
  have loop : ∀ (fh fn : Nat → Int32), (∀ s, s < 256 → fh s = pI (nx (fun b => smB B (8 * b)) (n / 8) s 0)) → (∀ b, b < n / 8 → fn b = pI (nx (fun b => smB B (8 * b)) (n / 8) (smB B (8 * b)) (b + 1))) → ∀ (f t p0 : Nat) (ps : List Pce) (g : Nat), p0 ≤ t → mm < t + f → mkI mm t ps (sg T p0 (t - p0)) → mm ≤ g + t → mkP B n T mm g t ps (sg T p0 (t - p0)) = way B n T mm → ∀ (H : Heap) (locs : List Loc), va_P D classes [(d, .inr (1, [.ref ah, .ref an, .ref ao, .int (nI ((enc ps).length))])), (ah, .inl (cI, 256, .inl fh)), (an, .inl (cI, 188, .inl fn)), (ao, .inl (cB, 3064, .inl (bA (spl o 0 (enc ps))))), (ba, .inl (cB, 600, .inl (bA B))), (ta, .inl (cB, 600, .inl (bA T)))] H → va_D A [(d, .inr (1, [.ref ah, .ref an, .ref ao, .int (nI ((enc ps).length))])), (ah, .inl (cI, 256, .inl fh)), (an, .inl (cI, 188, .inl fn)), (ao, .inl (cB, 3064, .inl (bA (spl o 0 (enc ps))))), (ba, .inl (cB, 600, .inl (bA B))), (ta, .inl (cB, 600, .inl (bA T)))] → va_S A s.heap H locs → ∀ ls : Array Slot, lv_has ls 11 [(6, .int (nI t)), (5, .int (nI p0)), (0, .ref d), (1, .ref ba), (2, .int (nI n)), (3, .ref ta), (4, .int (nI mm))] → W p l e ({ frames := 3, cells := 0, slots := 0, locals := 90 }) s m args below meth c H locs 0 0 Q (F0 m 17 ls []) := by
    intro fh fn hfh hfn f
    induction f with
    | zero => intro t p0 ps g h1 h2 h3; exfalso; have h9 := h3.2.2.2.2; omega
    | succ f ih =>
      intro t p0 ps g hp ht hI hg hway H locs hP hD hS ls hl
      have hI5 := hI.2.2.2.2
      have hI4 := hI.2.2.2.1
      rw [sg_len] at hI4
      refine lv_iload hx hb d_De_make_17 (lv_at hl 0 rfl) ?_
      refine lv_bipush (v := nI 8) hx hb d_De_make_19 (by decide +kernel) ?_
      refine n_iadd hx hb d_De_make_21 ?_
      refine lv_iload hx hb d_De_make_22 (lv_at hl 6 rfl) ?_
      refine n_icmp_gt (tgt := 164) hx hb d_De_make_24 (by decide) (by omega) (by omega) (fun c_24 => ?_) (fun c_24 => ?_)
      · refine lv_aload_n hx hb d_De_make_164 rfl (lv_at hl 2 rfl) ?_
        refine lv_aload_n hx hb d_De_make_165 rfl (lv_at hl 5 rfl) ?_
        refine lv_iload hx hb d_De_make_166 (lv_at hl 1 rfl) ?_
        refine lv_iload hx hb d_De_make_168 (lv_at hl 6 rfl) ?_
        refine ip_V (As := [.ref ta, .int (nI p0), .int (nI mm)]) (rest := []) ⟨hx, hb, hml, hown, hw⟩ (c_De_plain l D cB cI cJ d ah an ao ta o T hT (enc ps) (enc ps).length rfl p0 mm (by omega) hm (by omega)) g_De_45 hd_De_plain rfl ⟨rfl, rfl⟩ ⟨by decide, by decide⟩ hP hK hD hS [0, 3, 5] (by decide) rfl [d, ao, ta] rfl (fun _ => rfl) 0 1 rfl rfl rfl hl.1 rfl (Nat.le_of_ble_eq_true rfl) ⟨Nat.zero_le _, Nat.zero_le _⟩ d_De_make_170 (fun u_170 H locs hu_170 hP hD hS => ?_)
        refine W.eq (g2 := F0 m 173 ls []) rfl ?_
        have hP : va_P D classes [(d, .inr (1, [.ref ah, .ref an, .ref ao, .int (nI ((enc ps).length + (enc (fl (sg T p0 (mm - p0)))).length))])), (ah, .inl (cI, 256, .inl fh)), (an, .inl (cI, 188, .inl fn)), (ao, .inl (cB, 3064, .inl (bA (spl o 0 (enc ps ++ enc (fl (sg T p0 (mm - p0)))))))), (ba, .inl (cB, 600, .inl (bA B))), (ta, .inl (cB, 600, .inl (bA T)))] H := hP
        have hD : va_D A [(d, .inr (1, [.ref ah, .ref an, .ref ao, .int (nI ((enc ps).length + (enc (fl (sg T p0 (mm - p0)))).length))])), (ah, .inl (cI, 256, .inl fh)), (an, .inl (cI, 188, .inl fn)), (ao, .inl (cB, 3064, .inl (bA (spl o 0 (enc ps ++ enc (fl (sg T p0 (mm - p0)))))))), (ba, .inl (cB, 600, .inl (bA B))), (ta, .inl (cB, 600, .inl (bA T)))] := hD
        have ew : way B n T mm = ps ++ fl (sg T p0 (mm - p0)) := by
          rw [← hway, mkP_tail g t ps _ (by omega) (by omega) hg]
          have e9 := sg_app T p0 (t - p0) (mm - t)
          rw [show t - p0 + (mm - t) = mm - p0 by omega, show p0 + (t - p0) = t by omega] at e9
          rw [e9]
        refine ip_vret hx hb hr hlk hAe hS (fh, fn) rfl trivial ?_ hQ d_De_make_173
        show va_P D classes [(d, .inr (1, [.ref ah, .ref an, .ref ao, .int (nI ((enc (way B n T mm)).length))])), (ah, .inl (cI, 256, .inl fh)), (an, .inl (cI, 188, .inl fn)), (ao, .inl (cB, 3064, .inl (bA (spl o 0 (enc (way B n T mm)))))), (ba, .inl (cB, 600, .inl (bA B))), (ta, .inl (cB, 600, .inl (bA T)))] H
        rw [ew, enc_app, List.length_append]
        exact hP
      · refine lv_iconst (v := nI 0) hx hb d_De_make_27 (by decide +kernel) ?_
        refine lv_istore (lv' := [(7, .int (nI 0)), (6, .int (nI t)), (5, .int (nI p0)), (0, .ref d), (1, .ref ba), (2, .int (nI n)), (3, .ref ta), (4, .int (nI mm))]) hx hb d_De_make_28 hl (by decide) rfl (fun ls hl => ?_)
        refine lv_iconst (v := nI 0) hx hb d_De_make_30 (by decide +kernel) ?_
        refine lv_istore (lv' := [(8, .int (nI 0)), (7, .int (nI 0)), (6, .int (nI t)), (5, .int (nI p0)), (0, .ref d), (1, .ref ba), (2, .int (nI n)), (3, .ref ta), (4, .int (nI mm))]) hx hb d_De_make_31 hl (by decide) rfl (fun ls hl => ?_)
        refine lv_aload_n hx hb d_De_make_33 rfl (lv_at hl 4 rfl) ?_
        refine va_get (D := D) (ci := 1) (v := .ref ah) (C := R_De) (T := F_De) (N := 4) hx hb hw i_De hown hK.1 hP 0 rfl rfl 0 (by decide) (hw _ k_22) (fun _ h9 => h9) rfl d_De_make_34 ?_
        refine lv_aload_n hx hb d_De_make_37 rfl (lv_at hl 7 rfl) ?_
        refine lv_iload hx hb d_De_make_38 (lv_at hl 2 rfl) ?_
        refine ro_S (As := [.ref ta, .int (nI t)]) (rest := [.ref ah]) ⟨hx, hb, hml, hown, hw⟩ (c_De_sum l D cB cI cJ ta T t hT (by omega)) g_De_30 hd_De_sum ⟨rfl, rfl⟩ ⟨by decide, by decide⟩ hP hK [5] rfl rfl hl.1 rfl (Nat.le_of_ble_eq_true rfl) ⟨Nat.zero_le _, Nat.zero_le _⟩ d_De_make_40 ?_
        refine fa_ld hx hb hK.1 hP 1 1 rfl rfl (smB_lt _ _) (by decide) d_De_make_43 ?_
        refine lv_istore (lv' := [(9, .int (fh (smB T t))), (8, .int (nI 0)), (7, .int (nI 0)), (6, .int (nI t)), (5, .int (nI p0)), (0, .ref d), (1, .ref ba), (2, .int (nI n)), (3, .ref ta), (4, .int (nI mm))]) hx hb d_De_make_44 hl (by decide) rfl (fun ls hl => ?_)
        rw [hfh _ (smB_lt _ _)] at hl
        have inner : (∀ ls : Array Slot, lv_has ls 11 [(9, .int (-1)), (8, .int (nI ((cst B n T mm t (n / 8)).2))), (7, .int (nI ((cst B n T mm t (n / 8)).1))), (6, .int (nI t)), (5, .int (nI p0)), (0, .ref d), (1, .ref ba), (2, .int (nI n)), (3, .ref ta), (4, .int (nI mm))] → W p l e ({ frames := 3, cells := 0, slots := 0, locals := 90 }) s m args below meth c H locs 0 0 Q (F0 m 111 ls [])) → ∀ (q j : Nat), j ≤ n / 8 → n / 8 < j + q → ∀ ls : Array Slot, lv_has ls 11 [(9, .int (pI (nx (fun b => smB B (8 * b)) (n / 8) (smB T t) j))), (8, .int (nI ((cst B n T mm t j).2))), (7, .int (nI ((cst B n T mm t j).1))), (6, .int (nI t)), (5, .int (nI p0)), (0, .ref d), (1, .ref ba), (2, .int (nI n)), (3, .ref ta), (4, .int (nI mm))] → W p l e ({ frames := 3, cells := 0, slots := 0, locals := 90 }) s m args below meth c H locs 0 0 Q (F0 m 46 ls []) := by
          intro kk q
          induction q with
          | zero => intro j h1 h2; omega
          | succ q ihq =>
            intro j h1 h2 ls hl
            cases hnx : nx (fun b => smB B (8 * b)) (n / 8) (smB T t) j with
            | none =>
              rw [hnx] at hl
              have hl : lv_has ls 11 [(9, .int (-1)), (8, .int (nI ((cst B n T mm t j).2))), (7, .int (nI ((cst B n T mm t j).1))), (6, .int (nI t)), (5, .int (nI p0)), (0, .ref d), (1, .ref ba), (2, .int (nI n)), (3, .ref ta), (4, .int (nI mm))] := hl
              refine lv_iload hx hb d_De_make_46 (lv_at hl 0 rfl) ?_
              refine lv_iconst (v := -1) hx hb d_De_make_48 (by decide +kernel) ?_
              refine lv_icmp_eq (tgt := 111) hx hb d_De_make_49 (by decide) (fun c_49 => ?_) (fun c_49 => ?_)
              · refine kk ls ?_
                have e1 : cst B n T mm t (n / 8) = cst B n T mm t j := by
                  have := cst_skip (B := B) (n := n) (T := T) (m := mm) (t := t) (n / 8 - j) j (fun i h3 h4 => nx_none hnx i h3 (by omega))
                  rwa [show j + (n / 8 - j) = n / 8 by omega] at this
                rw [e1]
                exact hl
              · exact absurd rfl c_49
            | some b =>
              rw [hnx] at hl
              have hl : lv_has ls 11 [(9, .int (nI b)), (8, .int (nI ((cst B n T mm t j).2))), (7, .int (nI ((cst B n T mm t j).1))), (6, .int (nI t)), (5, .int (nI p0)), (0, .ref d), (1, .ref ba), (2, .int (nI n)), (3, .ref ta), (4, .int (nI mm))] := hl
              obtain ⟨hb1, hb2, hb3, hb4⟩ := nx_some hnx
              have hb3 : smB B (8 * b) = smB T t := hb3
              have ej : cst B n T mm t b = cst B n T mm t j := by
                have := cst_skip (B := B) (n := n) (T := T) (m := mm) (t := t) (b - j) j (fun i h3 h4 => hb4 i h3 (by omega))
                rwa [show j + (b - j) = b by omega] at this
              have hak := alk_lt B n T mm (8 * b) t
              have hcb : (cst B n T mm t j).1 ≤ mm := cst_le B n T mm t j
              have hnb := hfn b hb2
              rw [hb3] at hnb
              refine lv_iload hx hb d_De_make_46 (lv_at hl 0 rfl) ?_
              refine lv_iconst (v := -1) hx hb d_De_make_48 (by decide +kernel) ?_
              refine lv_icmp_eq (tgt := 111) hx hb d_De_make_49 (by decide) (fun c_49 => ?_) (fun c_49 => ?_)
              · exact absurd c_49 (nI_ne_m1 (by omega))
              · refine lv_aload_n hx hb d_De_make_52 rfl (lv_at hl 8 rfl) ?_
                refine lv_iload hx hb d_De_make_53 (lv_at hl 9 rfl) ?_
                refine lv_iload hx hb d_De_make_55 (lv_at hl 3 rfl) ?_
                refine lv_aload_n hx hb d_De_make_57 rfl (lv_at hl 6 rfl) ?_
                refine lv_iload_n hx hb d_De_make_58 rfl (lv_at hl 7 rfl) ?_
                refine lv_bipush (v := nI 8) hx hb d_De_make_59 (by decide +kernel) ?_
                refine lv_iload hx hb d_De_make_61 (lv_at hl 0 rfl) ?_
                refine n_imul hx hb d_De_make_63 ?_
                refine ro_S (As := [.ref ta, .int (nI mm), .int (nI t), .ref ba, .int (nI n), .int (nI (8 * b))]) (rest := []) ⟨hx, hb, hml, hown, hw⟩ (c_De_alike l D cB cI cJ ta ba T B mm n t (8 * b) hT hB hm hn (by omega) (by omega)) g_De_41 hd_De_alike ⟨rfl, rfl⟩ ⟨by decide, by decide⟩ hP hK [5, 4] rfl rfl hl.1 rfl (Nat.le_of_ble_eq_true rfl) ⟨Nat.zero_le _, Nat.zero_le _⟩ d_De_make_64 ?_
                refine lv_istore (lv' := [(10, .int (nI (alk B n T mm (8 * b) t))), (9, .int (nI b)), (8, .int (nI ((cst B n T mm t j).2))), (7, .int (nI ((cst B n T mm t j).1))), (6, .int (nI t)), (5, .int (nI p0)), (0, .ref d), (1, .ref ba), (2, .int (nI n)), (3, .ref ta), (4, .int (nI mm))]) hx hb d_De_make_67 hl (by decide) rfl (fun ls hl => ?_)
                refine lv_iload hx hb d_De_make_69 (lv_at hl 0 rfl) ?_
                refine lv_iload hx hb d_De_make_71 (lv_at hl 3 rfl) ?_
                refine n_icmp_le (tgt := 83) hx hb d_De_make_73 (by decide) (by omega) (by omega) (fun c_73 => ?_) (fun c_73 => ?_)
                · refine lv_iload hx hb d_De_make_83 (lv_at hl 0 rfl) ?_
                  refine lv_iload hx hb d_De_make_85 (lv_at hl 3 rfl) ?_
                  refine n_icmp_le (tgt := 95) hx hb d_De_make_87 (by decide) (by omega) (by omega) (fun c_87 => ?_) (fun c_87 => ?_)
                  · refine lv_iload hx hb d_De_make_95 (lv_at hl 3 rfl) ?_
                    refine lv_istore (lv' := [(7, .int (nI ((cst B n T mm t j).1))), (10, .int (nI (alk B n T mm (8 * b) t))), (9, .int (nI b)), (8, .int (nI ((cst B n T mm t j).2))), (6, .int (nI t)), (5, .int (nI p0)), (0, .ref d), (1, .ref ba), (2, .int (nI n)), (3, .ref ta), (4, .int (nI mm))]) hx hb d_De_make_97 hl (by decide) rfl (fun ls hl => ?_)
                    refine lv_aload_n hx hb d_De_make_99 rfl (lv_at hl 6 rfl) ?_
                    refine va_get (D := D) (ci := 1) (v := .ref an) (C := R_De) (T := F_De) (N := 4) hx hb hw i_De hown hK.1 hP 0 rfl rfl 1 (by decide) (hw _ k_23) (fun _ h9 => h9) rfl d_De_make_100 ?_
                    refine lv_iload hx hb d_De_make_103 (lv_at hl 2 rfl) ?_
                    refine fa_ld hx hb hK.1 hP 2 1 rfl rfl (by omega) (by decide) d_De_make_105 ?_
                    refine lv_istore (lv' := [(9, .int (fn b)), (7, .int (nI ((cst B n T mm t j).1))), (10, .int (nI (alk B n T mm (8 * b) t))), (8, .int (nI ((cst B n T mm t j).2))), (6, .int (nI t)), (5, .int (nI p0)), (0, .ref d), (1, .ref ba), (2, .int (nI n)), (3, .ref ta), (4, .int (nI mm))]) hx hb d_De_make_106 hl (by decide) rfl (fun ls hl => ?_)
                    refine lv_goto (tgt := 46) hx hb d_De_make_108 (by decide) ?_
                    have e2 : cst B n T mm t (b + 1) = cst B n T mm t j := by
                      simp only [cst]
                      rw [if_neg (fun z => by have z2 := z.2; rw [ej] at z2; omega), ej]
                    refine ihq (b + 1) (by omega) (by omega) ls ?_
                    rw [e2, ← hnb]
                    exact lv_sub hl [0, 3, 1, 4, 5, 6, 7, 8, 9, 10] rfl
                  · exfalso; omega
                · refine lv_bipush (v := nI 8) hx hb d_De_make_76 (by decide +kernel) ?_
                  refine lv_iload hx hb d_De_make_78 (lv_at hl 1 rfl) ?_
                  refine n_imul hx hb d_De_make_80 ?_
                  refine lv_istore (lv' := [(8, .int (nI (8 * b))), (10, .int (nI (alk B n T mm (8 * b) t))), (9, .int (nI b)), (7, .int (nI ((cst B n T mm t j).1))), (6, .int (nI t)), (5, .int (nI p0)), (0, .ref d), (1, .ref ba), (2, .int (nI n)), (3, .ref ta), (4, .int (nI mm))]) hx hb d_De_make_81 hl (by decide) rfl (fun ls hl => ?_)
                  refine lv_iload hx hb d_De_make_83 (lv_at hl 1 rfl) ?_
                  refine lv_iload hx hb d_De_make_85 (lv_at hl 3 rfl) ?_
                  refine n_icmp_le (tgt := 95) hx hb d_De_make_87 (by decide) (by omega) (by omega) (fun c_87 => ?_) (fun c_87 => ?_)
                  · exfalso; omega
                  · refine lv_iload hx hb d_De_make_90 (lv_at hl 1 rfl) ?_
                    refine lv_goto (tgt := 97) hx hb d_De_make_92 (by decide) ?_
                    refine lv_istore (lv' := [(7, .int (nI (alk B n T mm (8 * b) t))), (8, .int (nI (8 * b))), (10, .int (nI (alk B n T mm (8 * b) t))), (9, .int (nI b)), (6, .int (nI t)), (5, .int (nI p0)), (0, .ref d), (1, .ref ba), (2, .int (nI n)), (3, .ref ta), (4, .int (nI mm))]) hx hb d_De_make_97 hl (by decide) rfl (fun ls hl => ?_)
                    refine lv_aload_n hx hb d_De_make_99 rfl (lv_at hl 6 rfl) ?_
                    refine va_get (D := D) (ci := 1) (v := .ref an) (C := R_De) (T := F_De) (N := 4) hx hb hw i_De hown hK.1 hP 0 rfl rfl 1 (by decide) (hw _ k_23) (fun _ h9 => h9) rfl d_De_make_100 ?_
                    refine lv_iload hx hb d_De_make_103 (lv_at hl 3 rfl) ?_
                    refine fa_ld hx hb hK.1 hP 2 1 rfl rfl (by omega) (by decide) d_De_make_105 ?_
                    refine lv_istore (lv' := [(9, .int (fn b)), (7, .int (nI (alk B n T mm (8 * b) t))), (8, .int (nI (8 * b))), (10, .int (nI (alk B n T mm (8 * b) t))), (6, .int (nI t)), (5, .int (nI p0)), (0, .ref d), (1, .ref ba), (2, .int (nI n)), (3, .ref ta), (4, .int (nI mm))]) hx hb d_De_make_106 hl (by decide) rfl (fun ls hl => ?_)
                    refine lv_goto (tgt := 46) hx hb d_De_make_108 (by decide) ?_
                    have e2 : cst B n T mm t (b + 1) = (alk B n T mm (8 * b) t, 8 * b) := by
                      simp only [cst]
                      rw [if_pos ⟨hb3, by rw [ej]; exact c_73⟩]
                    refine ihq (b + 1) (by omega) (by omega) ls ?_
                    rw [e2, ← hnb]
                    exact lv_sub hl [0, 2, 1, 4, 5, 6, 7, 8, 9, 10] rfl
        refine inner (fun ls hl => ?_) (n / 8 + 1) 0 (Nat.zero_le _) (by omega) ls (lv_sub hl [0, 1, 2, 3, 4, 5, 6, 7, 8, 9] rfl)
        have hbc := bst_cst B n T mm t (n / 8)
        have hcl := cst_le B n T mm t (n / 8)
        refine lv_iload hx hb d_De_make_111 (lv_at hl 2 rfl) ?_
        refine lv_bipush (v := nI 8) hx hb d_De_make_113 (by decide +kernel) ?_
        refine n_icmp_ge (tgt := 124) hx hb d_De_make_115 (by decide) (by omega) (by omega) (fun c_115 => ?_) (fun c_115 => ?_)
        · obtain ⟨hb8, hcb⟩ : 8 ≤ (bst B n T mm t (n / 8)).1 ∧ cst B n T mm t (n / 8) = bst B n T mm t (n / 8) := by
            rcases hbc with h9 | h9
            · omega
            · exact h9
          have hbi := bst_in B n T mm t (n / 8) (by omega)
          rw [hcb] at hl
          have hl : lv_has ls 11 [(9, .int (-1)), (8, .int (nI ((bst B n T mm t (n / 8)).2))), (7, .int (nI ((bst B n T mm t (n / 8)).1))), (6, .int (nI t)), (5, .int (nI p0)), (0, .ref d), (1, .ref ba), (2, .int (nI n)), (3, .ref ta), (4, .int (nI mm))] := hl
          refine lv_aload_n hx hb d_De_make_124 rfl (lv_at hl 5 rfl) ?_
          refine lv_aload_n hx hb d_De_make_125 rfl (lv_at hl 8 rfl) ?_
          refine lv_iload hx hb d_De_make_126 (lv_at hl 4 rfl) ?_
          refine lv_iload hx hb d_De_make_128 (lv_at hl 3 rfl) ?_
          have hfl : (enc (fl (sg T p0 (t - p0)))).length ≤ t - p0 + 3 := by rw [fl_len, sg_len]; split <;> omega
          refine ip_V (As := [.ref ta, .int (nI p0), .int (nI t)]) (rest := []) ⟨hx, hb, hml, hown, hw⟩ (c_De_plain l D cB cI cJ d ah an ao ta o T hT (enc ps) (enc ps).length rfl p0 t hp (by omega) (by omega)) g_De_45 hd_De_plain rfl ⟨rfl, rfl⟩ ⟨by decide, by decide⟩ hP hK hD hS [0, 3, 5] (by decide) rfl [d, ao, ta] rfl (fun _ => rfl) 0 1 rfl rfl rfl hl.1 rfl (Nat.le_of_ble_eq_true rfl) ⟨Nat.zero_le _, Nat.zero_le _⟩ d_De_make_130 (fun u_130 H locs hu_130 hP hD hS => ?_)
          refine W.eq (g2 := F0 m 133 ls []) rfl ?_
          have hP : va_P D classes [(d, .inr (1, [.ref ah, .ref an, .ref ao, .int (nI ((enc ps).length + (enc (fl (sg T p0 (t - p0)))).length))])), (ah, .inl (cI, 256, .inl fh)), (an, .inl (cI, 188, .inl fn)), (ao, .inl (cB, 3064, .inl (bA (spl o 0 (enc ps ++ enc (fl (sg T p0 (t - p0)))))))), (ba, .inl (cB, 600, .inl (bA B))), (ta, .inl (cB, 600, .inl (bA T)))] H := hP
          have hD : va_D A [(d, .inr (1, [.ref ah, .ref an, .ref ao, .int (nI ((enc ps).length + (enc (fl (sg T p0 (t - p0)))).length))])), (ah, .inl (cI, 256, .inl fh)), (an, .inl (cI, 188, .inl fn)), (ao, .inl (cB, 3064, .inl (bA (spl o 0 (enc ps ++ enc (fl (sg T p0 (t - p0)))))))), (ba, .inl (cB, 600, .inl (bA B))), (ta, .inl (cB, 600, .inl (bA T)))] := hD
          refine lv_aload_n hx hb d_De_make_133 rfl (lv_at hl 5 rfl) ?_
          refine lv_iconst (v := nI 1) hx hb d_De_make_134 (by decide +kernel) ?_
          refine ip_V (As := [.int (nI 1)]) (rest := []) ⟨hx, hb, hml, hown, hw⟩ (c_De_put l D cB cI cJ d ah an ao o (enc ps ++ enc (fl (sg T p0 (t - p0)))) ((enc ps).length + (enc (fl (sg T p0 (t - p0)))).length) (by rw [List.length_append]) (nI 1) 1 (by decide +kernel) (by omega)) g_De_26 hd_De_put rfl ⟨rfl, rfl⟩ ⟨by decide, by decide⟩ hP hK hD hS [0, 3] (by decide) rfl [d, ao] rfl (fun _ => rfl) 0 1 rfl rfl rfl hl.1 rfl (Nat.le_of_ble_eq_true rfl) ⟨Nat.zero_le _, Nat.zero_le _⟩ d_De_make_135 (fun u_135 H locs hu_135 hP hD hS => ?_)
          refine W.eq (g2 := F0 m 138 ls []) rfl ?_
          have hP : va_P D classes [(d, .inr (1, [.ref ah, .ref an, .ref ao, .int (nI ((enc ps).length + (enc (fl (sg T p0 (t - p0)))).length + 1))])), (ah, .inl (cI, 256, .inl fh)), (an, .inl (cI, 188, .inl fn)), (ao, .inl (cB, 3064, .inl (bA (spl o 0 (enc ps ++ enc (fl (sg T p0 (t - p0))) ++ [1]))))), (ba, .inl (cB, 600, .inl (bA B))), (ta, .inl (cB, 600, .inl (bA T)))] H := hP
          have hD : va_D A [(d, .inr (1, [.ref ah, .ref an, .ref ao, .int (nI ((enc ps).length + (enc (fl (sg T p0 (t - p0)))).length + 1))])), (ah, .inl (cI, 256, .inl fh)), (an, .inl (cI, 188, .inl fn)), (ao, .inl (cB, 3064, .inl (bA (spl o 0 (enc ps ++ enc (fl (sg T p0 (t - p0))) ++ [1]))))), (ba, .inl (cB, 600, .inl (bA B))), (ta, .inl (cB, 600, .inl (bA T)))] := hD
          refine lv_aload_n hx hb d_De_make_138 rfl (lv_at hl 5 rfl) ?_
          refine lv_iload hx hb d_De_make_139 (lv_at hl 1 rfl) ?_
          refine ip_V (As := [.int (nI ((bst B n T mm t (n / 8)).2))]) (rest := []) ⟨hx, hb, hml, hown, hw⟩ (c_De_putTwo l D cB cI cJ d ah an ao o (enc ps ++ enc (fl (sg T p0 (t - p0))) ++ [1]) ((enc ps).length + (enc (fl (sg T p0 (t - p0)))).length + 1) (by simp only [List.length_append, List.length_cons, List.length_nil]) (bst B n T mm t (n / 8)).2 (by omega) (by omega)) g_De_34 hd_De_putTwo rfl ⟨rfl, rfl⟩ ⟨by decide, by decide⟩ hP hK hD hS [0, 3] (by decide) rfl [d, ao] rfl (fun _ => rfl) 0 1 rfl rfl rfl hl.1 rfl (Nat.le_of_ble_eq_true rfl) ⟨Nat.zero_le _, Nat.zero_le _⟩ d_De_make_141 (fun u_141 H locs hu_141 hP hD hS => ?_)
          refine W.eq (g2 := F0 m 144 ls []) rfl ?_
          have hP : va_P D classes [(d, .inr (1, [.ref ah, .ref an, .ref ao, .int (nI ((enc ps).length + (enc (fl (sg T p0 (t - p0)))).length + 1 + 1 + 1))])), (ah, .inl (cI, 256, .inl fh)), (an, .inl (cI, 188, .inl fn)), (ao, .inl (cB, 3064, .inl (bA (spl o 0 (enc ps ++ enc (fl (sg T p0 (t - p0))) ++ [1] ++ [(bst B n T mm t (n / 8)).2 / 256] ++ [(bst B n T mm t (n / 8)).2 % 256]))))), (ba, .inl (cB, 600, .inl (bA B))), (ta, .inl (cB, 600, .inl (bA T)))] H := hP
          have hD : va_D A [(d, .inr (1, [.ref ah, .ref an, .ref ao, .int (nI ((enc ps).length + (enc (fl (sg T p0 (t - p0)))).length + 1 + 1 + 1))])), (ah, .inl (cI, 256, .inl fh)), (an, .inl (cI, 188, .inl fn)), (ao, .inl (cB, 3064, .inl (bA (spl o 0 (enc ps ++ enc (fl (sg T p0 (t - p0))) ++ [1] ++ [(bst B n T mm t (n / 8)).2 / 256] ++ [(bst B n T mm t (n / 8)).2 % 256]))))), (ba, .inl (cB, 600, .inl (bA B))), (ta, .inl (cB, 600, .inl (bA T)))] := hD
          refine lv_aload_n hx hb d_De_make_144 rfl (lv_at hl 5 rfl) ?_
          refine lv_iload hx hb d_De_make_145 (lv_at hl 2 rfl) ?_
          refine ip_V (As := [.int (nI ((bst B n T mm t (n / 8)).1))]) (rest := []) ⟨hx, hb, hml, hown, hw⟩ (c_De_putTwo l D cB cI cJ d ah an ao o (enc ps ++ enc (fl (sg T p0 (t - p0))) ++ [1] ++ [(bst B n T mm t (n / 8)).2 / 256] ++ [(bst B n T mm t (n / 8)).2 % 256]) ((enc ps).length + (enc (fl (sg T p0 (t - p0)))).length + 1 + 1 + 1) (by simp only [List.length_append, List.length_cons, List.length_nil]) (bst B n T mm t (n / 8)).1 (by omega) (by omega)) g_De_34 hd_De_putTwo rfl ⟨rfl, rfl⟩ ⟨by decide, by decide⟩ hP hK hD hS [0, 3] (by decide) rfl [d, ao] rfl (fun _ => rfl) 0 1 rfl rfl rfl hl.1 rfl (Nat.le_of_ble_eq_true rfl) ⟨Nat.zero_le _, Nat.zero_le _⟩ d_De_make_147 (fun u_147 H locs hu_147 hP hD hS => ?_)
          refine W.eq (g2 := F0 m 150 ls []) rfl ?_
          have hP : va_P D classes [(d, .inr (1, [.ref ah, .ref an, .ref ao, .int (nI ((enc ps).length + (enc (fl (sg T p0 (t - p0)))).length + 1 + 1 + 1 + 1 + 1))])), (ah, .inl (cI, 256, .inl fh)), (an, .inl (cI, 188, .inl fn)), (ao, .inl (cB, 3064, .inl (bA (spl o 0 (enc ps ++ enc (fl (sg T p0 (t - p0))) ++ [1] ++ [(bst B n T mm t (n / 8)).2 / 256] ++ [(bst B n T mm t (n / 8)).2 % 256] ++ [(bst B n T mm t (n / 8)).1 / 256] ++ [(bst B n T mm t (n / 8)).1 % 256]))))), (ba, .inl (cB, 600, .inl (bA B))), (ta, .inl (cB, 600, .inl (bA T)))] H := hP
          have hD : va_D A [(d, .inr (1, [.ref ah, .ref an, .ref ao, .int (nI ((enc ps).length + (enc (fl (sg T p0 (t - p0)))).length + 1 + 1 + 1 + 1 + 1))])), (ah, .inl (cI, 256, .inl fh)), (an, .inl (cI, 188, .inl fn)), (ao, .inl (cB, 3064, .inl (bA (spl o 0 (enc ps ++ enc (fl (sg T p0 (t - p0))) ++ [1] ++ [(bst B n T mm t (n / 8)).2 / 256] ++ [(bst B n T mm t (n / 8)).2 % 256] ++ [(bst B n T mm t (n / 8)).1 / 256] ++ [(bst B n T mm t (n / 8)).1 % 256]))))), (ba, .inl (cB, 600, .inl (bA B))), (ta, .inl (cB, 600, .inl (bA T)))] := hD
          refine lv_iload hx hb d_De_make_150 (lv_at hl 3 rfl) ?_
          refine lv_iload hx hb d_De_make_152 (lv_at hl 2 rfl) ?_
          refine n_iadd hx hb d_De_make_154 ?_
          refine lv_istore (lv' := [(6, .int (nI (t + ((bst B n T mm t (n / 8)).1)))), (9, .int (-1)), (8, .int (nI ((bst B n T mm t (n / 8)).2))), (7, .int (nI ((bst B n T mm t (n / 8)).1))), (5, .int (nI p0)), (0, .ref d), (1, .ref ba), (2, .int (nI n)), (3, .ref ta), (4, .int (nI mm))]) hx hb d_De_make_155 hl (by decide) rfl (fun ls hl => ?_)
          refine lv_iload hx hb d_De_make_157 (lv_at hl 0 rfl) ?_
          refine lv_istore (lv' := [(5, .int (nI (t + ((bst B n T mm t (n / 8)).1)))), (6, .int (nI (t + ((bst B n T mm t (n / 8)).1)))), (9, .int (-1)), (8, .int (nI ((bst B n T mm t (n / 8)).2))), (7, .int (nI ((bst B n T mm t (n / 8)).1))), (0, .ref d), (1, .ref ba), (2, .int (nI n)), (3, .ref ta), (4, .int (nI mm))]) hx hb d_De_make_159 hl (by decide) rfl (fun ls hl => ?_)
          refine lv_goto (tgt := 17) hx hb d_De_make_161 (by decide) ?_
          obtain ⟨g2, rfl⟩ : ∃ g2, g = g2 + 1 := ⟨g - 1, by omega⟩
          rw [mkP_copy (by omega) (by omega)] at hway
          have esg : sg T (t + (bst B n T mm t (n / 8)).1) (t + (bst B n T mm t (n / 8)).1 - (t + (bst B n T mm t (n / 8)).1)) = [] := by rw [Nat.sub_self]; rfl
          have hlen : (enc ps).length + (enc (fl (sg T p0 (t - p0)))).length + 1 + 1 + 1 + 1 + 1 = (enc (ps ++ fl (sg T p0 (t - p0)) ++ [.inl ((bst B n T mm t (n / 8)).2, (bst B n T mm t (n / 8)).1)])).length := by rw [← enc_cp]; simp only [List.length_append, List.length_cons, List.length_nil]
          rw [enc_cp, hlen] at hP hD
          exact ih (t + (bst B n T mm t (n / 8)).1) (t + (bst B n T mm t (n / 8)).1) (ps ++ fl (sg T p0 (t - p0)) ++ [.inl ((bst B n T mm t (n / 8)).2, (bst B n T mm t (n / 8)).1)]) g2 (Nat.le_refl _) (by omega) (by rw [esg]; exact mkI_copy hn hm hI (by omega)) (by omega) (by rw [esg]; exact hway) H locs hP hD hS ls (lv_sub hl [1, 0, 5, 6, 7, 8, 9] rfl)
        · refine lv_iinc (v := nI (t + 1)) (lv' := [(6, .int (nI (t + 1))), (9, .int (-1)), (8, .int (nI ((cst B n T mm t (n / 8)).2))), (7, .int (nI ((cst B n T mm t (n / 8)).1))), (5, .int (nI p0)), (0, .ref d), (1, .ref ba), (2, .int (nI n)), (3, .ref ta), (4, .int (nI mm))]) hx hb d_De_make_118 hl (k := 3) rfl (nI_inc1 _) (by decide) rfl (fun ls hl => ?_)
          refine lv_goto (tgt := 17) hx hb d_De_make_121 (by decide) ?_
          have hb7 : (bst B n T mm t (n / 8)).1 = 7 := by
            rcases hbc with h9 | h9
            · exact h9.1
            · rw [h9.2] at c_115; omega
          have esg : sg T p0 (t + 1 - p0) = sg T p0 (t - p0) ++ [T t] := by
            rw [show t + 1 - p0 = (t - p0) + 1 by omega, sg_snoc, show p0 + (t - p0) = t by omega]
          obtain ⟨g2, rfl⟩ : ∃ g2, g = g2 + 1 := ⟨g - 1, by omega⟩
          rw [mkP_lit (by omega) hb7] at hway
          exact ih (t + 1) p0 ps g2 (by omega) (by omega) (by rw [esg]; exact mkI_lit hT hI (by omega)) (by omega) (by rw [esg]; exact hway) H locs hP hD hS ls (lv_sub hl [0, 4, 5, 6, 7, 8, 9] rfl)
  refine lv_aload_n hx hb d_De_make_0 rfl (lv_at hl 0 rfl) ?_
  refine lv_iconst (v := nI 0) hx hb d_De_make_1 (by decide +kernel) ?_
  refine va_put (D := D) (ci := 1) (v := .int (nI 0)) (ty := .int) (C := R_De) (T := F_De) (N := 4) hx hb hw i_De t_De t_De_ok n_De hown hK.1 hP hD hS 0 rfl rfl 3 (by decide) (hw _ k_25) (fun _ h9 => h9) rfl (by decide +kernel) rfl rfl (Nat.le_of_ble_eq_true rfl) d_De_make_2 (fun H locs hP hD hS => ?_)
  have hP : va_P D classes [(d, .inr (1, [.ref ah, .ref an, .ref ao, .int (nI 0)])), (ah, .inl (cI, 256, .inl fh0)), (an, .inl (cI, 188, .inl fn0)), (ao, .inl (cB, 3064, .inl (bA o))), (ba, .inl (cB, 600, .inl (bA B))), (ta, .inl (cB, 600, .inl (bA T)))] H := hP
  have hD : va_D A [(d, .inr (1, [.ref ah, .ref an, .ref ao, .int (nI 0)])), (ah, .inl (cI, 256, .inl fh0)), (an, .inl (cI, 188, .inl fn0)), (ao, .inl (cB, 3064, .inl (bA o))), (ba, .inl (cB, 600, .inl (bA B))), (ta, .inl (cB, 600, .inl (bA T)))] := hD
  refine lv_aload_n hx hb d_De_make_5 rfl (lv_at hl 0 rfl) ?_
  refine lv_aload_n hx hb d_De_make_6 rfl (lv_at hl 1 rfl) ?_
  refine lv_iload_n hx hb d_De_make_7 rfl (lv_at hl 2 rfl) ?_
  refine ip_V (As := [.ref ba, .int (nI n)]) (rest := []) ⟨hx, hb, hml, hown, hw⟩ (c_De_index l D cB cI cJ d ah an ao ba (nI 0) fh0 fn0 B hB n hn) g_De_37 hd_De_index rfl ⟨rfl, rfl⟩ ⟨by decide, by decide⟩ hP hK hD hS [0, 1, 2, 4] (by decide) rfl [d, ah, an, ba] rfl (fun _ => rfl) 0 1 rfl rfl rfl hl.1 rfl (Nat.le_of_ble_eq_true rfl) ⟨Nat.zero_le _, Nat.zero_le _⟩ d_De_make_8 (fun u_8 H locs hu_8 hP hD hS => ?_)
  refine W.eq (g2 := F0 m 11 ls []) rfl ?_
  have hP : va_P D classes [(d, .inr (1, [.ref ah, .ref an, .ref ao, .int (nI 0)])), (ah, .inl (cI, 256, .inl u_8.1)), (an, .inl (cI, 188, .inl u_8.2)), (ao, .inl (cB, 3064, .inl (bA o))), (ba, .inl (cB, 600, .inl (bA B))), (ta, .inl (cB, 600, .inl (bA T)))] H := hP
  have hD : va_D A [(d, .inr (1, [.ref ah, .ref an, .ref ao, .int (nI 0)])), (ah, .inl (cI, 256, .inl u_8.1)), (an, .inl (cI, 188, .inl u_8.2)), (ao, .inl (cB, 3064, .inl (bA o))), (ba, .inl (cB, 600, .inl (bA B))), (ta, .inl (cB, 600, .inl (bA T)))] := hD
  refine lv_iconst (v := nI 0) hx hb d_De_make_11 (by decide +kernel) ?_
  refine lv_istore (lv' := [(5, .int (nI 0)), (0, .ref d), (1, .ref ba), (2, .int (nI n)), (3, .ref ta), (4, .int (nI mm))]) hx hb d_De_make_12 hl (by decide) rfl (fun ls hl => ?_)
  refine lv_iconst (v := nI 0) hx hb d_De_make_14 (by decide +kernel) ?_
  refine lv_istore (lv' := [(6, .int (nI 0)), (5, .int (nI 0)), (0, .ref d), (1, .ref ba), (2, .int (nI n)), (3, .ref ta), (4, .int (nI mm))]) hx hb d_De_make_15 hl (by decide) rfl (fun ls hl => ?_)
  refine loop u_8.1 u_8.2 hu_8.1 hu_8.2 (mm + 1) 0 0 [] mm (Nat.le_refl _) (by omega) (mkI_0 mm) (by omega) rfl H locs ?_ ?_ hS ls (lv_sub hl [0, 1, 2, 3, 4, 5, 6] rfl)
  · show va_P D classes [(d, .inr (1, [.ref ah, .ref an, .ref ao, .int (nI 0)])), (ah, .inl (cI, 256, .inl u_8.1)), (an, .inl (cI, 188, .inl u_8.2)), (ao, .inl (cB, 3064, .inl (bA (spl o 0 [])))), (ba, .inl (cB, 600, .inl (bA B))), (ta, .inl (cB, 600, .inl (bA T)))] H
    rw [spl_nil]; exact hP
  · show va_D A [(d, .inr (1, [.ref ah, .ref an, .ref ao, .int (nI 0)])), (ah, .inl (cI, 256, .inl u_8.1)), (an, .inl (cI, 188, .inl u_8.2)), (ao, .inl (cB, 3064, .inl (bA (spl o 0 [])))), (ba, .inl (cB, 600, .inl (bA B))), (ta, .inl (cB, 600, .inl (bA T)))]
    rw [spl_nil]; exact hD
end
section
/-! reading a way piece by piece -/
/-- the array w holds the bytes of the pieces ps -/
def Rd (w : Nat → Nat) (ps : List Pce) : Prop := ∀ (qs : List Pce) (p : Pce) (rs : List Pce), ps = qs ++ p :: rs → ∀ j, j < (eP p).length → w ((enc qs).length + j) = (eP p).getD j 0
theorem enc_mid (qs : List Pce) (p : Pce) (rs : List Pce) : enc (qs ++ p :: rs) = enc qs ++ (eP p ++ enc rs) := by simp [enc]
theorem enc_len (qs : List Pce) (p : Pce) (rs : List Pce) : (enc (qs ++ p :: rs)).length = (enc qs).length + (eP p).length + (enc rs).length := by
  rw [enc_mid]; simp only [List.length_append]; omega
theorem Rd_spl (o : Nat → Nat) (ps : List Pce) : Rd (spl o 0 (enc ps)) ps := by
  intro qs p rs h j hj
  subst h
  rw [spl_0 (by rw [enc_len]; omega), enc_mid]
  simp only [List.getD_eq_getElem?_getD]
  rw [List.getElem?_append_right (by omega), show (enc qs).length + j - (enc qs).length = j by omega, List.getElem?_append_left hj]
theorem Rd_c {w : Nat → Nat} {ps qs rs : List Pce} {q : Nat × Nat} (h : Rd w ps) (hp : ps = qs ++ .inl q :: rs) : w (enc qs).length = 1 ∧ w ((enc qs).length + 1) * 256 + w ((enc qs).length + 1 + 1) = q.1 ∧ w ((enc qs).length + 3) * 256 + w ((enc qs).length + 3 + 1) = q.2 := by
  have h0 := h qs _ rs hp 0 (by simp [eP])
  have h1 := h qs _ rs hp 1 (by simp [eP])
  have h2 := h qs _ rs hp 2 (by simp [eP])
  have h3 := h qs _ rs hp 3 (by simp [eP])
  have h4 := h qs _ rs hp 4 (by simp [eP])
  simp only [eP, List.getD_cons_zero, List.getD_cons_succ, Nat.add_zero] at h0 h1 h2 h3 h4
  refine ⟨h0, ?_, ?_⟩
  · rw [h1, show (enc qs).length + 1 + 1 = (enc qs).length + 2 by omega, h2]; omega
  · rw [h3, show (enc qs).length + 3 + 1 = (enc qs).length + 4 by omega, h4]; omega
theorem Rd_p {w : Nat → Nat} {ps qs rs : List Pce} {l : List Nat} (h : Rd w ps) (hp : ps = qs ++ .inr l :: rs) : w (enc qs).length = 2 ∧ w ((enc qs).length + 1) * 256 + w ((enc qs).length + 1 + 1) = l.length ∧ ∀ j, j < l.length → w ((enc qs).length + 3 + j) = l.getD j 0 := by
  have h0 := h qs _ rs hp 0 (by simp [eP])
  have h1 := h qs _ rs hp 1 (by simp [eP])
  have h2 := h qs _ rs hp 2 (by simp [eP])
  simp only [eP, List.getD_cons_zero, List.getD_cons_succ, Nat.add_zero] at h0 h1 h2
  refine ⟨h0, ?_, ?_⟩
  · rw [h1, show (enc qs).length + 1 + 1 = (enc qs).length + 2 by omega, h2]; omega
  · intro j hj
    have h3 := h qs _ rs hp (j + 3) (by simp only [eP, List.length_cons]; omega)
    rw [show (enc qs).length + 3 + j = (enc qs).length + (j + 3) by omega, h3]
    simp only [eP, List.getD_cons_succ]
theorem eP_c (q : Nat × Nat) : (eP (.inl q)).length = 5 := rfl
theorem eP_p (l : List Nat) : (eP (.inr l)).length = l.length + 3 := by simp [eP]
theorem enc_snoc (qs : List Pce) (p : Pce) : (enc (qs ++ [p])).length = (enc qs).length + (eP p).length := by rw [enc_app, enc_one, List.length_append]
theorem sN_snoc (qs : List Pce) (p : Pce) : sN (qs ++ [p]) = sN qs + nP p := by rw [sN_app]; simp [sN]
theorem sN_mid (qs : List Pce) (p : Pce) (rs : List Pce) : sN (qs ++ p :: rs) = sN qs + nP p + sN rs := by simp [sN]; omega
/-- what a piece makes -/
def oP (B : Nat → Nat) (p : Pce) : List Nat := match p with
  | .inl q => sg B q.1 q.2
  | .inr l => l
def outs (B : Nat → Nat) (ps : List Pce) : List Nat := ps.flatMap (oP B)
theorem oP_len (B : Nat → Nat) (p : Pce) : (oP B p).length = nP p := by
  cases p with
  | inl q => simp [oP, nP, sg_len]
  | inr l => rfl
theorem outs_snoc (B : Nat → Nat) (qs : List Pce) (p : Pce) : outs B (qs ++ [p]) = outs B qs ++ oP B p := by simp [outs]
theorem outs_len (B : Nat → Nat) (ps : List Pce) : (outs B ps).length = sN ps := by
  induction ps with
  | nil => rfl
  | cons p r ih =>
    show (oP B p ++ outs B r).length = nP p + sN r
    rw [List.length_append, oP_len, ih]
theorem sg_eq {w : Nat → Nat} {a : Nat} {l : List Nat} (h : ∀ j, j < l.length → w (a + j) = l.getD j 0) : sg w a l.length = l := by
  apply List.ext_getElem
  · rw [sg_len]
  · intro i h1 h2
    have := h i h2
    simp only [sg, List.getElem_map, List.getElem_range]
    rw [this, List.getD_eq_getElem?_getD, List.getElem?_eq_getElem h2]; rfl
theorem oP_256 {B : Nat → Nat} (hB : ∀ i, B i < 256) {p : Pce} (h : okP p) : ∀ x ∈ oP B p, x < 256 := by
  cases p with
  | inl q => exact sg_256 hB _ _
  | inr l => exact h.2.2
theorem outs_256 {B : Nat → Nat} (hB : ∀ i, B i < 256) {ps : List Pce} (h : ∀ p ∈ ps, okP p) : ∀ x ∈ outs B ps, x < 256 := by
  intro x hx
  obtain ⟨p, hp, hx⟩ := List.mem_flatMap.mp hx
  exact oP_256 hB (h p hp) x hx
/-- every copy lies within the base of b bytes -/
def fitP (b : Nat) (p : Pce) : Prop := match p with
  | .inl q => q.1 + q.2 ≤ b
  | .inr _ => True
def fits_W (b : Nat) (ps : List Pce) : Prop := ∀ p ∈ ps, fitP b p
theorem enc_256 {ps : List Pce} (h : ∀ p ∈ ps, okP p) : ∀ x ∈ enc ps, x < 256 := by
  intro x hx
  obtain ⟨p, hp, hx⟩ := List.mem_flatMap.mp hx
  have hk := h p hp
  cases p with
  | inl q =>
    obtain ⟨h1, h2, h3⟩ := hk
    simp only [eP, List.mem_cons, List.not_mem_nil, or_false] at hx
    rcases hx with h | h | h | h | h <;> omega
  | inr l =>
    obtain ⟨h1, h2, h3⟩ := hk
    simp only [eP, List.mem_cons] at hx
    rcases hx with h | h | h | h
    · omega
    · omega
    · omega
    · exact h3 x h
/-- how many bytes a piece makes, and where the next begins, as the bytes say -/
def mny (w : Nat → Nat) (a : Nat) : Nat := if w a = 1 then w (a + 3) * 256 + w (a + 3 + 1) else w (a + 1) * 256 + w (a + 1 + 1)
def nxt (w : Nat → Nat) (a : Nat) : Nat := if w a = 1 then a + 5 else a + 3 + mny w a
theorem mny_at {w : Nat → Nat} {ps qs rs : List Pce} {p : Pce} (h : Rd w ps) (hp : ps = qs ++ p :: rs) : mny w (enc qs).length = nP p := by
  unfold mny
  cases p with
  | inl q =>
    obtain ⟨h1, h2, h3⟩ := Rd_c h hp
    rw [if_pos h1, h3]; rfl
  | inr l =>
    obtain ⟨h1, h2, h3⟩ := Rd_p h hp
    rw [if_neg (by omega), h2]; rfl
theorem nxt_at {w : Nat → Nat} {ps qs rs : List Pce} {p : Pce} (h : Rd w ps) (hp : ps = qs ++ p :: rs) : nxt w (enc qs).length = (enc (qs ++ [p])).length := by
  have hm := mny_at h hp
  rw [enc_snoc]
  unfold nxt
  cases p with
  | inl q =>
    obtain ⟨h1, h2, h3⟩ := Rd_c h hp
    rw [if_pos h1, eP_c]
  | inr l =>
    obtain ⟨h1, h2, h3⟩ := Rd_p h hp
    rw [if_neg (by omega), hm, eP_p]
    show (enc qs).length + 3 + l.length = _
    omega
theorem eP_3 (p : Pce) : 3 ≤ (eP p).length := by
  cases p with
  | inl q => rw [eP_c]; omega
  | inr l => rw [eP_p]; omega
end
section
set_option maxHeartbeats 4000000 in
set_option maxRecDepth 100000 in
/-- Delta.apply: the target of a way -/
theorem c_De_apply (l : Launch) (D : va_G) (cB cI cJ : ClassId) (ao ba ra : Nat) (w B G : Nat → Nat) (ps : List Pce) (hw256 : ∀ i, w i < 256) (hR : Rd w ps) (hok : okW ps) (hfit : fits_W 600 ps) : Met l y_De_apply (Wd y_De_apply b_De_apply 11 (some .int)) ({ frames := 1, cells := 0, slots := 0, locals := 30 }) (ip_P D cB cI cJ [.ref ao, .int (nI 0), .int (nI ((enc ps).length)), .ref ba, .ref ra] [(ao, .inl (cB, 3064, .inl (bA w))), (ba, .inl (cB, 600, .inl (bA B))), (ra, .inl (cB, 600, .inl (bA G)))]) (ip_Q D [(ao, .inl (cB, 3064, .inl (bA w))), (ba, .inl (cB, 600, .inl (bA B))), (ra, .inl (cB, 600, .inl (bA G)))] (fun _ : Unit => True) (fun _ : Unit => some (.int (nI (sN ps)))) (fun _ : Unit => [(ao, .inl (cB, 3064, .inl (bA w))), (ba, .inl (cB, 600, .inl (bA B))), (ra, .inl (cB, 600, .inl (bA (spl G 0 (outs B ps)))))])) 0 0 (inW [(ao, .inl (cB, 3064, .inl (bA w))), (ba, .inl (cB, 600, .inl (bA B))), (ra, .inl (cB, 600, .inl (bA G)))]) := by
  refine mt_ip (by decide) (Nat.le_of_ble_eq_true rfl) ?_
  intro p e s m args below meth c ls Q A hx hb hr hml hw hown hlk hP hK hD hS hl hAe hQ
  have hown : s.vm.findClass R_De = some m.cls := hown
  have hl : lv_has ls 11 [(0, .ref ao), (1, .int (nI 0)), (2, .int (nI ((enc ps).length))), (3, .ref ba), (4, .ref ra)] := hl
  have loop : ∀ (rs qs : List Pce), ps = qs ++ rs → ∀ (H : Heap) (locs : List Loc), va_P D classes [(ao, .inl (cB, 3064, .inl (bA w))), (ba, .inl (cB, 600, .inl (bA B))), (ra, .inl (cB, 600, .inl (bA (spl G 0 (outs B qs)))))] H → va_D A [(ao, .inl (cB, 3064, .inl (bA w))), (ba, .inl (cB, 600, .inl (bA B))), (ra, .inl (cB, 600, .inl (bA (spl G 0 (outs B qs)))))] → va_S A s.heap H locs → ∀ ls : Array Slot, lv_has ls 11 [(6, .int (nI ((enc qs).length))), (5, .int (nI (sN qs))), (0, .ref ao), (1, .int (nI 0)), (2, .int (nI ((enc ps).length))), (3, .ref ba), (4, .ref ra)] → W p l e ({ frames := 1, cells := 0, slots := 0, locals := 30 }) s m args below meth c H locs 0 0 Q (F0 m 6 ls []) := by
    intro rs
    induction rs with
    | nil =>
      intro qs hps H locs hP hD hS ls hl
      rw [List.append_nil] at hps
      subst hps
      have hlen := hok.2.2
      refine lv_iload hx hb d_De_apply_6 (lv_at hl 0 rfl) ?_
      refine lv_iload_n hx hb d_De_apply_8 rfl (lv_at hl 4 rfl) ?_
      refine n_icmp_ge (tgt := 141) hx hb d_De_apply_9 (by decide) (by omega) (by omega) (fun c_9 => ?_) (fun c_9 => ?_)
      · refine lv_iload hx hb d_De_apply_141 (lv_at hl 1 rfl) ?_
        exact ip_iret hx hb hr hlk hAe hS () rfl trivial hP hQ d_De_apply_143
      · exfalso; omega
    | cons p rs ih =>
      intro qs hps H locs hP hD hS ls hl
      have hlen := hok.2.2
      have hsum := hok.2.1
      rw [hps, enc_len] at hlen
      rw [hps, sN_mid] at hsum
      have helen : (enc ps).length = (enc qs).length + (eP p).length + (enc rs).length := by rw [hps, enc_len]
      have h3 := eP_3 p
      have hpm : p ∈ ps := by rw [hps]; exact List.mem_append_right _ List.mem_cons_self
      have hpok := hok.1 p hpm
      have hpf := hfit p hpm
      have hps2 : ps = (qs ++ [p]) ++ rs := by rw [hps, List.append_assoc]; rfl
      cases p with
      | inl q =>
        obtain ⟨hc1, hc2, hc3⟩ := Rd_c hR hps
        obtain ⟨hk1, hk2, hk3⟩ := hpok
        have hpf : q.1 + q.2 ≤ 600 := hpf
        have hnp : nP (.inl q) = q.2 := rfl
        have hep := eP_c q
        refine lv_iload hx hb d_De_apply_6 (lv_at hl 0 rfl) ?_
        refine lv_iload_n hx hb d_De_apply_8 rfl (lv_at hl 4 rfl) ?_
        refine n_icmp_ge (tgt := 141) hx hb d_De_apply_9 (by decide) (by omega) (by omega) (fun c_9 => ?_) (fun c_9 => ?_)
        · exfalso; omega
        · refine lv_aload_n hx hb d_De_apply_12 rfl (lv_at hl 2 rfl) ?_
          refine lv_iload hx hb d_De_apply_13 (lv_at hl 0 rfl) ?_
          refine ba_ld hx hb hK.1 hP 0 0 rfl rfl (by omega) (by decide) d_De_apply_15 ?_
          refine lv_iconst (v := nI 1) hx hb d_De_apply_16 (by decide +kernel) ?_
          refine b1_icmp_ne (tgt := 24) hx hb d_De_apply_17 (by decide) (hw256 _) (fun c_17 => ?_) (fun c_17 => ?_)
          · exact absurd hc1 c_17
          · refine lv_iconst (v := nI 1) hx hb d_De_apply_20 (by decide +kernel) ?_
            refine lv_goto (tgt := 25) hx hb d_De_apply_21 (by decide) ?_
            refine lv_istore (lv' := [(7, .int (nI 1)), (6, .int (nI ((enc qs).length))), (5, .int (nI (sN qs))), (0, .ref ao), (1, .int (nI 0)), (2, .int (nI ((enc ps).length))), (3, .ref ba), (4, .ref ra)]) hx hb d_De_apply_25 hl (by decide) rfl (fun ls hl => ?_)
            refine lv_iload hx hb d_De_apply_27 (lv_at hl 0 rfl) ?_
            refine n_if_eq (tgt := 43) hx hb d_De_apply_29 (by decide) (by omega) (fun c_29 => ?_) (fun c_29 => ?_)
            · exfalso; omega
            · refine lv_aload_n hx hb d_De_apply_32 rfl (lv_at hl 3 rfl) ?_
              refine lv_iload hx hb d_De_apply_33 (lv_at hl 1 rfl) ?_
              refine lv_iconst (v := nI 1) hx hb d_De_apply_35 (by decide +kernel) ?_
              refine n_iadd hx hb d_De_apply_36 ?_
              refine ro_S (As := [.ref ao, .int (nI (((enc qs).length) + 1))]) (rest := []) ⟨hx, hb, hml, hown, hw⟩ (c_De_two l D cB cI cJ ao w ((enc qs).length + 1) hw256 (by omega)) g_De_49 hd_De_two ⟨rfl, rfl⟩ ⟨by decide, by decide⟩ hP hK [0] rfl rfl hl.1 rfl (Nat.le_of_ble_eq_true rfl) ⟨Nat.zero_le _, Nat.zero_le _⟩ d_De_apply_37 ?_
              refine tv_i (y := nI q.1) (by rw [hc2]) ?_
              refine lv_goto (tgt := 47) hx hb d_De_apply_40 (by decide) ?_
              refine lv_istore (lv' := [(8, .int (nI q.1)), (7, .int (nI 1)), (6, .int (nI ((enc qs).length))), (5, .int (nI (sN qs))), (0, .ref ao), (1, .int (nI 0)), (2, .int (nI ((enc ps).length))), (3, .ref ba), (4, .ref ra)]) hx hb d_De_apply_47 hl (by decide) rfl (fun ls hl => ?_)
              refine lv_aload_n hx hb d_De_apply_49 rfl (lv_at hl 4 rfl) ?_
              refine lv_iload hx hb d_De_apply_50 (lv_at hl 1 rfl) ?_
              refine n_if_eq (tgt := 62) hx hb d_De_apply_52 (by decide) (by omega) (fun c_52 => ?_) (fun c_52 => ?_)
              · exfalso; omega
              · refine lv_iload hx hb d_De_apply_55 (lv_at hl 2 rfl) ?_
                refine lv_iconst (v := nI 3) hx hb d_De_apply_57 (by decide +kernel) ?_
                refine n_iadd hx hb d_De_apply_58 ?_
                refine lv_goto (tgt := 66) hx hb d_De_apply_59 (by decide) ?_
                refine ro_S (As := [.ref ao, .int (nI (((enc qs).length) + 3))]) (rest := []) ⟨hx, hb, hml, hown, hw⟩ (c_De_two l D cB cI cJ ao w ((enc qs).length + 3) hw256 (by omega)) g_De_49 hd_De_two ⟨rfl, rfl⟩ ⟨by decide, by decide⟩ hP hK [0] rfl rfl hl.1 rfl (Nat.le_of_ble_eq_true rfl) ⟨Nat.zero_le _, Nat.zero_le _⟩ d_De_apply_66 ?_
                refine tv_i (y := nI q.2) (by rw [hc3]) ?_
                refine lv_istore (lv' := [(9, .int (nI q.2)), (8, .int (nI q.1)), (7, .int (nI 1)), (6, .int (nI ((enc qs).length))), (5, .int (nI (sN qs))), (0, .ref ao), (1, .int (nI 0)), (2, .int (nI ((enc ps).length))), (3, .ref ba), (4, .ref ra)]) hx hb d_De_apply_69 hl (by decide) rfl (fun ls hl => ?_)
                refine lv_iconst (v := nI 0) hx hb d_De_apply_71 (by decide +kernel) ?_
                refine lv_istore (lv' := [(10, .int (nI 0)), (9, .int (nI q.2)), (8, .int (nI q.1)), (7, .int (nI 1)), (6, .int (nI ((enc qs).length))), (5, .int (nI (sN qs))), (0, .ref ao), (1, .int (nI 0)), (2, .int (nI ((enc ps).length))), (3, .ref ba), (4, .ref ra)]) hx hb d_De_apply_72 hl (by decide) rfl (fun ls hl => ?_)
                have inn : (∀ (H : Heap) (locs : List Loc), va_P D classes [(ao, .inl (cB, 3064, .inl (bA w))), (ba, .inl (cB, 600, .inl (bA B))), (ra, .inl (cB, 600, .inl (bA (spl G 0 (outs B qs ++ sg B (q.1) q.2)))))] H → va_D A [(ao, .inl (cB, 3064, .inl (bA w))), (ba, .inl (cB, 600, .inl (bA B))), (ra, .inl (cB, 600, .inl (bA (spl G 0 (outs B qs ++ sg B (q.1) q.2)))))] → va_S A s.heap H locs → ∀ ls : Array Slot, lv_has ls 11 [(10, .int (nI q.2)), (9, .int (nI q.2)), (8, .int (nI q.1)), (7, .int (nI 1)), (6, .int (nI ((enc qs).length))), (5, .int (nI (sN qs + q.2))), (0, .ref ao), (1, .int (nI 0)), (2, .int (nI ((enc ps).length))), (3, .ref ba), (4, .ref ra)] → W p l e ({ frames := 1, cells := 0, slots := 0, locals := 30 }) s m args below meth c H locs 0 0 Q (F0 m 117 ls [])) → ∀ (f k : Nat), k ≤ q.2 → q.2 < k + f → ∀ (H : Heap) (locs : List Loc), va_P D classes [(ao, .inl (cB, 3064, .inl (bA w))), (ba, .inl (cB, 600, .inl (bA B))), (ra, .inl (cB, 600, .inl (bA (spl G 0 (outs B qs ++ sg B (q.1) k)))))] H → va_D A [(ao, .inl (cB, 3064, .inl (bA w))), (ba, .inl (cB, 600, .inl (bA B))), (ra, .inl (cB, 600, .inl (bA (spl G 0 (outs B qs ++ sg B (q.1) k)))))] → va_S A s.heap H locs → ∀ ls : Array Slot, lv_has ls 11 [(10, .int (nI k)), (9, .int (nI q.2)), (8, .int (nI q.1)), (7, .int (nI 1)), (6, .int (nI ((enc qs).length))), (5, .int (nI (sN qs + k))), (0, .ref ao), (1, .int (nI 0)), (2, .int (nI ((enc ps).length))), (3, .ref ba), (4, .ref ra)] → W p l e ({ frames := 1, cells := 0, slots := 0, locals := 30 }) s m args below meth c H locs 0 0 Q (F0 m 74 ls []) := by
                  intro kk f
                  induction f with
                  | zero => intro k h1 h2; omega
                  | succ f ihf =>
                    intro k h1 h2 H locs hP hD hS ls hl
                    refine lv_iload hx hb d_De_apply_74 (lv_at hl 0 rfl) ?_
                    refine lv_iload hx hb d_De_apply_76 (lv_at hl 1 rfl) ?_
                    refine n_icmp_ge (tgt := 117) hx hb d_De_apply_78 (by decide) (by omega) (by omega) (fun c_78 => ?_) (fun c_78 => ?_)
                    · have hk : k = q.2 := by omega
                      subst hk
                      exact kk H locs hP hD hS ls hl
                    · refine lv_aload hx hb d_De_apply_81 (lv_at hl 10 rfl) ?_
                      refine lv_iload hx hb d_De_apply_83 (lv_at hl 5 rfl) ?_
                      refine lv_iinc (v := nI ((sN qs + k) + 1)) (lv' := [(5, .int (nI ((sN qs + k) + 1))), (10, .int (nI k)), (9, .int (nI q.2)), (8, .int (nI q.1)), (7, .int (nI 1)), (6, .int (nI ((enc qs).length))), (0, .ref ao), (1, .int (nI 0)), (2, .int (nI ((enc ps).length))), (3, .ref ba), (4, .ref ra)]) hx hb d_De_apply_85 hl (k := 5) rfl (nI_inc1 _) (by decide) rfl (fun ls hl => ?_)
                      refine lv_iload hx hb d_De_apply_88 (lv_at hl 4 rfl) ?_
                      refine n_if_eq (tgt := 103) hx hb d_De_apply_90 (by decide) (by omega) (fun c_90 => ?_) (fun c_90 => ?_)
                      · exfalso; omega
                      · refine lv_aload_n hx hb d_De_apply_93 rfl (lv_at hl 9 rfl) ?_
                        refine lv_iload hx hb d_De_apply_94 (lv_at hl 3 rfl) ?_
                        refine lv_iload hx hb d_De_apply_96 (lv_at hl 1 rfl) ?_
                        refine n_iadd hx hb d_De_apply_98 ?_
                        refine ba_ld hx hb hK.1 hP 1 0 rfl rfl (by omega) (by decide) d_De_apply_99 ?_
                        refine lv_goto (tgt := 110) hx hb d_De_apply_100 (by decide) ?_
                        refine ba_st hx hb hK.1 hP hD hS 2 0 rfl rfl (by omega) (by decide) d_De_apply_110 (fun H locs hP hD hS => ?_)
                        rw [show va_up (spl G 0 (outs B qs ++ sg B (q.1) k)) (sN qs + k) (B (q.1 + k)) = spl G 0 (outs B qs ++ sg B (q.1) k ++ [B (q.1 + k)]) from spl_sn0 _ _ _ (by rw [List.length_append, outs_len, sg_len])] at hP hD
                        have hP : va_P D classes [(ao, .inl (cB, 3064, .inl (bA w))), (ba, .inl (cB, 600, .inl (bA B))), (ra, .inl (cB, 600, .inl (bA (spl G 0 (outs B qs ++ sg B (q.1) k ++ [B (q.1 + k)])))))] H := hP
                        have hD : va_D A [(ao, .inl (cB, 3064, .inl (bA w))), (ba, .inl (cB, 600, .inl (bA B))), (ra, .inl (cB, 600, .inl (bA (spl G 0 (outs B qs ++ sg B (q.1) k ++ [B (q.1 + k)])))))] := hD
                        refine lv_iinc (v := nI (k + 1)) (lv' := [(10, .int (nI (k + 1))), (5, .int (nI ((sN qs + k) + 1))), (9, .int (nI q.2)), (8, .int (nI q.1)), (7, .int (nI 1)), (6, .int (nI ((enc qs).length))), (0, .ref ao), (1, .int (nI 0)), (2, .int (nI ((enc ps).length))), (3, .ref ba), (4, .ref ra)]) hx hb d_De_apply_111 hl (k := 1) rfl (nI_inc1 _) (by decide) rfl (fun ls hl => ?_)
                        refine lv_goto (tgt := 74) hx hb d_De_apply_114 (by decide) ?_
                        rw [List.append_assoc, ← sg_snoc] at hP hD
                        exact ihf (k + 1) (by omega) (by omega) H locs hP hD hS ls (lv_sub hl [0, 2, 3, 4, 5, 1, 6, 7, 8, 9, 10] rfl)
                refine inn (fun H locs hP hD hS ls hl => ?_) (q.2 + 1) 0 (Nat.zero_le _) (by omega) H locs ?_ ?_ hS ls ?_
                · refine lv_iload hx hb d_De_apply_117 (lv_at hl 3 rfl) ?_
                  refine n_if_eq (tgt := 129) hx hb d_De_apply_119 (by decide) (by omega) (fun c_119 => ?_) (fun c_119 => ?_)
                  · exfalso; omega
                  · refine lv_iload hx hb d_De_apply_122 (lv_at hl 4 rfl) ?_
                    refine lv_iconst (v := nI 5) hx hb d_De_apply_124 (by decide +kernel) ?_
                    refine n_iadd hx hb d_De_apply_125 ?_
                    refine lv_goto (tgt := 136) hx hb d_De_apply_126 (by decide) ?_
                    refine lv_istore (lv' := [(6, .int (nI (((enc qs).length) + 5))), (10, .int (nI q.2)), (9, .int (nI q.2)), (8, .int (nI q.1)), (7, .int (nI 1)), (5, .int (nI (sN qs + q.2))), (0, .ref ao), (1, .int (nI 0)), (2, .int (nI ((enc ps).length))), (3, .ref ba), (4, .ref ra)]) hx hb d_De_apply_136 hl (by decide) rfl (fun ls hl => ?_)
                    refine lv_goto (tgt := 6) hx hb d_De_apply_138 (by decide) ?_
                    have e1 : (enc (qs ++ [.inl q])).length = (enc qs).length + 5 := by rw [enc_snoc, hep]
                    have e2 : sN (qs ++ [.inl q]) = sN qs + q.2 := by rw [sN_snoc, hnp]
                    have e3 : outs B (qs ++ [.inl q]) = outs B qs ++ sg B (q.1) q.2 := by
                      rw [outs_snoc]; rfl
                    refine ih (qs ++ [.inl q]) hps2 H locs ?_ ?_ hS ls ?_
                    · rw [e3]; exact hP
                    · rw [e3]; exact hD
                    · rw [e1, e2]; exact lv_sub hl [0, 5, 6, 7, 8, 9, 10] rfl
                · show va_P D classes [(ao, .inl (cB, 3064, .inl (bA w))), (ba, .inl (cB, 600, .inl (bA B))), (ra, .inl (cB, 600, .inl (bA (spl G 0 (outs B qs ++ sg B (q.1) 0)))))] H
                  rw [show sg B (q.1) 0 = [] from rfl, List.append_nil]; exact hP
                · show va_D A [(ao, .inl (cB, 3064, .inl (bA w))), (ba, .inl (cB, 600, .inl (bA B))), (ra, .inl (cB, 600, .inl (bA (spl G 0 (outs B qs ++ sg B (q.1) 0)))))]
                  rw [show sg B (q.1) 0 = [] from rfl, List.append_nil]; exact hD
                · exact lv_sub hl [0, 1, 2, 3, 4, 5, 6, 7, 8, 9, 10] rfl
      | inr xs =>
        obtain ⟨hc1, hc2, hc3⟩ := Rd_p hR hps
        obtain ⟨hk1, hk2, hk3⟩ := hpok
        have hnp : nP (.inr xs) = xs.length := rfl
        have hep := eP_p xs
        refine lv_iload hx hb d_De_apply_6 (lv_at hl 0 rfl) ?_
        refine lv_iload_n hx hb d_De_apply_8 rfl (lv_at hl 4 rfl) ?_
        refine n_icmp_ge (tgt := 141) hx hb d_De_apply_9 (by decide) (by omega) (by omega) (fun c_9 => ?_) (fun c_9 => ?_)
        · exfalso; omega
        · refine lv_aload_n hx hb d_De_apply_12 rfl (lv_at hl 2 rfl) ?_
          refine lv_iload hx hb d_De_apply_13 (lv_at hl 0 rfl) ?_
          refine ba_ld hx hb hK.1 hP 0 0 rfl rfl (by omega) (by decide) d_De_apply_15 ?_
          refine lv_iconst (v := nI 1) hx hb d_De_apply_16 (by decide +kernel) ?_
          refine b1_icmp_ne (tgt := 24) hx hb d_De_apply_17 (by decide) (hw256 _) (fun c_17 => ?_) (fun c_17 => ?_)
          · refine lv_iconst (v := nI 0) hx hb d_De_apply_24 (by decide +kernel) ?_
            refine lv_istore (lv' := [(7, .int (nI 0)), (6, .int (nI ((enc qs).length))), (5, .int (nI (sN qs))), (0, .ref ao), (1, .int (nI 0)), (2, .int (nI ((enc ps).length))), (3, .ref ba), (4, .ref ra)]) hx hb d_De_apply_25 hl (by decide) rfl (fun ls hl => ?_)
            refine lv_iload hx hb d_De_apply_27 (lv_at hl 0 rfl) ?_
            refine n_if_eq (tgt := 43) hx hb d_De_apply_29 (by decide) (by omega) (fun c_29 => ?_) (fun c_29 => ?_)
            · refine lv_iload hx hb d_De_apply_43 (lv_at hl 1 rfl) ?_
              refine lv_iconst (v := nI 3) hx hb d_De_apply_45 (by decide +kernel) ?_
              refine n_iadd hx hb d_De_apply_46 ?_
              refine lv_istore (lv' := [(8, .int (nI (((enc qs).length) + 3))), (7, .int (nI 0)), (6, .int (nI ((enc qs).length))), (5, .int (nI (sN qs))), (0, .ref ao), (1, .int (nI 0)), (2, .int (nI ((enc ps).length))), (3, .ref ba), (4, .ref ra)]) hx hb d_De_apply_47 hl (by decide) rfl (fun ls hl => ?_)
              refine lv_aload_n hx hb d_De_apply_49 rfl (lv_at hl 4 rfl) ?_
              refine lv_iload hx hb d_De_apply_50 (lv_at hl 1 rfl) ?_
              refine n_if_eq (tgt := 62) hx hb d_De_apply_52 (by decide) (by omega) (fun c_52 => ?_) (fun c_52 => ?_)
              · refine lv_iload hx hb d_De_apply_62 (lv_at hl 2 rfl) ?_
                refine lv_iconst (v := nI 1) hx hb d_De_apply_64 (by decide +kernel) ?_
                refine n_iadd hx hb d_De_apply_65 ?_
                refine ro_S (As := [.ref ao, .int (nI (((enc qs).length) + 1))]) (rest := []) ⟨hx, hb, hml, hown, hw⟩ (c_De_two l D cB cI cJ ao w ((enc qs).length + 1) hw256 (by omega)) g_De_49 hd_De_two ⟨rfl, rfl⟩ ⟨by decide, by decide⟩ hP hK [0] rfl rfl hl.1 rfl (Nat.le_of_ble_eq_true rfl) ⟨Nat.zero_le _, Nat.zero_le _⟩ d_De_apply_66 ?_
                refine tv_i (y := nI xs.length) (by rw [hc2]) ?_
                refine lv_istore (lv' := [(9, .int (nI xs.length)), (8, .int (nI (((enc qs).length) + 3))), (7, .int (nI 0)), (6, .int (nI ((enc qs).length))), (5, .int (nI (sN qs))), (0, .ref ao), (1, .int (nI 0)), (2, .int (nI ((enc ps).length))), (3, .ref ba), (4, .ref ra)]) hx hb d_De_apply_69 hl (by decide) rfl (fun ls hl => ?_)
                refine lv_iconst (v := nI 0) hx hb d_De_apply_71 (by decide +kernel) ?_
                refine lv_istore (lv' := [(10, .int (nI 0)), (9, .int (nI xs.length)), (8, .int (nI (((enc qs).length) + 3))), (7, .int (nI 0)), (6, .int (nI ((enc qs).length))), (5, .int (nI (sN qs))), (0, .ref ao), (1, .int (nI 0)), (2, .int (nI ((enc ps).length))), (3, .ref ba), (4, .ref ra)]) hx hb d_De_apply_72 hl (by decide) rfl (fun ls hl => ?_)
                have inn : (∀ (H : Heap) (locs : List Loc), va_P D classes [(ao, .inl (cB, 3064, .inl (bA w))), (ba, .inl (cB, 600, .inl (bA B))), (ra, .inl (cB, 600, .inl (bA (spl G 0 (outs B qs ++ sg w ((enc qs).length + 3) xs.length)))))] H → va_D A [(ao, .inl (cB, 3064, .inl (bA w))), (ba, .inl (cB, 600, .inl (bA B))), (ra, .inl (cB, 600, .inl (bA (spl G 0 (outs B qs ++ sg w ((enc qs).length + 3) xs.length)))))] → va_S A s.heap H locs → ∀ ls : Array Slot, lv_has ls 11 [(10, .int (nI xs.length)), (9, .int (nI xs.length)), (8, .int (nI ((enc qs).length + 3))), (7, .int (nI 0)), (6, .int (nI ((enc qs).length))), (5, .int (nI (sN qs + xs.length))), (0, .ref ao), (1, .int (nI 0)), (2, .int (nI ((enc ps).length))), (3, .ref ba), (4, .ref ra)] → W p l e ({ frames := 1, cells := 0, slots := 0, locals := 30 }) s m args below meth c H locs 0 0 Q (F0 m 117 ls [])) → ∀ (f k : Nat), k ≤ xs.length → xs.length < k + f → ∀ (H : Heap) (locs : List Loc), va_P D classes [(ao, .inl (cB, 3064, .inl (bA w))), (ba, .inl (cB, 600, .inl (bA B))), (ra, .inl (cB, 600, .inl (bA (spl G 0 (outs B qs ++ sg w ((enc qs).length + 3) k)))))] H → va_D A [(ao, .inl (cB, 3064, .inl (bA w))), (ba, .inl (cB, 600, .inl (bA B))), (ra, .inl (cB, 600, .inl (bA (spl G 0 (outs B qs ++ sg w ((enc qs).length + 3) k)))))] → va_S A s.heap H locs → ∀ ls : Array Slot, lv_has ls 11 [(10, .int (nI k)), (9, .int (nI xs.length)), (8, .int (nI ((enc qs).length + 3))), (7, .int (nI 0)), (6, .int (nI ((enc qs).length))), (5, .int (nI (sN qs + k))), (0, .ref ao), (1, .int (nI 0)), (2, .int (nI ((enc ps).length))), (3, .ref ba), (4, .ref ra)] → W p l e ({ frames := 1, cells := 0, slots := 0, locals := 30 }) s m args below meth c H locs 0 0 Q (F0 m 74 ls []) := by
                  intro kk f
                  induction f with
                  | zero => intro k h1 h2; omega
                  | succ f ihf =>
                    intro k h1 h2 H locs hP hD hS ls hl
                    refine lv_iload hx hb d_De_apply_74 (lv_at hl 0 rfl) ?_
                    refine lv_iload hx hb d_De_apply_76 (lv_at hl 1 rfl) ?_
                    refine n_icmp_ge (tgt := 117) hx hb d_De_apply_78 (by decide) (by omega) (by omega) (fun c_78 => ?_) (fun c_78 => ?_)
                    · have hk : k = xs.length := by omega
                      subst hk
                      exact kk H locs hP hD hS ls hl
                    · refine lv_aload hx hb d_De_apply_81 (lv_at hl 10 rfl) ?_
                      refine lv_iload hx hb d_De_apply_83 (lv_at hl 5 rfl) ?_
                      refine lv_iinc (v := nI ((sN qs + k) + 1)) (lv' := [(5, .int (nI ((sN qs + k) + 1))), (10, .int (nI k)), (9, .int (nI xs.length)), (8, .int (nI ((enc qs).length + 3))), (7, .int (nI 0)), (6, .int (nI ((enc qs).length))), (0, .ref ao), (1, .int (nI 0)), (2, .int (nI ((enc ps).length))), (3, .ref ba), (4, .ref ra)]) hx hb d_De_apply_85 hl (k := 5) rfl (nI_inc1 _) (by decide) rfl (fun ls hl => ?_)
                      refine lv_iload hx hb d_De_apply_88 (lv_at hl 4 rfl) ?_
                      refine n_if_eq (tgt := 103) hx hb d_De_apply_90 (by decide) (by omega) (fun c_90 => ?_) (fun c_90 => ?_)
                      · refine lv_aload_n hx hb d_De_apply_103 rfl (lv_at hl 6 rfl) ?_
                        refine lv_iload hx hb d_De_apply_104 (lv_at hl 3 rfl) ?_
                        refine lv_iload hx hb d_De_apply_106 (lv_at hl 1 rfl) ?_
                        refine n_iadd hx hb d_De_apply_108 ?_
                        refine ba_ld hx hb hK.1 hP 0 0 rfl rfl (by omega) (by decide) d_De_apply_109 ?_
                        refine ba_st hx hb hK.1 hP hD hS 2 0 rfl rfl (by omega) (by decide) d_De_apply_110 (fun H locs hP hD hS => ?_)
                        rw [show va_up (spl G 0 (outs B qs ++ sg w ((enc qs).length + 3) k)) (sN qs + k) (w (((enc qs).length + 3) + k)) = spl G 0 (outs B qs ++ sg w ((enc qs).length + 3) k ++ [w ((enc qs).length + 3 + k)]) from spl_sn0 _ _ _ (by rw [List.length_append, outs_len, sg_len])] at hP hD
                        have hP : va_P D classes [(ao, .inl (cB, 3064, .inl (bA w))), (ba, .inl (cB, 600, .inl (bA B))), (ra, .inl (cB, 600, .inl (bA (spl G 0 (outs B qs ++ sg w ((enc qs).length + 3) k ++ [w ((enc qs).length + 3 + k)])))))] H := hP
                        have hD : va_D A [(ao, .inl (cB, 3064, .inl (bA w))), (ba, .inl (cB, 600, .inl (bA B))), (ra, .inl (cB, 600, .inl (bA (spl G 0 (outs B qs ++ sg w ((enc qs).length + 3) k ++ [w ((enc qs).length + 3 + k)])))))] := hD
                        refine lv_iinc (v := nI (k + 1)) (lv' := [(10, .int (nI (k + 1))), (5, .int (nI ((sN qs + k) + 1))), (9, .int (nI xs.length)), (8, .int (nI ((enc qs).length + 3))), (7, .int (nI 0)), (6, .int (nI ((enc qs).length))), (0, .ref ao), (1, .int (nI 0)), (2, .int (nI ((enc ps).length))), (3, .ref ba), (4, .ref ra)]) hx hb d_De_apply_111 hl (k := 1) rfl (nI_inc1 _) (by decide) rfl (fun ls hl => ?_)
                        refine lv_goto (tgt := 74) hx hb d_De_apply_114 (by decide) ?_
                        rw [List.append_assoc, ← sg_snoc] at hP hD
                        exact ihf (k + 1) (by omega) (by omega) H locs hP hD hS ls (lv_sub hl [0, 2, 3, 4, 5, 1, 6, 7, 8, 9, 10] rfl)
                      · exfalso; omega
                refine inn (fun H locs hP hD hS ls hl => ?_) (xs.length + 1) 0 (Nat.zero_le _) (by omega) H locs ?_ ?_ hS ls ?_
                · refine lv_iload hx hb d_De_apply_117 (lv_at hl 3 rfl) ?_
                  refine n_if_eq (tgt := 129) hx hb d_De_apply_119 (by decide) (by omega) (fun c_119 => ?_) (fun c_119 => ?_)
                  · refine lv_iload hx hb d_De_apply_129 (lv_at hl 4 rfl) ?_
                    refine lv_iconst (v := nI 3) hx hb d_De_apply_131 (by decide +kernel) ?_
                    refine n_iadd hx hb d_De_apply_132 ?_
                    refine lv_iload hx hb d_De_apply_133 (lv_at hl 1 rfl) ?_
                    refine n_iadd hx hb d_De_apply_135 ?_
                    refine lv_istore (lv' := [(6, .int (nI ((((enc qs).length) + 3) + xs.length))), (10, .int (nI xs.length)), (9, .int (nI xs.length)), (8, .int (nI ((enc qs).length + 3))), (7, .int (nI 0)), (5, .int (nI (sN qs + xs.length))), (0, .ref ao), (1, .int (nI 0)), (2, .int (nI ((enc ps).length))), (3, .ref ba), (4, .ref ra)]) hx hb d_De_apply_136 hl (by decide) rfl (fun ls hl => ?_)
                    refine lv_goto (tgt := 6) hx hb d_De_apply_138 (by decide) ?_
                    have e1 : (enc (qs ++ [.inr xs])).length = (enc qs).length + 3 + xs.length := by rw [enc_snoc, hep]; omega
                    have e2 : sN (qs ++ [.inr xs]) = sN qs + xs.length := by rw [sN_snoc, hnp]
                    have e3 : outs B (qs ++ [.inr xs]) = outs B qs ++ sg w ((enc qs).length + 3) xs.length := by
                      rw [outs_snoc]; rw [sg_eq hc3]; rfl
                    refine ih (qs ++ [.inr xs]) hps2 H locs ?_ ?_ hS ls ?_
                    · rw [e3]; exact hP
                    · rw [e3]; exact hD
                    · rw [e1, e2]; exact lv_sub hl [0, 5, 6, 7, 8, 9, 10] rfl
                  · exfalso; omega
                · show va_P D classes [(ao, .inl (cB, 3064, .inl (bA w))), (ba, .inl (cB, 600, .inl (bA B))), (ra, .inl (cB, 600, .inl (bA (spl G 0 (outs B qs ++ sg w ((enc qs).length + 3) 0)))))] H
                  rw [show sg w ((enc qs).length + 3) 0 = [] from rfl, List.append_nil]; exact hP
                · show va_D A [(ao, .inl (cB, 3064, .inl (bA w))), (ba, .inl (cB, 600, .inl (bA B))), (ra, .inl (cB, 600, .inl (bA (spl G 0 (outs B qs ++ sg w ((enc qs).length + 3) 0)))))]
                  rw [show sg w ((enc qs).length + 3) 0 = [] from rfl, List.append_nil]; exact hD
                · exact lv_sub hl [0, 1, 2, 3, 4, 5, 6, 7, 8, 9, 10] rfl
              · exfalso; omega
            · exfalso; omega
          · omega
  refine lv_iconst (v := nI 0) hx hb d_De_apply_0 (by decide +kernel) ?_
  refine lv_istore (lv' := [(5, .int (nI 0)), (0, .ref ao), (1, .int (nI 0)), (2, .int (nI ((enc ps).length))), (3, .ref ba), (4, .ref ra)]) hx hb d_De_apply_1 hl (by decide) rfl (fun ls hl => ?_)
  refine lv_iload_n hx hb d_De_apply_3 rfl (lv_at hl 2 rfl) ?_
  refine lv_istore (lv' := [(6, .int (nI 0)), (5, .int (nI 0)), (0, .ref ao), (1, .int (nI 0)), (2, .int (nI ((enc ps).length))), (3, .ref ba), (4, .ref ra)]) hx hb d_De_apply_4 hl (by decide) rfl (fun ls hl => ?_)
  refine loop ps [] rfl s.heap [] ?_ ?_ hS ls (lv_sub hl [0, 1, 2, 3, 4, 5, 6] rfl)
  · show va_P D classes [(ao, .inl (cB, 3064, .inl (bA w))), (ba, .inl (cB, 600, .inl (bA B))), (ra, .inl (cB, 600, .inl (bA (spl G 0 []))))] s.heap
    rw [spl_nil]; exact hP
  · show va_D A [(ao, .inl (cB, 3064, .inl (bA w))), (ba, .inl (cB, 600, .inl (bA B))), (ra, .inl (cB, 600, .inl (bA (spl G 0 []))))]
    rw [spl_nil]; exact hD
end
section
set_option maxHeartbeats 4000000 in
set_option maxRecDepth 100000 in
theorem c_PW_clearT (l : Launch) (D : va_G) (cB cI cJ : ClassId) (x ba ta ra d : Nat) (v1 v2 v3 v4 : Int32) : Met l y_PW_clear (Wd y_PW_clear b_PW_clear 2 none) ({ frames := 0, cells := 0, slots := 0, locals := 0 }) (ip_P D cB cI cJ [.ref x, .int (nI 1)] [(x, .inr (0, [.ref ba, .ref ta, .ref ra, .int v1, .int v2, .int v3, .int v4, .ref d]))]) (ip_Q D [(x, .inr (0, [.ref ba, .ref ta, .ref ra, .int v1, .int v2, .int v3, .int v4, .ref d]))] (fun _ : Unit => True) (fun _ : Unit => none) (fun _ : Unit => [(x, .inr (0, [.ref ba, .ref ta, .ref ra, .int v1, .int (nI 0), .int v3, .int v4, .ref d]))])) 0 0 (inW [(x, .inr (0, [.ref ba, .ref ta, .ref ra, .int v1, .int v2, .int v3, .int v4, .ref d]))]) := by
  refine mt_ip (by decide) (Nat.le_of_ble_eq_true rfl) ?_
  intro p e s m args below meth c ls Q A hx hb hr hml hw hown hlk hP hK hD hS hl hAe hQ
  have hown : s.vm.findClass R_PW = some m.cls := hown
  have hl : lv_has ls 2 [(0, .ref x), (1, .int (nI 1))] := hl
  refine lv_iload_n hx hb d_PW_clear_0 rfl (lv_at hl 1 rfl) ?_
  refine n_if_eq (tgt := 12) hx hb d_PW_clear_1 (by decide) (by omega) (fun c_1 => ?_) (fun c_1 => ?_)
  · exfalso; omega
  · refine lv_aload_n hx hb d_PW_clear_4 rfl (lv_at hl 0 rfl) ?_
    refine lv_iconst (v := nI 0) hx hb d_PW_clear_5 (by decide +kernel) ?_
    refine va_put (D := D) (ci := 0) (v := .int (nI 0)) (ty := .int) (C := R_PW) (T := F_PW) (N := 8) hx hb hw i_PW t_PW t_PW_ok n_PW hown hK.1 hP hD hS 0 rfl rfl 4 (by decide) (hw _ k_41) (fun _ h9 => h9) rfl (by decide +kernel) rfl rfl (Nat.le_of_ble_eq_true rfl) d_PW_clear_6 (fun H locs hP hD hS => ?_)
    have hP : va_P D classes [(x, .inr (0, [.ref ba, .ref ta, .ref ra, .int v1, .int (nI 0), .int v3, .int v4, .ref d]))] H := hP
    have hD : va_D A [(x, .inr (0, [.ref ba, .ref ta, .ref ra, .int v1, .int (nI 0), .int v3, .int v4, .ref d]))] := hD
    refine lv_goto (tgt := 17) hx hb d_PW_clear_9 (by decide) ?_
    exact ip_vret hx hb hr hlk hAe hS () rfl trivial hP hQ d_PW_clear_17
set_option maxHeartbeats 4000000 in
set_option maxRecDepth 100000 in
theorem c_PW_clearB (l : Launch) (D : va_G) (cB cI cJ : ClassId) (x ba ta ra d : Nat) (v1 v2 v3 v4 : Int32) : Met l y_PW_clear (Wd y_PW_clear b_PW_clear 2 none) ({ frames := 0, cells := 0, slots := 0, locals := 0 }) (ip_P D cB cI cJ [.ref x, .int (nI 0)] [(x, .inr (0, [.ref ba, .ref ta, .ref ra, .int v1, .int v2, .int v3, .int v4, .ref d]))]) (ip_Q D [(x, .inr (0, [.ref ba, .ref ta, .ref ra, .int v1, .int v2, .int v3, .int v4, .ref d]))] (fun _ : Unit => True) (fun _ : Unit => none) (fun _ : Unit => [(x, .inr (0, [.ref ba, .ref ta, .ref ra, .int (nI 0), .int v2, .int v3, .int v4, .ref d]))])) 0 0 (inW [(x, .inr (0, [.ref ba, .ref ta, .ref ra, .int v1, .int v2, .int v3, .int v4, .ref d]))]) := by
  refine mt_ip (by decide) (Nat.le_of_ble_eq_true rfl) ?_
  intro p e s m args below meth c ls Q A hx hb hr hml hw hown hlk hP hK hD hS hl hAe hQ
  have hown : s.vm.findClass R_PW = some m.cls := hown
  have hl : lv_has ls 2 [(0, .ref x), (1, .int (nI 0))] := hl
  refine lv_iload_n hx hb d_PW_clear_0 rfl (lv_at hl 1 rfl) ?_
  refine n_if_eq (tgt := 12) hx hb d_PW_clear_1 (by decide) (by omega) (fun c_1 => ?_) (fun c_1 => ?_)
  · refine lv_aload_n hx hb d_PW_clear_12 rfl (lv_at hl 0 rfl) ?_
    refine lv_iconst (v := nI 0) hx hb d_PW_clear_13 (by decide +kernel) ?_
    refine va_put (D := D) (ci := 0) (v := .int (nI 0)) (ty := .int) (C := R_PW) (T := F_PW) (N := 8) hx hb hw i_PW t_PW t_PW_ok n_PW hown hK.1 hP hD hS 0 rfl rfl 3 (by decide) (hw _ k_40) (fun _ h9 => h9) rfl (by decide +kernel) rfl rfl (Nat.le_of_ble_eq_true rfl) d_PW_clear_14 (fun H locs hP hD hS => ?_)
    have hP : va_P D classes [(x, .inr (0, [.ref ba, .ref ta, .ref ra, .int (nI 0), .int v2, .int v3, .int v4, .ref d]))] H := hP
    have hD : va_D A [(x, .inr (0, [.ref ba, .ref ta, .ref ra, .int (nI 0), .int v2, .int v3, .int v4, .ref d]))] := hD
    exact ip_vret hx hb hr hlk hAe hS () rfl trivial hP hQ d_PW_clear_17
  · exfalso; omega
set_option maxHeartbeats 4000000 in
set_option maxRecDepth 100000 in
theorem c_PW_isCopy (l : Launch) (D : va_G) (cB cI cJ : ClassId) (x ba ta ra d ah an ao : Nat) (v1 v2 v3 v4 z : Int32) (w : Nat → Nat) (hw256 : ∀ i, w i < 256) (a : Nat) (ha : a < 3064) : Met l y_PW_isCopy (Wd y_PW_isCopy b_PW_isCopy 2 (some .boolean)) ({ frames := 1, cells := 0, slots := 0, locals := 30 }) (ro_P D cB cI cJ [.ref x, .int (nI a)] [(x, .inr (0, [.ref ba, .ref ta, .ref ra, .int v1, .int v2, .int v3, .int v4, .ref d])), (d, .inr (1, [.ref ah, .ref an, .ref ao, .int z])), (ao, .inl (cB, 3064, .inl (bA w)))]) (ro_Q (some (.int (nI (if w a = 1 then 1 else 0))))) 0 0 (fun _ => False) := by
  refine mt_ro (by decide) (Nat.le_of_ble_eq_true rfl) ?_
  intro p e s m args below meth c ls Q hx hb hr hml hw hown hlk hP hK hl hQ
  have hown : s.vm.findClass R_PW = some m.cls := hown
  have hl : lv_has ls 2 [(0, .ref x), (1, .int (nI a))] := hl
  refine lv_aload_n hx hb d_PW_isCopy_0 rfl (lv_at hl 0 rfl) ?_
  refine va_get (D := D) (ci := 0) (v := .ref d) (C := R_PW) (T := F_PW) (N := 8) hx hb hw i_PW hown hK.1 hP 0 rfl rfl 7 (by decide) (hw _ k_44) (fun _ h9 => h9) rfl d_PW_isCopy_1 ?_
  refine ro_V (As := []) (rest := []) ⟨hx, hb, hml, hown, hw⟩ (c_De_out l D cB cI cJ d ah an ao z) g_PW_33 hd_De_out rfl ⟨rfl, rfl⟩ ⟨by decide, by decide⟩ hP hK [1] rfl 1 1 rfl rfl rfl hl.1 rfl (Nat.le_of_ble_eq_true rfl) ⟨Nat.zero_le _, Nat.zero_le _⟩ d_PW_isCopy_4 ?_
  refine lv_iload_n hx hb d_PW_isCopy_7 rfl (lv_at hl 1 rfl) ?_
  refine ba_ld hx hb hK.1 hP 2 0 rfl rfl (by omega) (by decide) d_PW_isCopy_8 ?_
  refine lv_iconst (v := nI 1) hx hb d_PW_isCopy_9 (by decide +kernel) ?_
  refine b1_icmp_ne (tgt := 17) hx hb d_PW_isCopy_10 (by decide) (hw256 _) (fun c_10 => ?_) (fun c_10 => ?_)
  · refine lv_iconst (v := nI 0) hx hb d_PW_isCopy_17 (by decide +kernel) ?_
    exact ro_zret hx hb hr hlk (by rw [if_neg c_10]) (by rw [if_neg c_10]; rfl) hQ d_PW_isCopy_18
  · refine lv_iconst (v := nI 1) hx hb d_PW_isCopy_13 (by decide +kernel) ?_
    refine lv_goto (tgt := 18) hx hb d_PW_isCopy_14 (by decide) ?_
    exact ro_zret hx hb hr hlk (by rw [if_pos c_10]) (by rw [if_pos c_10]; rfl) hQ d_PW_isCopy_18
set_option maxHeartbeats 4000000 in
set_option maxRecDepth 100000 in
theorem c_PW_many (l : Launch) (D : va_G) (cB cI cJ : ClassId) (x ba ta ra d ah an ao : Nat) (v1 v2 v3 v4 z : Int32) (w : Nat → Nat) (hw256 : ∀ i, w i < 256) (a : Nat) (ha : a + 4 < 3064) : Met l y_PW_many (Wd y_PW_many b_PW_many 2 (some .int)) ({ frames := 2, cells := 0, slots := 0, locals := 60 }) (ro_P D cB cI cJ [.ref x, .int (nI a)] [(x, .inr (0, [.ref ba, .ref ta, .ref ra, .int v1, .int v2, .int v3, .int v4, .ref d])), (d, .inr (1, [.ref ah, .ref an, .ref ao, .int z])), (ao, .inl (cB, 3064, .inl (bA w)))]) (ro_Q (some (.int (nI (mny w a))))) 0 0 (fun _ => False) := by
  refine mt_ro (by decide) (Nat.le_of_ble_eq_true rfl) ?_
  intro p e s m args below meth c ls Q hx hb hr hml hw hown hlk hP hK hl hQ
  have hown : s.vm.findClass R_PW = some m.cls := hown
  have hl : lv_has ls 2 [(0, .ref x), (1, .int (nI a))] := hl
  refine lv_aload_n hx hb d_PW_many_0 rfl (lv_at hl 0 rfl) ?_
  refine va_get (D := D) (ci := 0) (v := .ref d) (C := R_PW) (T := F_PW) (N := 8) hx hb hw i_PW hown hK.1 hP 0 rfl rfl 7 (by decide) (hw _ k_44) (fun _ h9 => h9) rfl d_PW_many_1 ?_
  refine ro_V (As := []) (rest := []) ⟨hx, hb, hml, hown, hw⟩ (c_De_out l D cB cI cJ d ah an ao z) g_PW_33 hd_De_out rfl ⟨rfl, rfl⟩ ⟨by decide, by decide⟩ hP hK [1] rfl 1 1 rfl rfl rfl hl.1 rfl (Nat.le_of_ble_eq_true rfl) ⟨Nat.zero_le _, Nat.zero_le _⟩ d_PW_many_4 ?_
  refine lv_aload_n hx hb d_PW_many_7 rfl (lv_at hl 0 rfl) ?_
  refine lv_iload_n hx hb d_PW_many_8 rfl (lv_at hl 1 rfl) ?_
  refine ro_V (As := [.int (nI a)]) (rest := [.ref ao]) ⟨hx, hb, hml, hown, hw⟩ (c_PW_isCopy l D cB cI cJ x ba ta ra d ah an ao v1 v2 v3 v4 z w hw256 a (by omega)) g_PW_37 hd_PW_isCopy rfl ⟨rfl, rfl⟩ ⟨by decide, by decide⟩ hP hK [0, 1, 2] rfl 0 0 rfl rfl rfl hl.1 rfl (Nat.le_of_ble_eq_true rfl) ⟨Nat.zero_le _, Nat.zero_le _⟩ d_PW_many_9 ?_
  refine n_if_eq (tgt := 21) hx hb d_PW_many_12 (by decide) (by split <;> omega) (fun c_12 => ?_) (fun c_12 => ?_)
  · have hc : ¬ w a = 1 := fun h => by rw [if_pos h] at c_12; omega
    refine lv_iload_n hx hb d_PW_many_21 rfl (lv_at hl 1 rfl) ?_
    refine lv_iconst (v := nI 1) hx hb d_PW_many_22 (by decide +kernel) ?_
    refine n_iadd hx hb d_PW_many_23 ?_
    refine ro_two (As := [.ref ao, .int (nI (a + 1))]) (rest := []) ⟨hx, hb, hml, hown, hw⟩ (c_De_two l D cB cI cJ ao w (a + 1) hw256 (by omega)) ⟨rfl, rfl⟩ ⟨by decide, by decide⟩ hP hK [2] rfl rfl hl.1 rfl (Nat.le_of_ble_eq_true rfl) ⟨Nat.zero_le _, Nat.zero_le _⟩ d_PW_many_24 ?_
    exact ro_iret hx hb hr hlk (by unfold mny; rw [if_neg hc]) hQ d_PW_many_27
  · have hc : w a = 1 := by
      rcases Nat.decEq (w a) 1 with h | h
      · rw [if_neg h] at c_12; omega
      · exact h
    refine lv_iload_n hx hb d_PW_many_15 rfl (lv_at hl 1 rfl) ?_
    refine lv_iconst (v := nI 3) hx hb d_PW_many_16 (by decide +kernel) ?_
    refine n_iadd hx hb d_PW_many_17 ?_
    refine lv_goto (tgt := 24) hx hb d_PW_many_18 (by decide) ?_
    refine ro_two (As := [.ref ao, .int (nI (a + 3))]) (rest := []) ⟨hx, hb, hml, hown, hw⟩ (c_De_two l D cB cI cJ ao w (a + 3) hw256 (by omega)) ⟨rfl, rfl⟩ ⟨by decide, by decide⟩ hP hK [2] rfl rfl hl.1 rfl (Nat.le_of_ble_eq_true rfl) ⟨Nat.zero_le _, Nat.zero_le _⟩ d_PW_many_24 ?_
    exact ro_iret hx hb hr hlk (by unfold mny; rw [if_pos hc]) hQ d_PW_many_27
set_option maxHeartbeats 4000000 in
set_option maxRecDepth 100000 in
theorem c_PW_next (l : Launch) (D : va_G) (cB cI cJ : ClassId) (x ba ta ra d ah an ao : Nat) (v1 v2 v3 v4 z : Int32) (w : Nat → Nat) (hw256 : ∀ i, w i < 256) (a : Nat) (ha : a + 4 < 3064) : Met l y_PW_next (Wd y_PW_next b_PW_next 2 (some .int)) ({ frames := 3, cells := 0, slots := 0, locals := 90 }) (ro_P D cB cI cJ [.ref x, .int (nI a)] [(x, .inr (0, [.ref ba, .ref ta, .ref ra, .int v1, .int v2, .int v3, .int v4, .ref d])), (d, .inr (1, [.ref ah, .ref an, .ref ao, .int z])), (ao, .inl (cB, 3064, .inl (bA w)))]) (ro_Q (some (.int (nI (nxt w a))))) 0 0 (fun _ => False) := by
  refine mt_ro (by decide) (Nat.le_of_ble_eq_true rfl) ?_
  intro p e s m args below meth c ls Q hx hb hr hml hw hown hlk hP hK hl hQ
  have hown : s.vm.findClass R_PW = some m.cls := hown
  have hl : lv_has ls 2 [(0, .ref x), (1, .int (nI a))] := hl
  refine lv_aload_n hx hb d_PW_next_0 rfl (lv_at hl 0 rfl) ?_
  refine lv_iload_n hx hb d_PW_next_1 rfl (lv_at hl 1 rfl) ?_
  refine ro_V (As := [.int (nI a)]) (rest := []) ⟨hx, hb, hml, hown, hw⟩ (c_PW_isCopy l D cB cI cJ x ba ta ra d ah an ao v1 v2 v3 v4 z w hw256 a (by omega)) g_PW_37 hd_PW_isCopy rfl ⟨rfl, rfl⟩ ⟨by decide, by decide⟩ hP hK [0, 1, 2] rfl 0 0 rfl rfl rfl hl.1 rfl (Nat.le_of_ble_eq_true rfl) ⟨Nat.zero_le _, Nat.zero_le _⟩ d_PW_next_2 ?_
  refine n_if_eq (tgt := 14) hx hb d_PW_next_5 (by decide) (by split <;> omega) (fun c_5 => ?_) (fun c_5 => ?_)
  · have hc : ¬ w a = 1 := fun h => by rw [if_pos h] at c_5; omega
    refine lv_iload_n hx hb d_PW_next_14 rfl (lv_at hl 1 rfl) ?_
    refine lv_iconst (v := nI 3) hx hb d_PW_next_15 (by decide +kernel) ?_
    refine n_iadd hx hb d_PW_next_16 ?_
    refine lv_aload_n hx hb d_PW_next_17 rfl (lv_at hl 0 rfl) ?_
    refine lv_iload_n hx hb d_PW_next_18 rfl (lv_at hl 1 rfl) ?_
    refine ro_V (As := [.int (nI a)]) (rest := [.int (nI (a + 3))]) ⟨hx, hb, hml, hown, hw⟩ (c_PW_many l D cB cI cJ x ba ta ra d ah an ao v1 v2 v3 v4 z w hw256 a ha) g_PW_45 hd_PW_many rfl ⟨rfl, rfl⟩ ⟨by decide, by decide⟩ hP hK [0, 1, 2] rfl 0 0 rfl rfl rfl hl.1 rfl (Nat.le_of_ble_eq_true rfl) ⟨Nat.zero_le _, Nat.zero_le _⟩ d_PW_next_19 ?_
    refine n_iadd hx hb d_PW_next_22 ?_
    exact ro_iret hx hb hr hlk (by unfold nxt; rw [if_neg hc]) hQ d_PW_next_23
  · have hc : w a = 1 := by
      rcases Nat.decEq (w a) 1 with h | h
      · rw [if_neg h] at c_5; omega
      · exact h
    refine lv_iload_n hx hb d_PW_next_8 rfl (lv_at hl 1 rfl) ?_
    refine lv_iconst (v := nI 5) hx hb d_PW_next_9 (by decide +kernel) ?_
    refine n_iadd hx hb d_PW_next_10 ?_
    refine lv_goto (tgt := 23) hx hb d_PW_next_11 (by decide) ?_
    exact ro_iret hx hb hr hlk (by unfold nxt; rw [if_pos hc]) hQ d_PW_next_23
set_option maxHeartbeats 4000000 in
set_option maxRecDepth 100000 in
theorem c_PW_size (l : Launch) (D : va_G) (cB cI cJ : ClassId) (x ba ta ra d ah an ao : Nat) (v1 v2 v3 v4 z : Int32) : Met l y_PW_size (Wd y_PW_size b_PW_size 1 (some .int)) ({ frames := 1, cells := 0, slots := 0, locals := 30 }) (ro_P D cB cI cJ [.ref x] [(x, .inr (0, [.ref ba, .ref ta, .ref ra, .int v1, .int v2, .int v3, .int v4, .ref d])), (d, .inr (1, [.ref ah, .ref an, .ref ao, .int z]))]) (ro_Q (some (.int z))) 0 0 (fun _ => False) := by
  refine mt_ro (by decide) (Nat.le_of_ble_eq_true rfl) ?_
  intro p e s m args below meth c ls Q hx hb hr hml hw hown hlk hP hK hl hQ
  have hown : s.vm.findClass R_PW = some m.cls := hown
  have hl : lv_has ls 1 [(0, .ref x)] := hl
  refine lv_aload_n hx hb d_PW_size_0 rfl (lv_at hl 0 rfl) ?_
  refine va_get (D := D) (ci := 0) (v := .ref d) (C := R_PW) (T := F_PW) (N := 8) hx hb hw i_PW hown hK.1 hP 0 rfl rfl 7 (by decide) (hw _ k_44) (fun _ h9 => h9) rfl d_PW_size_1 ?_
  refine ro_V (As := []) (rest := []) ⟨hx, hb, hml, hown, hw⟩ (c_De_size l D cB cI cJ d ah an ao z) g_PW_56 hd_De_size rfl ⟨rfl, rfl⟩ ⟨by decide, by decide⟩ hP hK [1] rfl 1 1 rfl rfl rfl hl.1 rfl (Nat.le_of_ble_eq_true rfl) ⟨Nat.zero_le _, Nat.zero_le _⟩ d_PW_size_4 ?_
  exact ro_iret hx hb hr hlk rfl hQ d_PW_size_7
/-- what way(i) and result(i) answer: the i-th of n bytes, or -1 -/
def ixV (w : Nat → Nat) (n : Nat) (i : Int32) : Int32 := if i < 0 ∨ nI n ≤ i then -1 else nI (w i.toNatClampNeg)
theorem ixV_neg {w : Nat → Nat} {n : Nat} {i : Int32} (h : i < 0 ∨ nI n ≤ i) : ixV w n i = -1 := if_pos h
theorem ixV_in {w : Nat → Nat} {n j : Nat} (hn : n < 2 ^ 31) (h : j < n) : ixV w n (nI j) = nI (w j) := by
  unfold ixV
  rw [if_neg (fun z => by
    rcases z with z | z
    · exact absurd z (nI_pos (by omega))
    · exact absurd z (nI_ge h hn)), nI_clamp (by omega)]
theorem nlt_le {a b : Int32} (h : ¬ a < b) : b ≤ a := Int32.not_lt.mp h
set_option maxHeartbeats 4000000 in
set_option maxRecDepth 100000 in
theorem c_PW_way (l : Launch) (D : va_G) (cB cI cJ : ClassId) (x ba ta ra d ah an ao : Nat) (v1 v2 v3 v4 : Int32) (w : Nat → Nat) (hw256 : ∀ i, w i < 256) (n : Nat) (hn : n < 3064) (i : Int32) : Met l y_PW_way (Wd y_PW_way b_PW_way 2 (some .int)) ({ frames := 1, cells := 0, slots := 0, locals := 30 }) (ro_P D cB cI cJ [.ref x, .int i] [(x, .inr (0, [.ref ba, .ref ta, .ref ra, .int v1, .int v2, .int v3, .int v4, .ref d])), (d, .inr (1, [.ref ah, .ref an, .ref ao, .int (nI n)])), (ao, .inl (cB, 3064, .inl (bA w)))]) (ro_Q (some (.int (ixV w n i)))) 0 0 (fun _ => False) := by
  refine mt_ro (by decide) (Nat.le_of_ble_eq_true rfl) ?_
  intro p e s m args below meth c ls Q hx hb hr hml hw hown hlk hP hK hl hQ
  have hown : s.vm.findClass R_PW = some m.cls := hown
  have hl : lv_has ls 2 [(0, .ref x), (1, .int i)] := hl
  refine lv_iload_n hx hb d_PW_way_0 rfl (lv_at hl 1 rfl) ?_
  refine lv_if_lt (tgt := 15) hx hb d_PW_way_1 (by decide) (fun c_1 => ?_) (fun c_1 => ?_)
  · refine lv_iconst (v := -1) hx hb d_PW_way_15 (by decide +kernel) ?_
    refine lv_goto (tgt := 32) hx hb d_PW_way_16 (by decide) ?_
    exact ro_iret hx hb hr hlk (ixV_neg (by left; exact c_1)).symm hQ d_PW_way_32
  · refine lv_iload_n hx hb d_PW_way_4 rfl (lv_at hl 1 rfl) ?_
    refine lv_aload_n hx hb d_PW_way_5 rfl (lv_at hl 0 rfl) ?_
    refine va_get (D := D) (ci := 0) (v := .ref d) (C := R_PW) (T := F_PW) (N := 8) hx hb hw i_PW hown hK.1 hP 0 rfl rfl 7 (by decide) (hw _ k_44) (fun _ h9 => h9) rfl d_PW_way_6 ?_
    refine ro_V (As := []) (rest := [.int i]) ⟨hx, hb, hml, hown, hw⟩ (c_De_size l D cB cI cJ d ah an ao (nI n)) g_PW_56 hd_De_size rfl ⟨rfl, rfl⟩ ⟨by decide, by decide⟩ hP hK [1] rfl 1 1 rfl rfl rfl hl.1 rfl (Nat.le_of_ble_eq_true rfl) ⟨Nat.zero_le _, Nat.zero_le _⟩ d_PW_way_9 ?_
    refine lv_icmp_lt (tgt := 19) hx hb d_PW_way_12 (by decide) (fun c_12 => ?_) (fun c_12 => ?_)
    · obtain ⟨j, hj, rfl⟩ : ∃ j : Nat, j < n ∧ i = nI j := by
        obtain ⟨j, hj, e⟩ := nI_of c_1
        rw [e] at c_12
        exact ⟨j, (nI_ltI hj (by omega)).mp c_12, e⟩
      refine lv_aload_n hx hb d_PW_way_19 rfl (lv_at hl 0 rfl) ?_
      refine va_get (D := D) (ci := 0) (v := .ref d) (C := R_PW) (T := F_PW) (N := 8) hx hb hw i_PW hown hK.1 hP 0 rfl rfl 7 (by decide) (hw _ k_44) (fun _ h9 => h9) rfl d_PW_way_20 ?_
      refine ro_V (As := []) (rest := []) ⟨hx, hb, hml, hown, hw⟩ (c_De_out l D cB cI cJ d ah an ao (nI n)) g_PW_33 hd_De_out rfl ⟨rfl, rfl⟩ ⟨by decide, by decide⟩ hP hK [1] rfl 1 1 rfl rfl rfl hl.1 rfl (Nat.le_of_ble_eq_true rfl) ⟨Nat.zero_le _, Nat.zero_le _⟩ d_PW_way_23 ?_
      refine lv_iload_n hx hb d_PW_way_26 rfl (lv_at hl 1 rfl) ?_
      refine ba_ld hx hb hK.1 hP 2 0 rfl rfl (by omega) (by decide) d_PW_way_27 ?_
      refine lv_sipush (v := nI 255) hx hb d_PW_way_28 (by decide +kernel) ?_
      refine lv_iand hx hb d_PW_way_31 ?_
      refine tv_i (y := nI (w j)) (bI_255 (hw256 _)) ?_
      exact ro_iret hx hb hr hlk (ixV_in (by omega) hj).symm hQ d_PW_way_32
    · refine lv_iconst (v := -1) hx hb d_PW_way_15 (by decide +kernel) ?_
      refine lv_goto (tgt := 32) hx hb d_PW_way_16 (by decide) ?_
      exact ro_iret hx hb hr hlk (ixV_neg (by right; exact nlt_le c_12)).symm hQ d_PW_way_32
set_option maxHeartbeats 4000000 in
set_option maxRecDepth 100000 in
theorem c_PW_result (l : Launch) (D : va_G) (cB cI cJ : ClassId) (x ba ta ra d : Nat) (v1 v2 v4 : Int32) (w : Nat → Nat) (hw256 : ∀ i, w i < 256) (n : Nat) (hn : n ≤ 600) (i : Int32) : Met l y_PW_result (Wd y_PW_result b_PW_result 2 (some .int)) ({ frames := 0, cells := 0, slots := 0, locals := 0 }) (ro_P D cB cI cJ [.ref x, .int i] [(x, .inr (0, [.ref ba, .ref ta, .ref ra, .int v1, .int v2, .int (nI n), .int v4, .ref d])), (ra, .inl (cB, 600, .inl (bA w)))]) (ro_Q (some (.int (ixV w n i)))) 0 0 (fun _ => False) := by
  refine mt_ro (by decide) (Nat.le_of_ble_eq_true rfl) ?_
  intro p e s m args below meth c ls Q hx hb hr hml hw hown hlk hP hK hl hQ
  have hown : s.vm.findClass R_PW = some m.cls := hown
  have hl : lv_has ls 2 [(0, .ref x), (1, .int i)] := hl
  refine lv_iload_n hx hb d_PW_result_0 rfl (lv_at hl 1 rfl) ?_
  refine lv_if_lt (tgt := 12) hx hb d_PW_result_1 (by decide) (fun c_1 => ?_) (fun c_1 => ?_)
  · refine lv_iconst (v := -1) hx hb d_PW_result_12 (by decide +kernel) ?_
    refine lv_goto (tgt := 26) hx hb d_PW_result_13 (by decide) ?_
    exact ro_iret hx hb hr hlk (ixV_neg (by left; exact c_1)).symm hQ d_PW_result_26
  · refine lv_iload_n hx hb d_PW_result_4 rfl (lv_at hl 1 rfl) ?_
    refine lv_aload_n hx hb d_PW_result_5 rfl (lv_at hl 0 rfl) ?_
    refine va_get (D := D) (ci := 0) (v := .int (nI n)) (C := R_PW) (T := F_PW) (N := 8) hx hb hw i_PW hown hK.1 hP 0 rfl rfl 5 (by decide) (hw _ k_42) (fun _ h9 => h9) rfl d_PW_result_6 ?_
    refine lv_icmp_lt (tgt := 16) hx hb d_PW_result_9 (by decide) (fun c_9 => ?_) (fun c_9 => ?_)
    · obtain ⟨j, hj, rfl⟩ : ∃ j : Nat, j < n ∧ i = nI j := by
        obtain ⟨j, hj, e⟩ := nI_of c_1
        rw [e] at c_9
        exact ⟨j, (nI_ltI hj (by omega)).mp c_9, e⟩
      refine lv_aload_n hx hb d_PW_result_16 rfl (lv_at hl 0 rfl) ?_
      refine va_get (D := D) (ci := 0) (v := .ref ra) (C := R_PW) (T := F_PW) (N := 8) hx hb hw i_PW hown hK.1 hP 0 rfl rfl 2 (by decide) (hw _ k_39) (fun _ h9 => h9) rfl d_PW_result_17 ?_
      refine lv_iload_n hx hb d_PW_result_20 rfl (lv_at hl 1 rfl) ?_
      refine ba_ld hx hb hK.1 hP 1 0 rfl rfl (by omega) (by decide) d_PW_result_21 ?_
      refine lv_sipush (v := nI 255) hx hb d_PW_result_22 (by decide +kernel) ?_
      refine lv_iand hx hb d_PW_result_25 ?_
      refine tv_i (y := nI (w j)) (bI_255 (hw256 _)) ?_
      exact ro_iret hx hb hr hlk (ixV_in (by omega) hj).symm hQ d_PW_result_26
    · refine lv_iconst (v := -1) hx hb d_PW_result_12 (by decide +kernel) ?_
      refine lv_goto (tgt := 26) hx hb d_PW_result_13 (by decide) ?_
      exact ro_iret hx hb hr hlk (ixV_neg (by right; exact nlt_le c_9)).symm hQ d_PW_result_26
def cnV (a b c : Int32) (i : Int32) : Int32 := if i = 0 then a else if i = nI 1 then b else if i = nI 2 then c else -1
set_option maxHeartbeats 4000000 in
set_option maxRecDepth 100000 in
theorem c_PW_count (l : Launch) (D : va_G) (cB cI cJ : ClassId) (x ba ta ra d : Nat) (v1 v2 v3 v4 : Int32) (i : Int32) : Met l y_PW_count (Wd y_PW_count b_PW_count 2 (some .int)) ({ frames := 0, cells := 0, slots := 0, locals := 0 }) (ro_P D cB cI cJ [.ref x, .int i] [(x, .inr (0, [.ref ba, .ref ta, .ref ra, .int v1, .int v2, .int v3, .int v4, .ref d]))]) (ro_Q (some (.int (cnV v1 v2 v3 i)))) 0 0 (fun _ => False) := by
  refine mt_ro (by decide) (Nat.le_of_ble_eq_true rfl) ?_
  intro p e s m args below meth c ls Q hx hb hr hml hw hown hlk hP hK hl hQ
  have hown : s.vm.findClass R_PW = some m.cls := hown
  have hl : lv_has ls 2 [(0, .ref x), (1, .int i)] := hl
  refine lv_iload_n hx hb d_PW_count_0 rfl (lv_at hl 1 rfl) ?_
  refine lv_if_ne (tgt := 11) hx hb d_PW_count_1 (by decide) (fun c_1 => ?_) (fun c_1 => ?_)
  · refine lv_iload_n hx hb d_PW_count_11 rfl (lv_at hl 1 rfl) ?_
    refine lv_iconst (v := nI 1) hx hb d_PW_count_12 (by decide +kernel) ?_
    refine lv_icmp_ne (tgt := 23) hx hb d_PW_count_13 (by decide) (fun c_13 => ?_) (fun c_13 => ?_)
    · refine lv_iload_n hx hb d_PW_count_23 rfl (lv_at hl 1 rfl) ?_
      refine lv_iconst (v := nI 2) hx hb d_PW_count_24 (by decide +kernel) ?_
      refine lv_icmp_ne (tgt := 35) hx hb d_PW_count_25 (by decide) (fun c_25 => ?_) (fun c_25 => ?_)
      · refine lv_iconst (v := -1) hx hb d_PW_count_35 (by decide +kernel) ?_
        exact ro_iret hx hb hr hlk (by unfold cnV; rw [if_neg c_1, if_neg c_13, if_neg c_25]) hQ d_PW_count_36
      · refine lv_aload_n hx hb d_PW_count_28 rfl (lv_at hl 0 rfl) ?_
        refine va_get (D := D) (ci := 0) (v := .int v3) (C := R_PW) (T := F_PW) (N := 8) hx hb hw i_PW hown hK.1 hP 0 rfl rfl 5 (by decide) (hw _ k_42) (fun _ h9 => h9) rfl d_PW_count_29 ?_
        refine lv_goto (tgt := 36) hx hb d_PW_count_32 (by decide) ?_
        exact ro_iret hx hb hr hlk (by unfold cnV; rw [if_neg c_1, if_neg c_13, if_pos c_25]) hQ d_PW_count_36
    · refine lv_aload_n hx hb d_PW_count_16 rfl (lv_at hl 0 rfl) ?_
      refine va_get (D := D) (ci := 0) (v := .int v2) (C := R_PW) (T := F_PW) (N := 8) hx hb hw i_PW hown hK.1 hP 0 rfl rfl 4 (by decide) (hw _ k_41) (fun _ h9 => h9) rfl d_PW_count_17 ?_
      refine lv_goto (tgt := 36) hx hb d_PW_count_20 (by decide) ?_
      exact ro_iret hx hb hr hlk (by unfold cnV; rw [if_neg c_1, if_pos c_13]) hQ d_PW_count_36
  · refine lv_aload_n hx hb d_PW_count_4 rfl (lv_at hl 0 rfl) ?_
    refine va_get (D := D) (ci := 0) (v := .int v1) (C := R_PW) (T := F_PW) (N := 8) hx hb hw i_PW hown hK.1 hP 0 rfl rfl 3 (by decide) (hw _ k_40) (fun _ h9 => h9) rfl d_PW_count_5 ?_
    refine lv_goto (tgt := 36) hx hb d_PW_count_8 (by decide) ?_
    exact ro_iret hx hb hr hlk (by unfold cnV; rw [if_pos c_1]) hQ d_PW_count_36
end
section
/-- the i-th byte of a long, from the lowest on, as the shifts give it -/
def vb (v : Int64) (i : Nat) : Nat := ((v >>> ((nI (8 * i)).toInt64 &&& 63)).toInt32).toBitVec.toNat % 256
def vbl (v : Int64) (k j : Nat) : List Nat := (List.range j).map (fun i => vb v (k - 1 - i))
theorem vb_lt (v : Int64) (i : Nat) : vb v i < 256 := Nat.mod_lt _ (by decide)
theorem vbl_len (v : Int64) (k j : Nat) : (vbl v k j).length = j := by simp [vbl]
theorem vbl_snoc (v : Int64) (k j : Nat) : vbl v k (j + 1) = vbl v k j ++ [vb v (k - 1 - j)] := by simp [vbl, List.range_succ]
theorem vbl_256 (v : Int64) (k j : Nat) : ∀ x ∈ vbl v k j, x < 256 := by
  intro x hx
  simp only [vbl, List.mem_map] at hx
  obtain ⟨i, -, rfl⟩ := hx
  exact vb_lt _ _
theorem vbl_up (g : Nat → Nat) (a : Nat) (v : Int64) (k j : Nat) : va_up (spl g a (vbl v k j)) (a + j) (vb v (k - 1 - j)) = spl g a (vbl v k (j + 1)) := by
  have := spl_snoc g a (vb v (k - 1 - j)) (vbl v k j)
  rwa [vbl_len, ← vbl_snoc] at this
/-- a put that is refused -/
def badN (n : Int32) (had : Nat) : Prop := n < 0 ∨ nI 8 < n ∨ ∃ k : Nat, k ≤ 8 ∧ n = nI k ∧ 600 < had + k
theorem put_cases (n : Int32) (had : Nat) : (∃ k : Nat, k ≤ 8 ∧ n = nI k ∧ had + k ≤ 600) ∨ badN n had := by
  by_cases h1 : n < 0
  · exact Or.inr (Or.inl h1)
  · by_cases h2 : nI 8 < n
    · exact Or.inr (Or.inr (Or.inl h2))
    · obtain ⟨k, hk, e⟩ := nI_of2 (x := n) (M := nI 8) (n := 8) (by decide +kernel) h1 (Int32.not_lt.mp h2)
      rcases Nat.lt_or_ge 600 (had + k) with h | h
      · exact Or.inr (Or.inr (Or.inr ⟨k, hk, e, h⟩))
      · exact Or.inl ⟨k, hk, e, h⟩
set_option maxHeartbeats 4000000 in
set_option maxRecDepth 100000 in
theorem c_PW_putTbad (l : Launch) (D : va_G) (cB cI cJ : ClassId) (x ba ta ra d : Nat) (v1 v3 v4 : Int32) (had : Nat) (hh : had ≤ 600) (v : Int64) (n : Int32) (hbad : badN n had) : Met l y_PW_put (Wd y_PW_put b_PW_put 8 (some .boolean)) ({ frames := 0, cells := 0, slots := 0, locals := 0 }) (ro_P D cB cI cJ [.ref x, .int (nI 1), .long v, .int n] [(x, .inr (0, [.ref ba, .ref ta, .ref ra, .int v1, .int (nI had), .int v3, .int v4, .ref d]))]) (ro_Q (some (.int (nI 0)))) 0 0 (fun _ => False) := by
  refine mt_ro (by decide) (Nat.le_of_ble_eq_true rfl) ?_
  intro p e s m args below meth c ls Q hx hb hr hml hw hown hlk hP hK hl hQ
  have hown : s.vm.findClass R_PW = some m.cls := hown
  have hl : lv_has ls 8 [(0, .ref x), (1, .int (nI 1)), (2, .long v), (4, .int n)] := hl
  refine lv_iload_n hx hb d_PW_put_0 rfl (lv_at hl 1 rfl) ?_
  refine n_if_eq (tgt := 11) hx hb d_PW_put_1 (by decide) (by omega) (fun c_1 => ?_) (fun c_1 => ?_)
  · exfalso; omega
  · refine lv_aload_n hx hb d_PW_put_4 rfl (lv_at hl 0 rfl) ?_
    refine va_get (D := D) (ci := 0) (v := .int (nI had)) (C := R_PW) (T := F_PW) (N := 8) hx hb hw i_PW hown hK.1 hP 0 rfl rfl 4 (by decide) (hw _ k_41) (fun _ h9 => h9) rfl d_PW_put_5 ?_
    refine lv_goto (tgt := 15) hx hb d_PW_put_8 (by decide) ?_
    refine lv_istore (lv' := [(5, .int (nI had)), (0, .ref x), (1, .int (nI 1)), (2, .long v), (4, .int n)]) hx hb d_PW_put_15 hl (by decide) rfl (fun ls hl => ?_)
    refine lv_iload hx hb d_PW_put_17 (lv_at hl 4 rfl) ?_
    refine lv_if_lt (tgt := 40) hx hb d_PW_put_19 (by decide) (fun c_19 => ?_) (fun c_19 => ?_)
    · refine lv_iconst (v := nI 0) hx hb d_PW_put_40 (by decide +kernel) ?_
      exact ro_zret hx hb hr hlk rfl rfl hQ d_PW_put_41
    · refine lv_iload hx hb d_PW_put_22 (lv_at hl 4 rfl) ?_
      refine lv_bipush (v := nI 8) hx hb d_PW_put_24 (by decide +kernel) ?_
      refine lv_icmp_gt (tgt := 40) hx hb d_PW_put_26 (by decide) (fun c_26 => ?_) (fun c_26 => ?_)
      · refine lv_iconst (v := nI 0) hx hb d_PW_put_40 (by decide +kernel) ?_
        exact ro_zret hx hb hr hlk rfl rfl hQ d_PW_put_41
      · obtain ⟨k, hk, rfl, hk6⟩ : ∃ k : Nat, k ≤ 8 ∧ n = nI k ∧ 600 < had + k := by
          rcases hbad with h | h | h
          · exact absurd h c_19
          · exact absurd h c_26
          · exact h
        refine lv_iload hx hb d_PW_put_29 (lv_at hl 0 rfl) ?_
        refine lv_iload hx hb d_PW_put_31 (lv_at hl 4 rfl) ?_
        refine n_iadd hx hb d_PW_put_33 ?_
        refine lv_sipush (v := nI 600) hx hb d_PW_put_34 (by decide +kernel) ?_
        refine n_icmp_le (tgt := 42) hx hb d_PW_put_37 (by decide) (by omega) (by omega) (fun c_37 => ?_) (fun c_37 => ?_)
        · exfalso; omega
        · refine lv_iconst (v := nI 0) hx hb d_PW_put_40 (by decide +kernel) ?_
          exact ro_zret hx hb hr hlk rfl rfl hQ d_PW_put_41
set_option maxHeartbeats 4000000 in
set_option maxRecDepth 100000 in
theorem c_PW_putT (l : Launch) (D : va_G) (cB cI cJ : ClassId) (x ba ta ra d : Nat) (v1 v3 v4 : Int32) (had : Nat) (g : Nat → Nat) (v : Int64) (k : Nat) (hk : k ≤ 8) (hh : had + k ≤ 600) : Met l y_PW_put (Wd y_PW_put b_PW_put 8 (some .boolean)) ({ frames := 0, cells := 0, slots := 0, locals := 0 }) (ip_P D cB cI cJ [.ref x, .int (nI 1), .long v, .int (nI k)] [(x, .inr (0, [.ref ba, .ref ta, .ref ra, .int v1, .int (nI had), .int v3, .int v4, .ref d])), (ta, .inl (cB, 600, .inl (bA g)))]) (ip_Q D [(x, .inr (0, [.ref ba, .ref ta, .ref ra, .int v1, .int (nI had), .int v3, .int v4, .ref d])), (ta, .inl (cB, 600, .inl (bA g)))] (fun _ : Unit => True) (fun _ : Unit => some (.int (nI 1))) (fun _ : Unit => [(x, .inr (0, [.ref ba, .ref ta, .ref ra, .int v1, .int (nI (had + k)), .int v3, .int v4, .ref d])), (ta, .inl (cB, 600, .inl (bA (spl g had (vbl v k k)))))])) 0 0 (inW [(x, .inr (0, [.ref ba, .ref ta, .ref ra, .int v1, .int (nI had), .int v3, .int v4, .ref d])), (ta, .inl (cB, 600, .inl (bA g)))]) := by
  refine mt_ip (by decide) (Nat.le_of_ble_eq_true rfl) ?_
  intro p e s m args below meth c ls Q A hx hb hr hml hw hown hlk hP hK hD hS hl hAe hQ
  have hown : s.vm.findClass R_PW = some m.cls := hown
  have hl : lv_has ls 8 [(0, .ref x), (1, .int (nI 1)), (2, .long v), (4, .int (nI k))] := hl
  have loop : ∀ (f j : Nat), j ≤ k → k < j + f → ∀ (H : Heap) (locs : List Loc), va_P D classes [(x, .inr (0, [.ref ba, .ref ta, .ref ra, .int v1, .int (nI had), .int v3, .int v4, .ref d])), (ta, .inl (cB, 600, .inl (bA (spl g had (vbl v k j)))))] H → va_D A [(x, .inr (0, [.ref ba, .ref ta, .ref ra, .int v1, .int (nI had), .int v3, .int v4, .ref d])), (ta, .inl (cB, 600, .inl (bA (spl g had (vbl v k j)))))] → va_S A s.heap H locs → ∀ ls : Array Slot, lv_has ls 8 [(7, .int (nI j)), (6, .ref ta), (5, .int (nI had)), (0, .ref x), (1, .int (nI 1)), (2, .long v), (4, .int (nI k))] → W p l e ({ frames := 0, cells := 0, slots := 0, locals := 0 }) s m args below meth c H locs 0 0 Q (F0 m 62 ls []) := by
    intro f
    induction f with
    | zero => intro j h1 h2; omega
    | succ f ih =>
      intro j h1 h2 H locs hP hD hS ls hl
      refine lv_iload hx hb d_PW_put_62 (lv_at hl 0 rfl) ?_
      refine lv_iload hx hb d_PW_put_64 (lv_at hl 6 rfl) ?_
      refine n_icmp_ge (tgt := 97) hx hb d_PW_put_66 (by decide) (by omega) (by omega) (fun c_66 => ?_) (fun c_66 => ?_)
      · obtain rfl : k = j := by omega
        refine lv_iload_n hx hb d_PW_put_97 rfl (lv_at hl 4 rfl) ?_
        refine n_if_eq (tgt := 115) hx hb d_PW_put_98 (by decide) (by omega) (fun c_98 => ?_) (fun c_98 => ?_)
        · exfalso; omega
        · refine lv_aload_n hx hb d_PW_put_101 rfl (lv_at hl 3 rfl) ?_
          refine lv_dup hx hb d_PW_put_102 rfl ?_
          refine va_get (D := D) (ci := 0) (v := .int (nI had)) (C := R_PW) (T := F_PW) (N := 8) hx hb hw i_PW hown hK.1 hP 0 rfl rfl 4 (by decide) (hw _ k_41) (fun _ h9 => h9) rfl d_PW_put_103 ?_
          refine lv_iload hx hb d_PW_put_106 (lv_at hl 6 rfl) ?_
          refine n_iadd hx hb d_PW_put_108 ?_
          refine va_put (D := D) (ci := 0) (v := .int (nI (had + k))) (ty := .int) (C := R_PW) (T := F_PW) (N := 8) hx hb hw i_PW t_PW t_PW_ok n_PW hown hK.1 hP hD hS 0 rfl rfl 4 (by decide) (hw _ k_41) (fun _ h9 => h9) rfl (by decide +kernel) rfl rfl (Nat.le_of_ble_eq_true rfl) d_PW_put_109 (fun H locs hP hD hS => ?_)
          have hP : va_P D classes [(x, .inr (0, [.ref ba, .ref ta, .ref ra, .int v1, .int (nI (had + k)), .int v3, .int v4, .ref d])), (ta, .inl (cB, 600, .inl (bA (spl g had (vbl v k k)))))] H := hP
          have hD : va_D A [(x, .inr (0, [.ref ba, .ref ta, .ref ra, .int v1, .int (nI (had + k)), .int v3, .int v4, .ref d])), (ta, .inl (cB, 600, .inl (bA (spl g had (vbl v k k)))))] := hD
          refine lv_goto (tgt := 126) hx hb d_PW_put_112 (by decide) ?_
          refine lv_iconst (v := nI 1) hx hb d_PW_put_126 (by decide +kernel) ?_
          exact ip_zret hx hb hr hlk hAe hS rfl () rfl trivial hP hQ d_PW_put_127
      · refine lv_aload hx hb d_PW_put_69 (lv_at hl 1 rfl) ?_
        refine lv_iload hx hb d_PW_put_71 (lv_at hl 2 rfl) ?_
        refine lv_iload hx hb d_PW_put_73 (lv_at hl 0 rfl) ?_
        refine n_iadd hx hb d_PW_put_75 ?_
        refine lv_lload_n hx hb d_PW_put_76 rfl (lv_at hl 5 rfl) ?_
        refine lv_bipush (v := nI 8) hx hb d_PW_put_77 (by decide +kernel) ?_
        refine lv_iload hx hb d_PW_put_79 (lv_at hl 6 rfl) ?_
        refine lv_iconst (v := nI 1) hx hb d_PW_put_81 (by decide +kernel) ?_
        refine n_isub hx hb d_PW_put_82 (by omega) ?_
        refine lv_iload hx hb d_PW_put_83 (lv_at hl 0 rfl) ?_
        refine n_isub hx hb d_PW_put_85 (by omega) ?_
        refine n_imul hx hb d_PW_put_86 ?_
        refine lv_lshr hx hb d_PW_put_87 rfl ?_
        refine lv_l2i hx hb d_PW_put_88 rfl ?_
        refine lv_i2b hx hb d_PW_put_89 rfl ?_
        refine tv_i (y := bI (vb v (k - 1 - j))) (bI_m _) ?_
        refine ba_st hx hb hK.1 hP hD hS 1 0 rfl rfl (by omega) (by decide) d_PW_put_90 (fun H locs hP hD hS => ?_)
        rw [show va_up (spl g had (vbl v k j)) (had + j) (vb v (k - 1 - j)) = spl g had (vbl v k (j + 1)) from vbl_up g had v k j] at hP hD
        have hP : va_P D classes [(x, .inr (0, [.ref ba, .ref ta, .ref ra, .int v1, .int (nI had), .int v3, .int v4, .ref d])), (ta, .inl (cB, 600, .inl (bA (spl g had (vbl v k (j + 1))))))] H := hP
        have hD : va_D A [(x, .inr (0, [.ref ba, .ref ta, .ref ra, .int v1, .int (nI had), .int v3, .int v4, .ref d])), (ta, .inl (cB, 600, .inl (bA (spl g had (vbl v k (j + 1))))))] := hD
        refine lv_iinc (v := nI (j + 1)) (lv' := [(7, .int (nI (j + 1))), (6, .ref ta), (5, .int (nI had)), (0, .ref x), (1, .int (nI 1)), (2, .long v), (4, .int (nI k))]) hx hb d_PW_put_91 hl (k := 0) rfl (nI_inc1 _) (by decide) rfl (fun ls hl => ?_)
        refine lv_goto (tgt := 62) hx hb d_PW_put_94 (by decide) ?_
        exact ih (j + 1) (by omega) (by omega) H locs hP hD hS ls (lv_sub hl [0, 1, 2, 3, 4, 5, 6] rfl)
  refine lv_iload_n hx hb d_PW_put_0 rfl (lv_at hl 1 rfl) ?_
  refine n_if_eq (tgt := 11) hx hb d_PW_put_1 (by decide) (by omega) (fun c_1 => ?_) (fun c_1 => ?_)
  · exfalso; omega
  · refine lv_aload_n hx hb d_PW_put_4 rfl (lv_at hl 0 rfl) ?_
    refine va_get (D := D) (ci := 0) (v := .int (nI had)) (C := R_PW) (T := F_PW) (N := 8) hx hb hw i_PW hown hK.1 hP 0 rfl rfl 4 (by decide) (hw _ k_41) (fun _ h9 => h9) rfl d_PW_put_5 ?_
    refine lv_goto (tgt := 15) hx hb d_PW_put_8 (by decide) ?_
    refine lv_istore (lv' := [(5, .int (nI had)), (0, .ref x), (1, .int (nI 1)), (2, .long v), (4, .int (nI k))]) hx hb d_PW_put_15 hl (by decide) rfl (fun ls hl => ?_)
    refine lv_iload hx hb d_PW_put_17 (lv_at hl 4 rfl) ?_
    refine n_if_lt (tgt := 40) hx hb d_PW_put_19 (by decide) (by omega) ?_
    refine lv_iload hx hb d_PW_put_22 (lv_at hl 4 rfl) ?_
    refine lv_bipush (v := nI 8) hx hb d_PW_put_24 (by decide +kernel) ?_
    refine n_icmp_gt (tgt := 40) hx hb d_PW_put_26 (by decide) (by omega) (by omega) (fun c_26 => ?_) (fun c_26 => ?_)
    · exfalso; omega
    · refine lv_iload hx hb d_PW_put_29 (lv_at hl 0 rfl) ?_
      refine lv_iload hx hb d_PW_put_31 (lv_at hl 4 rfl) ?_
      refine n_iadd hx hb d_PW_put_33 ?_
      refine lv_sipush (v := nI 600) hx hb d_PW_put_34 (by decide +kernel) ?_
      refine n_icmp_le (tgt := 42) hx hb d_PW_put_37 (by decide) (by omega) (by omega) (fun c_37 => ?_) (fun c_37 => ?_)
      · refine lv_iload_n hx hb d_PW_put_42 rfl (lv_at hl 2 rfl) ?_
        refine n_if_eq (tgt := 53) hx hb d_PW_put_43 (by decide) (by omega) (fun c_43 => ?_) (fun c_43 => ?_)
        · exfalso; omega
        · refine lv_aload_n hx hb d_PW_put_46 rfl (lv_at hl 1 rfl) ?_
          refine va_get (D := D) (ci := 0) (v := .ref ta) (C := R_PW) (T := F_PW) (N := 8) hx hb hw i_PW hown hK.1 hP 0 rfl rfl 1 (by decide) (hw _ k_38) (fun _ h9 => h9) rfl d_PW_put_47 ?_
          refine lv_goto (tgt := 57) hx hb d_PW_put_50 (by decide) ?_
          refine lv_astore (lv' := [(6, .ref ta), (5, .int (nI had)), (0, .ref x), (1, .int (nI 1)), (2, .long v), (4, .int (nI k))]) hx hb d_PW_put_57 hl (by decide) rfl (fun ls hl => ?_)
          refine lv_iconst (v := nI 0) hx hb d_PW_put_59 (by decide +kernel) ?_
          refine lv_istore (lv' := [(7, .int (nI 0)), (6, .ref ta), (5, .int (nI had)), (0, .ref x), (1, .int (nI 1)), (2, .long v), (4, .int (nI k))]) hx hb d_PW_put_60 hl (by decide) rfl (fun ls hl => ?_)
          refine loop (k + 1) 0 (by omega) (by omega) s.heap [] ?_ ?_ hS ls (lv_sub hl [0, 1, 2, 3, 4, 5, 6] rfl)
          · show va_P D classes [(x, .inr (0, [.ref ba, .ref ta, .ref ra, .int v1, .int (nI had), .int v3, .int v4, .ref d])), (ta, .inl (cB, 600, .inl (bA (spl g had []))))] s.heap
            rw [spl_nil]; exact hP
          · show va_D A [(x, .inr (0, [.ref ba, .ref ta, .ref ra, .int v1, .int (nI had), .int v3, .int v4, .ref d])), (ta, .inl (cB, 600, .inl (bA (spl g had []))))]
            rw [spl_nil]; exact hD
      · exfalso; omega
set_option maxHeartbeats 4000000 in
set_option maxRecDepth 100000 in
theorem c_PW_putBbad (l : Launch) (D : va_G) (cB cI cJ : ClassId) (x ba ta ra d : Nat) (v2 v3 v4 : Int32) (had : Nat) (hh : had ≤ 600) (v : Int64) (n : Int32) (hbad : badN n had) : Met l y_PW_put (Wd y_PW_put b_PW_put 8 (some .boolean)) ({ frames := 0, cells := 0, slots := 0, locals := 0 }) (ro_P D cB cI cJ [.ref x, .int (nI 0), .long v, .int n] [(x, .inr (0, [.ref ba, .ref ta, .ref ra, .int (nI had), .int v2, .int v3, .int v4, .ref d]))]) (ro_Q (some (.int (nI 0)))) 0 0 (fun _ => False) := by
  refine mt_ro (by decide) (Nat.le_of_ble_eq_true rfl) ?_
  intro p e s m args below meth c ls Q hx hb hr hml hw hown hlk hP hK hl hQ
  have hown : s.vm.findClass R_PW = some m.cls := hown
  have hl : lv_has ls 8 [(0, .ref x), (1, .int (nI 0)), (2, .long v), (4, .int n)] := hl
  refine lv_iload_n hx hb d_PW_put_0 rfl (lv_at hl 1 rfl) ?_
  refine n_if_eq (tgt := 11) hx hb d_PW_put_1 (by decide) (by omega) (fun c_1 => ?_) (fun c_1 => ?_)
  · refine lv_aload_n hx hb d_PW_put_11 rfl (lv_at hl 0 rfl) ?_
    refine va_get (D := D) (ci := 0) (v := .int (nI had)) (C := R_PW) (T := F_PW) (N := 8) hx hb hw i_PW hown hK.1 hP 0 rfl rfl 3 (by decide) (hw _ k_40) (fun _ h9 => h9) rfl d_PW_put_12 ?_
    refine lv_istore (lv' := [(5, .int (nI had)), (0, .ref x), (1, .int (nI 0)), (2, .long v), (4, .int n)]) hx hb d_PW_put_15 hl (by decide) rfl (fun ls hl => ?_)
    refine lv_iload hx hb d_PW_put_17 (lv_at hl 4 rfl) ?_
    refine lv_if_lt (tgt := 40) hx hb d_PW_put_19 (by decide) (fun c_19 => ?_) (fun c_19 => ?_)
    · refine lv_iconst (v := nI 0) hx hb d_PW_put_40 (by decide +kernel) ?_
      exact ro_zret hx hb hr hlk rfl rfl hQ d_PW_put_41
    · refine lv_iload hx hb d_PW_put_22 (lv_at hl 4 rfl) ?_
      refine lv_bipush (v := nI 8) hx hb d_PW_put_24 (by decide +kernel) ?_
      refine lv_icmp_gt (tgt := 40) hx hb d_PW_put_26 (by decide) (fun c_26 => ?_) (fun c_26 => ?_)
      · refine lv_iconst (v := nI 0) hx hb d_PW_put_40 (by decide +kernel) ?_
        exact ro_zret hx hb hr hlk rfl rfl hQ d_PW_put_41
      · obtain ⟨k, hk, rfl, hk6⟩ : ∃ k : Nat, k ≤ 8 ∧ n = nI k ∧ 600 < had + k := by
          rcases hbad with h | h | h
          · exact absurd h c_19
          · exact absurd h c_26
          · exact h
        refine lv_iload hx hb d_PW_put_29 (lv_at hl 0 rfl) ?_
        refine lv_iload hx hb d_PW_put_31 (lv_at hl 4 rfl) ?_
        refine n_iadd hx hb d_PW_put_33 ?_
        refine lv_sipush (v := nI 600) hx hb d_PW_put_34 (by decide +kernel) ?_
        refine n_icmp_le (tgt := 42) hx hb d_PW_put_37 (by decide) (by omega) (by omega) (fun c_37 => ?_) (fun c_37 => ?_)
        · exfalso; omega
        · refine lv_iconst (v := nI 0) hx hb d_PW_put_40 (by decide +kernel) ?_
          exact ro_zret hx hb hr hlk rfl rfl hQ d_PW_put_41
  · exfalso; omega
set_option maxHeartbeats 4000000 in
set_option maxRecDepth 100000 in
theorem c_PW_putB (l : Launch) (D : va_G) (cB cI cJ : ClassId) (x ba ta ra d : Nat) (v2 v3 v4 : Int32) (had : Nat) (g : Nat → Nat) (v : Int64) (k : Nat) (hk : k ≤ 8) (hh : had + k ≤ 600) : Met l y_PW_put (Wd y_PW_put b_PW_put 8 (some .boolean)) ({ frames := 0, cells := 0, slots := 0, locals := 0 }) (ip_P D cB cI cJ [.ref x, .int (nI 0), .long v, .int (nI k)] [(x, .inr (0, [.ref ba, .ref ta, .ref ra, .int (nI had), .int v2, .int v3, .int v4, .ref d])), (ba, .inl (cB, 600, .inl (bA g)))]) (ip_Q D [(x, .inr (0, [.ref ba, .ref ta, .ref ra, .int (nI had), .int v2, .int v3, .int v4, .ref d])), (ba, .inl (cB, 600, .inl (bA g)))] (fun _ : Unit => True) (fun _ : Unit => some (.int (nI 1))) (fun _ : Unit => [(x, .inr (0, [.ref ba, .ref ta, .ref ra, .int (nI (had + k)), .int v2, .int v3, .int v4, .ref d])), (ba, .inl (cB, 600, .inl (bA (spl g had (vbl v k k)))))])) 0 0 (inW [(x, .inr (0, [.ref ba, .ref ta, .ref ra, .int (nI had), .int v2, .int v3, .int v4, .ref d])), (ba, .inl (cB, 600, .inl (bA g)))]) := by
  refine mt_ip (by decide) (Nat.le_of_ble_eq_true rfl) ?_
  intro p e s m args below meth c ls Q A hx hb hr hml hw hown hlk hP hK hD hS hl hAe hQ
  have hown : s.vm.findClass R_PW = some m.cls := hown
  have hl : lv_has ls 8 [(0, .ref x), (1, .int (nI 0)), (2, .long v), (4, .int (nI k))] := hl
  have loop : ∀ (f j : Nat), j ≤ k → k < j + f → ∀ (H : Heap) (locs : List Loc), va_P D classes [(x, .inr (0, [.ref ba, .ref ta, .ref ra, .int (nI had), .int v2, .int v3, .int v4, .ref d])), (ba, .inl (cB, 600, .inl (bA (spl g had (vbl v k j)))))] H → va_D A [(x, .inr (0, [.ref ba, .ref ta, .ref ra, .int (nI had), .int v2, .int v3, .int v4, .ref d])), (ba, .inl (cB, 600, .inl (bA (spl g had (vbl v k j)))))] → va_S A s.heap H locs → ∀ ls : Array Slot, lv_has ls 8 [(7, .int (nI j)), (6, .ref ba), (5, .int (nI had)), (0, .ref x), (1, .int (nI 0)), (2, .long v), (4, .int (nI k))] → W p l e ({ frames := 0, cells := 0, slots := 0, locals := 0 }) s m args below meth c H locs 0 0 Q (F0 m 62 ls []) := by
    intro f
    induction f with
    | zero => intro j h1 h2; omega
    | succ f ih =>
      intro j h1 h2 H locs hP hD hS ls hl
      refine lv_iload hx hb d_PW_put_62 (lv_at hl 0 rfl) ?_
      refine lv_iload hx hb d_PW_put_64 (lv_at hl 6 rfl) ?_
      refine n_icmp_ge (tgt := 97) hx hb d_PW_put_66 (by decide) (by omega) (by omega) (fun c_66 => ?_) (fun c_66 => ?_)
      · obtain rfl : k = j := by omega
        refine lv_iload_n hx hb d_PW_put_97 rfl (lv_at hl 4 rfl) ?_
        refine n_if_eq (tgt := 115) hx hb d_PW_put_98 (by decide) (by omega) (fun c_98 => ?_) (fun c_98 => ?_)
        · refine lv_aload_n hx hb d_PW_put_115 rfl (lv_at hl 3 rfl) ?_
          refine lv_dup hx hb d_PW_put_116 rfl ?_
          refine va_get (D := D) (ci := 0) (v := .int (nI had)) (C := R_PW) (T := F_PW) (N := 8) hx hb hw i_PW hown hK.1 hP 0 rfl rfl 3 (by decide) (hw _ k_40) (fun _ h9 => h9) rfl d_PW_put_117 ?_
          refine lv_iload hx hb d_PW_put_120 (lv_at hl 6 rfl) ?_
          refine n_iadd hx hb d_PW_put_122 ?_
          refine va_put (D := D) (ci := 0) (v := .int (nI (had + k))) (ty := .int) (C := R_PW) (T := F_PW) (N := 8) hx hb hw i_PW t_PW t_PW_ok n_PW hown hK.1 hP hD hS 0 rfl rfl 3 (by decide) (hw _ k_40) (fun _ h9 => h9) rfl (by decide +kernel) rfl rfl (Nat.le_of_ble_eq_true rfl) d_PW_put_123 (fun H locs hP hD hS => ?_)
          have hP : va_P D classes [(x, .inr (0, [.ref ba, .ref ta, .ref ra, .int (nI (had + k)), .int v2, .int v3, .int v4, .ref d])), (ba, .inl (cB, 600, .inl (bA (spl g had (vbl v k k)))))] H := hP
          have hD : va_D A [(x, .inr (0, [.ref ba, .ref ta, .ref ra, .int (nI (had + k)), .int v2, .int v3, .int v4, .ref d])), (ba, .inl (cB, 600, .inl (bA (spl g had (vbl v k k)))))] := hD
          refine lv_iconst (v := nI 1) hx hb d_PW_put_126 (by decide +kernel) ?_
          exact ip_zret hx hb hr hlk hAe hS rfl () rfl trivial hP hQ d_PW_put_127
        · exfalso; omega
      · refine lv_aload hx hb d_PW_put_69 (lv_at hl 1 rfl) ?_
        refine lv_iload hx hb d_PW_put_71 (lv_at hl 2 rfl) ?_
        refine lv_iload hx hb d_PW_put_73 (lv_at hl 0 rfl) ?_
        refine n_iadd hx hb d_PW_put_75 ?_
        refine lv_lload_n hx hb d_PW_put_76 rfl (lv_at hl 5 rfl) ?_
        refine lv_bipush (v := nI 8) hx hb d_PW_put_77 (by decide +kernel) ?_
        refine lv_iload hx hb d_PW_put_79 (lv_at hl 6 rfl) ?_
        refine lv_iconst (v := nI 1) hx hb d_PW_put_81 (by decide +kernel) ?_
        refine n_isub hx hb d_PW_put_82 (by omega) ?_
        refine lv_iload hx hb d_PW_put_83 (lv_at hl 0 rfl) ?_
        refine n_isub hx hb d_PW_put_85 (by omega) ?_
        refine n_imul hx hb d_PW_put_86 ?_
        refine lv_lshr hx hb d_PW_put_87 rfl ?_
        refine lv_l2i hx hb d_PW_put_88 rfl ?_
        refine lv_i2b hx hb d_PW_put_89 rfl ?_
        refine tv_i (y := bI (vb v (k - 1 - j))) (bI_m _) ?_
        refine ba_st hx hb hK.1 hP hD hS 1 0 rfl rfl (by omega) (by decide) d_PW_put_90 (fun H locs hP hD hS => ?_)
        rw [show va_up (spl g had (vbl v k j)) (had + j) (vb v (k - 1 - j)) = spl g had (vbl v k (j + 1)) from vbl_up g had v k j] at hP hD
        have hP : va_P D classes [(x, .inr (0, [.ref ba, .ref ta, .ref ra, .int (nI had), .int v2, .int v3, .int v4, .ref d])), (ba, .inl (cB, 600, .inl (bA (spl g had (vbl v k (j + 1))))))] H := hP
        have hD : va_D A [(x, .inr (0, [.ref ba, .ref ta, .ref ra, .int (nI had), .int v2, .int v3, .int v4, .ref d])), (ba, .inl (cB, 600, .inl (bA (spl g had (vbl v k (j + 1))))))] := hD
        refine lv_iinc (v := nI (j + 1)) (lv' := [(7, .int (nI (j + 1))), (6, .ref ba), (5, .int (nI had)), (0, .ref x), (1, .int (nI 0)), (2, .long v), (4, .int (nI k))]) hx hb d_PW_put_91 hl (k := 0) rfl (nI_inc1 _) (by decide) rfl (fun ls hl => ?_)
        refine lv_goto (tgt := 62) hx hb d_PW_put_94 (by decide) ?_
        exact ih (j + 1) (by omega) (by omega) H locs hP hD hS ls (lv_sub hl [0, 1, 2, 3, 4, 5, 6] rfl)
  refine lv_iload_n hx hb d_PW_put_0 rfl (lv_at hl 1 rfl) ?_
  refine n_if_eq (tgt := 11) hx hb d_PW_put_1 (by decide) (by omega) (fun c_1 => ?_) (fun c_1 => ?_)
  · refine lv_aload_n hx hb d_PW_put_11 rfl (lv_at hl 0 rfl) ?_
    refine va_get (D := D) (ci := 0) (v := .int (nI had)) (C := R_PW) (T := F_PW) (N := 8) hx hb hw i_PW hown hK.1 hP 0 rfl rfl 3 (by decide) (hw _ k_40) (fun _ h9 => h9) rfl d_PW_put_12 ?_
    refine lv_istore (lv' := [(5, .int (nI had)), (0, .ref x), (1, .int (nI 0)), (2, .long v), (4, .int (nI k))]) hx hb d_PW_put_15 hl (by decide) rfl (fun ls hl => ?_)
    refine lv_iload hx hb d_PW_put_17 (lv_at hl 4 rfl) ?_
    refine n_if_lt (tgt := 40) hx hb d_PW_put_19 (by decide) (by omega) ?_
    refine lv_iload hx hb d_PW_put_22 (lv_at hl 4 rfl) ?_
    refine lv_bipush (v := nI 8) hx hb d_PW_put_24 (by decide +kernel) ?_
    refine n_icmp_gt (tgt := 40) hx hb d_PW_put_26 (by decide) (by omega) (by omega) (fun c_26 => ?_) (fun c_26 => ?_)
    · exfalso; omega
    · refine lv_iload hx hb d_PW_put_29 (lv_at hl 0 rfl) ?_
      refine lv_iload hx hb d_PW_put_31 (lv_at hl 4 rfl) ?_
      refine n_iadd hx hb d_PW_put_33 ?_
      refine lv_sipush (v := nI 600) hx hb d_PW_put_34 (by decide +kernel) ?_
      refine n_icmp_le (tgt := 42) hx hb d_PW_put_37 (by decide) (by omega) (by omega) (fun c_37 => ?_) (fun c_37 => ?_)
      · refine lv_iload_n hx hb d_PW_put_42 rfl (lv_at hl 2 rfl) ?_
        refine n_if_eq (tgt := 53) hx hb d_PW_put_43 (by decide) (by omega) (fun c_43 => ?_) (fun c_43 => ?_)
        · refine lv_aload_n hx hb d_PW_put_53 rfl (lv_at hl 1 rfl) ?_
          refine va_get (D := D) (ci := 0) (v := .ref ba) (C := R_PW) (T := F_PW) (N := 8) hx hb hw i_PW hown hK.1 hP 0 rfl rfl 0 (by decide) (hw _ k_37) (fun _ h9 => h9) rfl d_PW_put_54 ?_
          refine lv_astore (lv' := [(6, .ref ba), (5, .int (nI had)), (0, .ref x), (1, .int (nI 0)), (2, .long v), (4, .int (nI k))]) hx hb d_PW_put_57 hl (by decide) rfl (fun ls hl => ?_)
          refine lv_iconst (v := nI 0) hx hb d_PW_put_59 (by decide +kernel) ?_
          refine lv_istore (lv' := [(7, .int (nI 0)), (6, .ref ba), (5, .int (nI had)), (0, .ref x), (1, .int (nI 0)), (2, .long v), (4, .int (nI k))]) hx hb d_PW_put_60 hl (by decide) rfl (fun ls hl => ?_)
          refine loop (k + 1) 0 (by omega) (by omega) s.heap [] ?_ ?_ hS ls (lv_sub hl [0, 1, 2, 3, 4, 5, 6] rfl)
          · show va_P D classes [(x, .inr (0, [.ref ba, .ref ta, .ref ra, .int (nI had), .int v2, .int v3, .int v4, .ref d])), (ba, .inl (cB, 600, .inl (bA (spl g had []))))] s.heap
            rw [spl_nil]; exact hP
          · show va_D A [(x, .inr (0, [.ref ba, .ref ta, .ref ra, .int (nI had), .int v2, .int v3, .int v4, .ref d])), (ba, .inl (cB, 600, .inl (bA (spl g had []))))]
            rw [spl_nil]; exact hD
        · exfalso; omega
      · exfalso; omega
  · exfalso; omega
end
section
set_option maxHeartbeats 4000000 in
set_option maxRecDepth 100000 in
/-- PieceWays.make -/
theorem c_PW_make (l : Launch) (D : va_G) (cB cI cJ : ClassId) (x ba ta ra d ah an ao : Nat) (v3 v4 z : Int32) (fh0 fn0 : Nat → Int32) (o B T : Nat → Nat) (ho : ∀ i, o i < 256) (hB : ∀ i, B i < 256) (hT : ∀ i, T i < 256) (bs ts : Nat) (hbs : bs ≤ 600) (hts : ts ≤ 600) : Met l y_PW_make (Wd y_PW_make b_PW_make 2 (some .int)) ({ frames := 4, cells := 0, slots := 0, locals := 120 }) (ip_P D cB cI cJ [.ref x] [(x, .inr (0, [.ref ba, .ref ta, .ref ra, .int (nI bs), .int (nI ts), .int v3, .int v4, .ref d])), (ba, .inl (cB, 600, .inl (bA B))), (ta, .inl (cB, 600, .inl (bA T))), (d, .inr (1, [.ref ah, .ref an, .ref ao, .int z])), (ah, .inl (cI, 256, .inl fh0)), (an, .inl (cI, 188, .inl fn0)), (ao, .inl (cB, 3064, .inl (bA o)))]) (ip_Q D [(x, .inr (0, [.ref ba, .ref ta, .ref ra, .int (nI bs), .int (nI ts), .int v3, .int v4, .ref d])), (ba, .inl (cB, 600, .inl (bA B))), (ta, .inl (cB, 600, .inl (bA T))), (d, .inr (1, [.ref ah, .ref an, .ref ao, .int z])), (ah, .inl (cI, 256, .inl fh0)), (an, .inl (cI, 188, .inl fn0)), (ao, .inl (cB, 3064, .inl (bA o)))] (fun u : (Nat → Int32) × (Nat → Int32) => True) (fun u : (Nat → Int32) × (Nat → Int32) => some (.int (nI (way B bs T ts).length))) (fun u : (Nat → Int32) × (Nat → Int32) => [(x, .inr (0, [.ref ba, .ref ta, .ref ra, .int (nI bs), .int (nI ts), .int v3, .int (nI ((way B bs T ts).length)), .ref d])), (ba, .inl (cB, 600, .inl (bA B))), (ta, .inl (cB, 600, .inl (bA T))), (d, .inr (1, [.ref ah, .ref an, .ref ao, .int (nI ((enc (way B bs T ts)).length))])), (ah, .inl (cI, 256, .inl u.1)), (an, .inl (cI, 188, .inl u.2)), (ao, .inl (cB, 3064, .inl (bA (spl o 0 (enc (way B bs T ts))))))])) 0 0 (inW [(x, .inr (0, [.ref ba, .ref ta, .ref ra, .int (nI bs), .int (nI ts), .int v3, .int v4, .ref d])), (ba, .inl (cB, 600, .inl (bA B))), (ta, .inl (cB, 600, .inl (bA T))), (d, .inr (1, [.ref ah, .ref an, .ref ao, .int z])), (ah, .inl (cI, 256, .inl fh0)), (an, .inl (cI, 188, .inl fn0)), (ao, .inl (cB, 3064, .inl (bA o)))]) := by
  refine mt_ip (by decide) (Nat.le_of_ble_eq_true rfl) ?_
  intro p e s m args below meth c ls Q A hx hb hr hml hw hown hlk hP hK hD hS hl hAe hQ
  have hown : s.vm.findClass R_PW = some m.cls := hown
  have hl : lv_has ls 2 [(0, .ref x)] := hl
  have hok := way_ok (B := B) hbs hts hT
  generalize hps : way B bs T ts = ps at hok hQ
  have hR := Rd_spl o ps
  have hw256 : ∀ i, spl o 0 (enc ps) i < 256 := spl_256 ho (enc_256 hok.1)
  generalize hwe : spl o 0 (enc ps) = w at hR hw256 hQ
  have loop : ∀ (fh fn : Nat → Int32) (rs qs : List Pce), ps = qs ++ rs → ∀ (H : Heap) (locs : List Loc), va_P D classes [(x, .inr (0, [.ref ba, .ref ta, .ref ra, .int (nI bs), .int (nI ts), .int v3, .int (nI qs.length), .ref d])), (ba, .inl (cB, 600, .inl (bA B))), (ta, .inl (cB, 600, .inl (bA T))), (d, .inr (1, [.ref ah, .ref an, .ref ao, .int (nI ((enc ps).length))])), (ah, .inl (cI, 256, .inl fh)), (an, .inl (cI, 188, .inl fn)), (ao, .inl (cB, 3064, .inl (bA w)))] H → va_D A [(x, .inr (0, [.ref ba, .ref ta, .ref ra, .int (nI bs), .int (nI ts), .int v3, .int (nI qs.length), .ref d])), (ba, .inl (cB, 600, .inl (bA B))), (ta, .inl (cB, 600, .inl (bA T))), (d, .inr (1, [.ref ah, .ref an, .ref ao, .int (nI ((enc ps).length))])), (ah, .inl (cI, 256, .inl fh)), (an, .inl (cI, 188, .inl fn)), (ao, .inl (cB, 3064, .inl (bA w)))] → va_S A s.heap H locs → ∀ ls : Array Slot, lv_has ls 2 [(1, .int (nI ((enc qs).length))), (0, .ref x)] → W p l e ({ frames := 4, cells := 0, slots := 0, locals := 120 }) s m args below meth c H locs 0 0 Q (F0 m 30 ls []) := by
    intro fh fn rs
    induction rs with
    | nil =>
      intro qs hqs H locs hP hD hS ls hl
      rw [List.append_nil] at hqs
      subst hqs
      have hlen := hok.2.2
      refine lv_iload_n hx hb d_PW_make_30 rfl (lv_at hl 0 rfl) ?_
      refine lv_aload_n hx hb d_PW_make_31 rfl (lv_at hl 1 rfl) ?_
      refine va_get (D := D) (ci := 0) (v := .ref d) (C := R_PW) (T := F_PW) (N := 8) hx hb hw i_PW hown hK.1 hP 0 rfl rfl 7 (by decide) (hw _ k_44) (fun _ h9 => h9) rfl d_PW_make_32 ?_
      refine ro_V (As := []) (rest := [.int (nI ((enc ps).length))]) ⟨hx, hb, hml, hown, hw⟩ (c_De_size l D cB cI cJ d ah an ao (nI (enc ps).length)) g_PW_56 hd_De_size rfl ⟨rfl, rfl⟩ ⟨by decide, by decide⟩ hP hK [3] rfl 3 1 rfl rfl rfl hl.1 rfl (Nat.le_of_ble_eq_true rfl) ⟨Nat.zero_le _, Nat.zero_le _⟩ d_PW_make_35 ?_
      refine n_icmp_ge (tgt := 60) hx hb d_PW_make_38 (by decide) (by omega) (by omega) (fun c_38 => ?_) (fun c_38 => ?_)
      · refine lv_aload_n hx hb d_PW_make_60 rfl (lv_at hl 1 rfl) ?_
        refine va_get (D := D) (ci := 0) (v := .int (nI ps.length)) (C := R_PW) (T := F_PW) (N := 8) hx hb hw i_PW hown hK.1 hP 0 rfl rfl 6 (by decide) (hw _ k_43) (fun _ h9 => h9) rfl d_PW_make_61 ?_
        exact ip_iret hx hb hr hlk hAe hS (fh, fn) rfl trivial hP hQ d_PW_make_64
      · exfalso; omega
    | cons p rs ih =>
      intro qs hqs H locs hP hD hS ls hl
      have hlen := hok.2.2
      have helen : (enc ps).length = (enc qs).length + (eP p).length + (enc rs).length := by rw [hqs, enc_len]
      have h3 := eP_3 p
      have hqs2 : ps = (qs ++ [p]) ++ rs := by rw [hqs, List.append_assoc]; rfl
      refine lv_iload_n hx hb d_PW_make_30 rfl (lv_at hl 0 rfl) ?_
      refine lv_aload_n hx hb d_PW_make_31 rfl (lv_at hl 1 rfl) ?_
      refine va_get (D := D) (ci := 0) (v := .ref d) (C := R_PW) (T := F_PW) (N := 8) hx hb hw i_PW hown hK.1 hP 0 rfl rfl 7 (by decide) (hw _ k_44) (fun _ h9 => h9) rfl d_PW_make_32 ?_
      refine ro_V (As := []) (rest := [.int (nI ((enc qs).length))]) ⟨hx, hb, hml, hown, hw⟩ (c_De_size l D cB cI cJ d ah an ao (nI (enc ps).length)) g_PW_56 hd_De_size rfl ⟨rfl, rfl⟩ ⟨by decide, by decide⟩ hP hK [3] rfl 3 1 rfl rfl rfl hl.1 rfl (Nat.le_of_ble_eq_true rfl) ⟨Nat.zero_le _, Nat.zero_le _⟩ d_PW_make_35 ?_
      refine n_icmp_ge (tgt := 60) hx hb d_PW_make_38 (by decide) (by omega) (by omega) (fun c_38 => ?_) (fun c_38 => ?_)
      · exfalso; omega
      · refine lv_aload_n hx hb d_PW_make_41 rfl (lv_at hl 1 rfl) ?_
        refine lv_dup hx hb d_PW_make_42 rfl ?_
        refine va_get (D := D) (ci := 0) (v := .int (nI qs.length)) (C := R_PW) (T := F_PW) (N := 8) hx hb hw i_PW hown hK.1 hP 0 rfl rfl 6 (by decide) (hw _ k_43) (fun _ h9 => h9) rfl d_PW_make_43 ?_
        refine lv_iconst (v := nI 1) hx hb d_PW_make_46 (by decide +kernel) ?_
        refine n_iadd hx hb d_PW_make_47 ?_
        refine va_put (D := D) (ci := 0) (v := .int (nI (qs.length + 1))) (ty := .int) (C := R_PW) (T := F_PW) (N := 8) hx hb hw i_PW t_PW t_PW_ok n_PW hown hK.1 hP hD hS 0 rfl rfl 6 (by decide) (hw _ k_43) (fun _ h9 => h9) rfl (by decide +kernel) rfl rfl (Nat.le_of_ble_eq_true rfl) d_PW_make_48 (fun H locs hP hD hS => ?_)
        have hP : va_P D classes [(x, .inr (0, [.ref ba, .ref ta, .ref ra, .int (nI bs), .int (nI ts), .int v3, .int (nI (qs.length + 1)), .ref d])), (ba, .inl (cB, 600, .inl (bA B))), (ta, .inl (cB, 600, .inl (bA T))), (d, .inr (1, [.ref ah, .ref an, .ref ao, .int (nI ((enc ps).length))])), (ah, .inl (cI, 256, .inl fh)), (an, .inl (cI, 188, .inl fn)), (ao, .inl (cB, 3064, .inl (bA w)))] H := hP
        have hD : va_D A [(x, .inr (0, [.ref ba, .ref ta, .ref ra, .int (nI bs), .int (nI ts), .int v3, .int (nI (qs.length + 1)), .ref d])), (ba, .inl (cB, 600, .inl (bA B))), (ta, .inl (cB, 600, .inl (bA T))), (d, .inr (1, [.ref ah, .ref an, .ref ao, .int (nI ((enc ps).length))])), (ah, .inl (cI, 256, .inl fh)), (an, .inl (cI, 188, .inl fn)), (ao, .inl (cB, 3064, .inl (bA w)))] := hD
        refine lv_aload_n hx hb d_PW_make_51 rfl (lv_at hl 1 rfl) ?_
        refine lv_iload_n hx hb d_PW_make_52 rfl (lv_at hl 0 rfl) ?_
        refine ro_V (As := [.int (nI ((enc qs).length))]) (rest := []) ⟨hx, hb, hml, hown, hw⟩ (c_PW_next l D cB cI cJ x ba ta ra d ah an ao (nI bs) (nI ts) v3 (nI (qs.length + 1)) (nI (enc ps).length) w hw256 (enc qs).length (by omega)) g_PW_60 hd_PW_next rfl ⟨rfl, rfl⟩ ⟨by decide, by decide⟩ hP hK [0, 3, 6] rfl 0 0 rfl rfl rfl hl.1 rfl (Nat.le_of_ble_eq_true rfl) ⟨Nat.zero_le _, Nat.zero_le _⟩ d_PW_make_53 ?_
        refine tv_i (y := nI ((enc (qs ++ [p])).length)) (by rw [nxt_at hR hqs]) ?_
        refine lv_istore_n (lv' := [(1, .int (nI ((enc (qs ++ [p])).length))), (0, .ref x)]) hx hb d_PW_make_56 rfl hl (by decide) rfl (fun ls hl => ?_)
        refine lv_goto (tgt := 30) hx hb d_PW_make_57 (by decide) ?_
        have el : (qs ++ [p]).length = qs.length + 1 := by simp
        refine ih (qs ++ [p]) hqs2 H locs ?_ ?_ hS ls (lv_sub hl [0, 1] rfl)
        · rw [el]; exact hP
        · rw [el]; exact hD
  refine lv_aload_n hx hb d_PW_make_0 rfl (lv_at hl 0 rfl) ?_
  refine va_get (D := D) (ci := 0) (v := .ref d) (C := R_PW) (T := F_PW) (N := 8) hx hb hw i_PW hown hK.1 hP 0 rfl rfl 7 (by decide) (hw _ k_44) (fun _ h9 => h9) rfl d_PW_make_1 ?_
  refine lv_aload_n hx hb d_PW_make_4 rfl (lv_at hl 0 rfl) ?_
  refine va_get (D := D) (ci := 0) (v := .ref ba) (C := R_PW) (T := F_PW) (N := 8) hx hb hw i_PW hown hK.1 hP 0 rfl rfl 0 (by decide) (hw _ k_37) (fun _ h9 => h9) rfl d_PW_make_5 ?_
  refine lv_aload_n hx hb d_PW_make_8 rfl (lv_at hl 0 rfl) ?_
  refine va_get (D := D) (ci := 0) (v := .int (nI bs)) (C := R_PW) (T := F_PW) (N := 8) hx hb hw i_PW hown hK.1 hP 0 rfl rfl 3 (by decide) (hw _ k_40) (fun _ h9 => h9) rfl d_PW_make_9 ?_
  refine lv_aload_n hx hb d_PW_make_12 rfl (lv_at hl 0 rfl) ?_
  refine va_get (D := D) (ci := 0) (v := .ref ta) (C := R_PW) (T := F_PW) (N := 8) hx hb hw i_PW hown hK.1 hP 0 rfl rfl 1 (by decide) (hw _ k_38) (fun _ h9 => h9) rfl d_PW_make_13 ?_
  refine lv_aload_n hx hb d_PW_make_16 rfl (lv_at hl 0 rfl) ?_
  refine va_get (D := D) (ci := 0) (v := .int (nI ts)) (C := R_PW) (T := F_PW) (N := 8) hx hb hw i_PW hown hK.1 hP 0 rfl rfl 4 (by decide) (hw _ k_41) (fun _ h9 => h9) rfl d_PW_make_17 ?_
  refine ip_V (As := [.ref ba, .int (nI bs), .ref ta, .int (nI ts)]) (rest := []) ⟨hx, hb, hml, hown, hw⟩ (c_De_make l D cB cI cJ d ah an ao ba ta z fh0 fn0 o B T hB hT bs ts hbs hts) g_PW_49 hd_De_make rfl ⟨rfl, rfl⟩ ⟨by decide, by decide⟩ hP hK hD hS [3, 4, 5, 6, 1, 2] (by decide) rfl [d, ah, an, ao, ba, ta] rfl (fun _ => rfl) 3 1 rfl rfl rfl hl.1 rfl (Nat.le_of_ble_eq_true rfl) ⟨Nat.zero_le _, Nat.zero_le _⟩ d_PW_make_20 (fun u_20 H locs hu_20 hP hD hS => ?_)
  refine W.eq (g2 := F0 m 23 ls []) rfl ?_
  have hP : va_P D classes [(x, .inr (0, [.ref ba, .ref ta, .ref ra, .int (nI bs), .int (nI ts), .int v3, .int v4, .ref d])), (ba, .inl (cB, 600, .inl (bA B))), (ta, .inl (cB, 600, .inl (bA T))), (d, .inr (1, [.ref ah, .ref an, .ref ao, .int (nI ((enc (way B bs T ts)).length))])), (ah, .inl (cI, 256, .inl u_20.1)), (an, .inl (cI, 188, .inl u_20.2)), (ao, .inl (cB, 3064, .inl (bA (spl o 0 (enc (way B bs T ts))))))] H := hP
  have hD : va_D A [(x, .inr (0, [.ref ba, .ref ta, .ref ra, .int (nI bs), .int (nI ts), .int v3, .int v4, .ref d])), (ba, .inl (cB, 600, .inl (bA B))), (ta, .inl (cB, 600, .inl (bA T))), (d, .inr (1, [.ref ah, .ref an, .ref ao, .int (nI ((enc (way B bs T ts)).length))])), (ah, .inl (cI, 256, .inl u_20.1)), (an, .inl (cI, 188, .inl u_20.2)), (ao, .inl (cB, 3064, .inl (bA (spl o 0 (enc (way B bs T ts))))))] := hD
  rw [hps, hwe] at hP hD
  have hP : va_P D classes [(x, .inr (0, [.ref ba, .ref ta, .ref ra, .int (nI bs), .int (nI ts), .int v3, .int v4, .ref d])), (ba, .inl (cB, 600, .inl (bA B))), (ta, .inl (cB, 600, .inl (bA T))), (d, .inr (1, [.ref ah, .ref an, .ref ao, .int (nI ((enc ps).length))])), (ah, .inl (cI, 256, .inl u_20.1)), (an, .inl (cI, 188, .inl u_20.2)), (ao, .inl (cB, 3064, .inl (bA w)))] H := hP
  have hD : va_D A [(x, .inr (0, [.ref ba, .ref ta, .ref ra, .int (nI bs), .int (nI ts), .int v3, .int v4, .ref d])), (ba, .inl (cB, 600, .inl (bA B))), (ta, .inl (cB, 600, .inl (bA T))), (d, .inr (1, [.ref ah, .ref an, .ref ao, .int (nI ((enc ps).length))])), (ah, .inl (cI, 256, .inl u_20.1)), (an, .inl (cI, 188, .inl u_20.2)), (ao, .inl (cB, 3064, .inl (bA w)))] := hD
  refine lv_aload_n hx hb d_PW_make_23 rfl (lv_at hl 0 rfl) ?_
  refine lv_iconst (v := nI 0) hx hb d_PW_make_24 (by decide +kernel) ?_
  refine va_put (D := D) (ci := 0) (v := .int (nI 0)) (ty := .int) (C := R_PW) (T := F_PW) (N := 8) hx hb hw i_PW t_PW t_PW_ok n_PW hown hK.1 hP hD hS 0 rfl rfl 6 (by decide) (hw _ k_43) (fun _ h9 => h9) rfl (by decide +kernel) rfl rfl (Nat.le_of_ble_eq_true rfl) d_PW_make_25 (fun H locs hP hD hS => ?_)
  have hP : va_P D classes [(x, .inr (0, [.ref ba, .ref ta, .ref ra, .int (nI bs), .int (nI ts), .int v3, .int (nI 0), .ref d])), (ba, .inl (cB, 600, .inl (bA B))), (ta, .inl (cB, 600, .inl (bA T))), (d, .inr (1, [.ref ah, .ref an, .ref ao, .int (nI ((enc ps).length))])), (ah, .inl (cI, 256, .inl u_20.1)), (an, .inl (cI, 188, .inl u_20.2)), (ao, .inl (cB, 3064, .inl (bA w)))] H := hP
  have hD : va_D A [(x, .inr (0, [.ref ba, .ref ta, .ref ra, .int (nI bs), .int (nI ts), .int v3, .int (nI 0), .ref d])), (ba, .inl (cB, 600, .inl (bA B))), (ta, .inl (cB, 600, .inl (bA T))), (d, .inr (1, [.ref ah, .ref an, .ref ao, .int (nI ((enc ps).length))])), (ah, .inl (cI, 256, .inl u_20.1)), (an, .inl (cI, 188, .inl u_20.2)), (ao, .inl (cB, 3064, .inl (bA w)))] := hD
  refine lv_iconst (v := nI 0) hx hb d_PW_make_28 (by decide +kernel) ?_
  refine lv_istore_n (lv' := [(1, .int (nI 0)), (0, .ref x)]) hx hb d_PW_make_29 rfl hl (by decide) rfl (fun ls hl => ?_)
  exact loop u_20.1 u_20.2 ps [] rfl H locs hP hD hS ls (lv_sub hl [0, 1] rfl)
def tgP (p : Pce) : Nat := match p with
  | .inl _ => 1
  | .inr _ => 2
def frP (p : Pce) (a : Nat) : Nat := match p with
  | .inl q => q.1
  | .inr _ => a
/-- what piece(i, k) answers -/
def pcV (ps : List Pce) (i k : Int32) : Int32 := if i < 0 ∨ nI ps.length ≤ i then -1 else match ps[i.toNatClampNeg]? with
  | none => -1
  | some p => if k = nI 0 then nI (tgP p) else if k = nI 1 then nI (frP p (sN (ps.take i.toNatClampNeg))) else if k = nI 2 then nI (nP p) else -1
theorem pcV_out {ps : List Pce} {i k : Int32} (h : i < 0 ∨ nI ps.length ≤ i) : pcV ps i k = -1 := if_pos h
theorem pcV_in {ps : List Pce} {j : Nat} {k : Int32} {p : Pce} (hl : ps.length < 2 ^ 31) (h : ps[j]? = some p) : pcV ps (nI j) k = if k = nI 0 then nI (tgP p) else if k = nI 1 then nI (frP p (sN (ps.take j))) else if k = nI 2 then nI (nP p) else -1 := by
  have hj : j < ps.length := (List.getElem?_eq_some_iff.mp h).1
  unfold pcV
  rw [if_neg (fun z => by
    rcases z with z | z
    · exact absurd z (nI_pos (by omega))
    · exact absurd z (nI_ge hj hl)), nI_clamp (by omega), h]
theorem tb3 {k : Int32} (h0 : ¬ k = nI 0) (h1 : ¬ k = nI 1) (h2 : ¬ k = nI 2) : k.toInt < 0 ∨ 2 < k.toInt := by
  have a0 := lv_neT (a := 0) h0 (by decide +kernel)
  have a1 := lv_neT (a := 1) h1 (by decide +kernel)
  have a2 := lv_neT (a := 2) h2 (by decide +kernel)
  omega
theorem ps_mid {ps : List Pce} {j : Nat} (h : j < ps.length) : ∃ p, ps[j]? = some p ∧ ps = ps.take j ++ p :: ps.drop (j + 1) ∧ ps.take (j + 1) = ps.take j ++ [p] := by
  refine ⟨ps[j], List.getElem?_eq_getElem h, ?_, ?_⟩
  · rw [← List.drop_eq_getElem_cons h, List.take_append_drop]
  · rw [List.take_succ, List.getElem?_eq_getElem h]; rfl
theorem okW_len {ps : List Pce} (h : okW ps) : ps.length ≤ 600 := by
  have h1 : ∀ (l : List Pce), (∀ p ∈ l, okP p) → l.length ≤ sN l := by
    intro l
    induction l with
    | nil => intro _; exact Nat.le_refl _
    | cons p r ih =>
      intro hl
      have h2 := ih (fun q hq => hl q (List.mem_cons_of_mem _ hq))
      have h3 := hl p List.mem_cons_self
      have h4 : 0 < nP p := by
        cases p with
        | inl q => exact h3.2.1
        | inr l => exact h3.1
      show r.length + 1 ≤ nP p + sN r
      omega
  have := h1 ps h.1
  have := h.2.1
  omega
set_option maxHeartbeats 4000000 in
set_option maxRecDepth 100000 in
/-- PieceWays.piece -/
theorem c_PW_piece (l : Launch) (D : va_G) (cB cI cJ : ClassId) (x ba ta ra d ah an ao : Nat) (v1 v2 v3 z : Int32) (w : Nat → Nat) (hw256 : ∀ i, w i < 256) (ps : List Pce) (hok : okW ps) (hR : Rd w ps) (i k : Int32) : Met l y_PW_piece (Wd y_PW_piece b_PW_piece 6 (some .int)) ({ frames := 4, cells := 0, slots := 0, locals := 120 }) (ro_P D cB cI cJ [.ref x, .int i, .int k] [(x, .inr (0, [.ref ba, .ref ta, .ref ra, .int v1, .int v2, .int v3, .int (nI ps.length), .ref d])), (d, .inr (1, [.ref ah, .ref an, .ref ao, .int z])), (ao, .inl (cB, 3064, .inl (bA w)))]) (ro_Q (some (.int (pcV ps i k)))) 0 0 (fun _ => False) := by
  refine mt_ro (by decide) (Nat.le_of_ble_eq_true rfl) ?_
  intro p e s m args below meth c ls Q hx hb hr hml hw hown hlk hP hK hl hQ
  have hown : s.vm.findClass R_PW = some m.cls := hown
  have hl : lv_has ls 6 [(0, .ref x), (1, .int i), (2, .int k)] := hl
  have hpl := okW_len hok
  refine lv_iload_n hx hb d_PW_piece_0 rfl (lv_at hl 1 rfl) ?_
  refine lv_if_lt (tgt := 12) hx hb d_PW_piece_1 (by decide) (fun c_1 => ?_) (fun c_1 => ?_)
  · refine lv_iconst (v := -1) hx hb d_PW_piece_12 (by decide +kernel) ?_
    exact ro_iret hx hb hr hlk (pcV_out (by left; exact c_1)).symm hQ d_PW_piece_13
  · refine lv_iload_n hx hb d_PW_piece_4 rfl (lv_at hl 1 rfl) ?_
    refine lv_aload_n hx hb d_PW_piece_5 rfl (lv_at hl 0 rfl) ?_
    refine va_get (D := D) (ci := 0) (v := .int (nI ps.length)) (C := R_PW) (T := F_PW) (N := 8) hx hb hw i_PW hown hK.1 hP 0 rfl rfl 6 (by decide) (hw _ k_43) (fun _ h9 => h9) rfl d_PW_piece_6 ?_
    refine lv_icmp_lt (tgt := 14) hx hb d_PW_piece_9 (by decide) (fun c_9 => ?_) (fun c_9 => ?_)
    · obtain ⟨j, hj, rfl⟩ : ∃ j : Nat, j < ps.length ∧ i = nI j := by
        obtain ⟨j, hj, e⟩ := nI_of c_1
        rw [e] at c_9
        exact ⟨j, (nI_ltI hj (by omega)).mp c_9, e⟩
      refine lv_iconst (v := nI 0) hx hb d_PW_piece_14 (by decide +kernel) ?_
      refine lv_istore_n (lv' := [(3, .int (nI 0)), (0, .ref x), (1, .int (nI j)), (2, .int k)]) hx hb d_PW_piece_15 rfl hl (by decide) rfl (fun ls hl => ?_)
      refine lv_iconst (v := nI 0) hx hb d_PW_piece_16 (by decide +kernel) ?_
      refine lv_istore (lv' := [(4, .int (nI 0)), (3, .int (nI 0)), (0, .ref x), (1, .int (nI j)), (2, .int k)]) hx hb d_PW_piece_17 hl (by decide) rfl (fun ls hl => ?_)
      refine lv_iconst (v := nI 0) hx hb d_PW_piece_19 (by decide +kernel) ?_
      refine lv_istore (lv' := [(5, .int (nI 0)), (4, .int (nI 0)), (3, .int (nI 0)), (0, .ref x), (1, .int (nI j)), (2, .int k)]) hx hb d_PW_piece_20 hl (by decide) rfl (fun ls hl => ?_)
      have loop : ∀ (f q : Nat), q ≤ j → j < q + f → ∀ ls : Array Slot, lv_has ls 6 [(5, .int (nI q)), (4, .int (nI (sN (ps.take q)))), (3, .int (nI ((enc (ps.take q)).length))), (0, .ref x), (1, .int (nI j)), (2, .int k)] → W p l e ({ frames := 4, cells := 0, slots := 0, locals := 120 }) s m args below meth c s.heap [] 0 0 Q (F0 m 22 ls []) := by
        intro f
        induction f with
        | zero => intro q h1 h2; omega
        | succ f ih =>
          intro q h1 h2 ls hl
          obtain ⟨p, hpq, hmid, htk⟩ := ps_mid (ps := ps) (j := q) (by omega)
          have helen : (enc ps).length = (enc (ps.take q)).length + (eP p).length + (enc (ps.drop (q + 1))).length := by
            have := congrArg (fun l => (enc l).length) hmid
            rw [enc_len] at this; exact this
          have h3 := eP_3 p
          have hlen := hok.2.2
          have hsm : sN (ps.take q) + nP p ≤ 600 := by
            have e1 := congrArg sN hmid
            rw [sN_mid] at e1
            have := hok.2.1
            omega
          refine lv_iload hx hb d_PW_piece_22 (lv_at hl 0 rfl) ?_
          refine lv_iload_n hx hb d_PW_piece_24 rfl (lv_at hl 4 rfl) ?_
          refine n_icmp_ge (tgt := 50) hx hb d_PW_piece_25 (by decide) (by omega) (by omega) (fun c_25 => ?_) (fun c_25 => ?_)
          · refine lv_iload_n hx hb d_PW_piece_50 rfl (lv_at hl 5 rfl) ?_
            obtain rfl : q = j := by omega
            by_cases hk0 : k = nI 0
            · subst hk0
              refine lv_tableIn (off := 25) (tgt := 76) hx hb d_PW_piece_51 (by decide +kernel) (by decide +kernel) (by decide +kernel) (by decide) ?_
              refine lv_aload_n hx hb d_PW_piece_76 rfl (lv_at hl 3 rfl) ?_
              refine va_get (D := D) (ci := 0) (v := .ref d) (C := R_PW) (T := F_PW) (N := 8) hx hb hw i_PW hown hK.1 hP 0 rfl rfl 7 (by decide) (hw _ k_44) (fun _ h9 => h9) rfl d_PW_piece_77 ?_
              refine ro_V (As := []) (rest := []) ⟨hx, hb, hml, hown, hw⟩ (c_De_out l D cB cI cJ d ah an ao z) g_PW_33 hd_De_out rfl ⟨rfl, rfl⟩ ⟨by decide, by decide⟩ hP hK [1] rfl 1 1 rfl rfl rfl hl.1 rfl (Nat.le_of_ble_eq_true rfl) ⟨Nat.zero_le _, Nat.zero_le _⟩ d_PW_piece_80 ?_
              refine lv_iload_n hx hb d_PW_piece_83 rfl (lv_at hl 2 rfl) ?_
              refine ba_ld hx hb hK.1 hP 2 0 rfl rfl (by omega) (by decide) d_PW_piece_84 ?_
              refine ro_iret hx hb hr hlk ?_ hQ d_PW_piece_85
              rw [pcV_in (by omega) hpq, if_pos rfl]
              cases p with
              | inl q0 => rw [(Rd_c hR hmid).1]; exact (show bI 1 = nI 1 by decide +kernel)
              | inr l0 => rw [(Rd_p hR hmid).1]; exact (show bI 2 = nI 2 by decide +kernel)
            · by_cases hk1 : k = nI 1
              · subst hk1
                refine lv_tableIn (off := 35) (tgt := 86) hx hb d_PW_piece_51 (by decide +kernel) (by decide +kernel) (by decide +kernel) (by decide) ?_
                refine lv_aload_n hx hb d_PW_piece_86 rfl (lv_at hl 3 rfl) ?_
                refine lv_iload_n hx hb d_PW_piece_87 rfl (lv_at hl 2 rfl) ?_
                refine ro_V (As := [.int (nI ((enc (ps.take q)).length))]) (rest := []) ⟨hx, hb, hml, hown, hw⟩ (c_PW_isCopy l D cB cI cJ x ba ta ra d ah an ao v1 v2 v3 (nI ps.length) z w hw256 (enc (ps.take q)).length (by omega)) g_PW_37 hd_PW_isCopy rfl ⟨rfl, rfl⟩ ⟨by decide, by decide⟩ hP hK [0, 1, 2] rfl 0 0 rfl rfl rfl hl.1 rfl (Nat.le_of_ble_eq_true rfl) ⟨Nat.zero_le _, Nat.zero_le _⟩ d_PW_piece_88 ?_
                refine n_if_eq (tgt := 110) hx hb d_PW_piece_91 (by decide) (by split <;> omega) (fun c_91 => ?_) (fun c_91 => ?_)
                · refine lv_iload hx hb d_PW_piece_110 (lv_at hl 1 rfl) ?_
                  refine ro_iret hx hb hr hlk ?_ hQ d_PW_piece_112
                  rw [pcV_in (by omega) hpq, if_neg (by decide +kernel), if_pos rfl]
                  cases p with
                  | inl q0 => exfalso; rw [if_pos (Rd_c hR hmid).1] at c_91; omega
                  | inr l0 => rfl
                · refine lv_aload_n hx hb d_PW_piece_94 rfl (lv_at hl 3 rfl) ?_
                  refine va_get (D := D) (ci := 0) (v := .ref d) (C := R_PW) (T := F_PW) (N := 8) hx hb hw i_PW hown hK.1 hP 0 rfl rfl 7 (by decide) (hw _ k_44) (fun _ h9 => h9) rfl d_PW_piece_95 ?_
                  refine ro_V (As := []) (rest := []) ⟨hx, hb, hml, hown, hw⟩ (c_De_out l D cB cI cJ d ah an ao z) g_PW_33 hd_De_out rfl ⟨rfl, rfl⟩ ⟨by decide, by decide⟩ hP hK [1] rfl 1 1 rfl rfl rfl hl.1 rfl (Nat.le_of_ble_eq_true rfl) ⟨Nat.zero_le _, Nat.zero_le _⟩ d_PW_piece_98 ?_
                  refine lv_iload_n hx hb d_PW_piece_101 rfl (lv_at hl 2 rfl) ?_
                  refine lv_iconst (v := nI 1) hx hb d_PW_piece_102 (by decide +kernel) ?_
                  refine n_iadd hx hb d_PW_piece_103 ?_
                  refine ro_two (As := [.ref ao, .int (nI (((enc (ps.take q)).length) + 1))]) (rest := []) ⟨hx, hb, hml, hown, hw⟩ (c_De_two l D cB cI cJ ao w ((enc (ps.take q)).length + 1) hw256 (by omega)) ⟨rfl, rfl⟩ ⟨by decide, by decide⟩ hP hK [2] rfl rfl hl.1 rfl (Nat.le_of_ble_eq_true rfl) ⟨Nat.zero_le _, Nat.zero_le _⟩ d_PW_piece_104 ?_
                  refine lv_goto (tgt := 112) hx hb d_PW_piece_107 (by decide) ?_
                  refine ro_iret hx hb hr hlk ?_ hQ d_PW_piece_112
                  rw [pcV_in (by omega) hpq, if_neg (by decide +kernel), if_pos rfl]
                  cases p with
                  | inl q0 => rw [(Rd_c hR hmid).2.1]; rfl
                  | inr l0 => exfalso; rw [if_neg (by rw [(Rd_p hR hmid).1]; decide)] at c_91; omega
              · by_cases hk2 : k = nI 2
                · subst hk2
                  refine lv_tableIn (off := 62) (tgt := 113) hx hb d_PW_piece_51 (by decide +kernel) (by decide +kernel) (by decide +kernel) (by decide) ?_
                  refine lv_aload_n hx hb d_PW_piece_113 rfl (lv_at hl 3 rfl) ?_
                  refine lv_iload_n hx hb d_PW_piece_114 rfl (lv_at hl 2 rfl) ?_
                  refine ro_V (As := [.int (nI ((enc (ps.take q)).length))]) (rest := []) ⟨hx, hb, hml, hown, hw⟩ (c_PW_many l D cB cI cJ x ba ta ra d ah an ao v1 v2 v3 (nI ps.length) z w hw256 (enc (ps.take q)).length (by omega)) g_PW_45 hd_PW_many rfl ⟨rfl, rfl⟩ ⟨by decide, by decide⟩ hP hK [0, 1, 2] rfl 0 0 rfl rfl rfl hl.1 rfl (Nat.le_of_ble_eq_true rfl) ⟨Nat.zero_le _, Nat.zero_le _⟩ d_PW_piece_115 ?_
                  refine tv_i (y := nI (nP p)) (by rw [mny_at hR hmid]) ?_
                  exact ro_iret hx hb hr hlk (by rw [pcV_in (by omega) hpq, if_neg (by decide +kernel), if_neg (by decide +kernel), if_pos rfl]) hQ d_PW_piece_118
                · refine lv_tableOut (tgt := 119) hx hb d_PW_piece_51 (tb3 hk0 hk1 hk2) (by decide) ?_
                  refine lv_iconst (v := -1) hx hb d_PW_piece_119 (by decide +kernel) ?_
                  exact ro_iret hx hb hr hlk (by rw [pcV_in (by omega) hpq, if_neg hk0, if_neg hk1, if_neg hk2]) hQ d_PW_piece_120
          · refine lv_iload hx hb d_PW_piece_28 (lv_at hl 1 rfl) ?_
            refine lv_aload_n hx hb d_PW_piece_30 rfl (lv_at hl 3 rfl) ?_
            refine lv_iload_n hx hb d_PW_piece_31 rfl (lv_at hl 2 rfl) ?_
            refine ro_V (As := [.int (nI ((enc (ps.take q)).length))]) (rest := [.int (nI (sN (ps.take q)))]) ⟨hx, hb, hml, hown, hw⟩ (c_PW_many l D cB cI cJ x ba ta ra d ah an ao v1 v2 v3 (nI ps.length) z w hw256 (enc (ps.take q)).length (by omega)) g_PW_45 hd_PW_many rfl ⟨rfl, rfl⟩ ⟨by decide, by decide⟩ hP hK [0, 1, 2] rfl 0 0 rfl rfl rfl hl.1 rfl (Nat.le_of_ble_eq_true rfl) ⟨Nat.zero_le _, Nat.zero_le _⟩ d_PW_piece_32 ?_
            refine tv_i (y := nI (nP p)) (by rw [mny_at hR hmid]) ?_
            refine n_iadd hx hb d_PW_piece_35 ?_
            refine lv_istore (lv' := [(4, .int (nI ((sN (ps.take q)) + (nP p)))), (5, .int (nI q)), (3, .int (nI ((enc (ps.take q)).length))), (0, .ref x), (1, .int (nI j)), (2, .int k)]) hx hb d_PW_piece_36 hl (by decide) rfl (fun ls hl => ?_)
            refine lv_aload_n hx hb d_PW_piece_38 rfl (lv_at hl 3 rfl) ?_
            refine lv_iload_n hx hb d_PW_piece_39 rfl (lv_at hl 2 rfl) ?_
            refine ro_V (As := [.int (nI ((enc (ps.take q)).length))]) (rest := []) ⟨hx, hb, hml, hown, hw⟩ (c_PW_next l D cB cI cJ x ba ta ra d ah an ao v1 v2 v3 (nI ps.length) z w hw256 (enc (ps.take q)).length (by omega)) g_PW_60 hd_PW_next rfl ⟨rfl, rfl⟩ ⟨by decide, by decide⟩ hP hK [0, 1, 2] rfl 0 0 rfl rfl rfl hl.1 rfl (Nat.le_of_ble_eq_true rfl) ⟨Nat.zero_le _, Nat.zero_le _⟩ d_PW_piece_40 ?_
            refine tv_i (y := nI ((enc (ps.take q ++ [p])).length)) (by rw [nxt_at hR hmid]) ?_
            refine lv_istore_n (lv' := [(3, .int (nI ((enc (ps.take q ++ [p])).length))), (4, .int (nI ((sN (ps.take q)) + (nP p)))), (5, .int (nI q)), (0, .ref x), (1, .int (nI j)), (2, .int k)]) hx hb d_PW_piece_43 rfl hl (by decide) rfl (fun ls hl => ?_)
            refine lv_iinc (v := nI (q + 1)) (lv' := [(5, .int (nI (q + 1))), (3, .int (nI ((enc (ps.take q ++ [p])).length))), (4, .int (nI ((sN (ps.take q)) + (nP p)))), (0, .ref x), (1, .int (nI j)), (2, .int k)]) hx hb d_PW_piece_44 hl (k := 2) rfl (nI_inc1 _) (by decide) rfl (fun ls hl => ?_)
            refine lv_goto (tgt := 22) hx hb d_PW_piece_47 (by decide) ?_
            refine ih (q + 1) (by omega) (by omega) ls ?_
            rw [htk, sN_snoc]
            exact lv_sub hl [0, 2, 1, 3, 4, 5] rfl
      exact loop (j + 1) 0 (by omega) (by omega) ls (lv_sub hl [0, 1, 2, 3, 4, 5] rfl)
    · refine lv_iconst (v := -1) hx hb d_PW_piece_12 (by decide +kernel) ?_
      exact ro_iret hx hb hr hlk (pcV_out (by right; exact nlt_le c_9)).symm hQ d_PW_piece_13
end
section
set_option maxHeartbeats 4000000 in
set_option maxRecDepth 100000 in
theorem c_Mo_write (l : Launch) (D : va_G) (cB cI cJ : ClassId) (y yb yt yr yo yn : Nat) (th v1 v2 v4 : Int32) (r : Nat → Nat) (L : List Nat) (sz : Nat) (hs : sz = L.length) (v : Nat) (hsz : sz < 2000) : Met l y_Mo_write (Wd y_Mo_write b_Mo_write 2 none) ({ frames := 0, cells := 0, slots := 0, locals := 0 }) (ip_P D cB cI cJ [.ref y, .int (nI v)] [(y, .inr (2, [.int th, .ref yb, .int v1, .ref yt, .int v2, .ref yr, .int (nI sz), .ref yo, .int v4, .ref yn])), (yr, .inl (cI, 2000, .inl (iA (spl r 0 L))))]) (ip_Q D [(y, .inr (2, [.int th, .ref yb, .int v1, .ref yt, .int v2, .ref yr, .int (nI sz), .ref yo, .int v4, .ref yn])), (yr, .inl (cI, 2000, .inl (iA (spl r 0 L))))] (fun _ : Unit => True) (fun _ : Unit => none) (fun _ : Unit => [(y, .inr (2, [.int th, .ref yb, .int v1, .ref yt, .int v2, .ref yr, .int (nI (sz + 1)), .ref yo, .int v4, .ref yn])), (yr, .inl (cI, 2000, .inl (iA (spl r 0 (L ++ [v])))))])) 0 0 (inW [(y, .inr (2, [.int th, .ref yb, .int v1, .ref yt, .int v2, .ref yr, .int (nI sz), .ref yo, .int v4, .ref yn])), (yr, .inl (cI, 2000, .inl (iA (spl r 0 L))))]) := by
  refine mt_ip (by decide) (Nat.le_of_ble_eq_true rfl) ?_
  intro p e s m args below meth c ls Q A hx hb hr hml hw hown hlk hP hK hD hS hl hAe hQ
  have hown : s.vm.findClass R_Mo = some m.cls := hown
  have hl : lv_has ls 2 [(0, .ref y), (1, .int (nI v))] := hl
  refine lv_aload_n hx hb d_Mo_write_0 rfl (lv_at hl 0 rfl) ?_
  refine va_get (D := D) (ci := 2) (v := .ref yr) (C := R_Mo) (T := F_Mo) (N := 10) hx hb hw i_Mo hown hK.1 hP 0 rfl rfl 5 (by decide) (hw _ k_227) (fun _ h9 => h9) rfl d_Mo_write_1 ?_
  refine lv_aload_n hx hb d_Mo_write_4 rfl (lv_at hl 0 rfl) ?_
  refine va_get (D := D) (ci := 2) (v := .int (nI sz)) (C := R_Mo) (T := F_Mo) (N := 10) hx hb hw i_Mo hown hK.1 hP 0 rfl rfl 6 (by decide) (hw _ k_228) (fun _ h9 => h9) rfl d_Mo_write_5 ?_
  refine lv_iload_n hx hb d_Mo_write_8 rfl (lv_at hl 1 rfl) ?_
  refine ia_st hx hb hK.1 hP hD hS 1 1 rfl rfl (by omega) (by decide) d_Mo_write_9 (fun H locs hP hD hS => ?_)
  rw [show va_up (spl r 0 L) sz v = spl r 0 (L ++ [v]) from spl_sn0 r L v hs] at hP hD
  have hP : va_P D classes [(y, .inr (2, [.int th, .ref yb, .int v1, .ref yt, .int v2, .ref yr, .int (nI sz), .ref yo, .int v4, .ref yn])), (yr, .inl (cI, 2000, .inl (iA (spl r 0 (L ++ [v])))))] H := hP
  have hD : va_D A [(y, .inr (2, [.int th, .ref yb, .int v1, .ref yt, .int v2, .ref yr, .int (nI sz), .ref yo, .int v4, .ref yn])), (yr, .inl (cI, 2000, .inl (iA (spl r 0 (L ++ [v])))))] := hD
  refine lv_aload_n hx hb d_Mo_write_10 rfl (lv_at hl 0 rfl) ?_
  refine lv_dup hx hb d_Mo_write_11 rfl ?_
  refine va_get (D := D) (ci := 2) (v := .int (nI sz)) (C := R_Mo) (T := F_Mo) (N := 10) hx hb hw i_Mo hown hK.1 hP 0 rfl rfl 6 (by decide) (hw _ k_228) (fun _ h9 => h9) rfl d_Mo_write_12 ?_
  refine lv_iconst (v := nI 1) hx hb d_Mo_write_15 (by decide +kernel) ?_
  refine n_iadd hx hb d_Mo_write_16 ?_
  refine va_put (D := D) (ci := 2) (v := .int (nI (sz + 1))) (ty := .int) (C := R_Mo) (T := F_Mo) (N := 10) hx hb hw i_Mo t_Mo t_Mo_ok n_Mo hown hK.1 hP hD hS 0 rfl rfl 6 (by decide) (hw _ k_228) (fun _ h9 => h9) rfl (by decide +kernel) rfl rfl (Nat.le_of_ble_eq_true rfl) d_Mo_write_17 (fun H locs hP hD hS => ?_)
  have hP : va_P D classes [(y, .inr (2, [.int th, .ref yb, .int v1, .ref yt, .int v2, .ref yr, .int (nI (sz + 1)), .ref yo, .int v4, .ref yn])), (yr, .inl (cI, 2000, .inl (iA (spl r 0 (L ++ [v])))))] H := hP
  have hD : va_D A [(y, .inr (2, [.int th, .ref yb, .int v1, .ref yt, .int v2, .ref yr, .int (nI (sz + 1)), .ref yo, .int v4, .ref yn])), (yr, .inl (cI, 2000, .inl (iA (spl r 0 (L ++ [v])))))] := hD
  exact ip_vret hx hb hr hlk hAe hS () rfl trivial hP hQ d_Mo_write_20
set_option maxHeartbeats 4000000 in
set_option maxRecDepth 100000 in
theorem c_Mo_writeTwo (l : Launch) (D : va_G) (cB cI cJ : ClassId) (y yb yt yr yo yn : Nat) (th v1 v2 v4 : Int32) (r : Nat → Nat) (L : List Nat) (sz : Nat) (hs : sz = L.length) (v : Nat) (hv : v < 65536) (hsz : sz + 1 < 2000) : Met l y_Mo_writeTwo (Wd y_Mo_writeTwo b_Mo_writeTwo 2 none) ({ frames := 1, cells := 0, slots := 0, locals := 30 }) (ip_P D cB cI cJ [.ref y, .int (nI v)] [(y, .inr (2, [.int th, .ref yb, .int v1, .ref yt, .int v2, .ref yr, .int (nI sz), .ref yo, .int v4, .ref yn])), (yr, .inl (cI, 2000, .inl (iA (spl r 0 L))))]) (ip_Q D [(y, .inr (2, [.int th, .ref yb, .int v1, .ref yt, .int v2, .ref yr, .int (nI sz), .ref yo, .int v4, .ref yn])), (yr, .inl (cI, 2000, .inl (iA (spl r 0 L))))] (fun _ : Unit => True) (fun _ : Unit => none) (fun _ : Unit => [(y, .inr (2, [.int th, .ref yb, .int v1, .ref yt, .int v2, .ref yr, .int (nI (sz + 1 + 1)), .ref yo, .int v4, .ref yn])), (yr, .inl (cI, 2000, .inl (iA (spl r 0 (L ++ [v / 256] ++ [v % 256])))))])) 0 0 (inW [(y, .inr (2, [.int th, .ref yb, .int v1, .ref yt, .int v2, .ref yr, .int (nI sz), .ref yo, .int v4, .ref yn])), (yr, .inl (cI, 2000, .inl (iA (spl r 0 L))))]) := by
  refine mt_ip (by decide) (Nat.le_of_ble_eq_true rfl) ?_
  intro p e s m args below meth c ls Q A hx hb hr hml hw hown hlk hP hK hD hS hl hAe hQ
  have hown : s.vm.findClass R_Mo = some m.cls := hown
  have hl : lv_has ls 2 [(0, .ref y), (1, .int (nI v))] := hl
  refine lv_aload_n hx hb d_Mo_writeTwo_0 rfl (lv_at hl 0 rfl) ?_
  refine lv_iload_n hx hb d_Mo_writeTwo_1 rfl (lv_at hl 1 rfl) ?_
  refine lv_sipush (v := nI 256) hx hb d_Mo_writeTwo_2 (by decide +kernel) ?_
  refine n_idiv hx hb d_Mo_writeTwo_5 (by omega) (by decide) (by decide) ?_
  refine ip_V (As := [.int (nI (v / 256))]) (rest := []) ⟨hx, hb, hml, hown, hw⟩ (c_Mo_write l D cB cI cJ y yb yt yr yo yn th v1 v2 v4 r L sz hs (v / 256) (by omega)) g_Mo_41 hd_Mo_write rfl ⟨rfl, rfl⟩ ⟨by decide, by decide⟩ hP hK hD hS [0, 1] (by decide) rfl [y, yr] rfl (fun _ => rfl) 0 2 rfl rfl rfl hl.1 rfl (Nat.le_of_ble_eq_true rfl) ⟨Nat.zero_le _, Nat.zero_le _⟩ d_Mo_writeTwo_6 (fun u_6 H locs hu_6 hP hD hS => ?_)
  refine W.eq (g2 := F0 m 9 ls []) rfl ?_
  have hP : va_P D classes [(y, .inr (2, [.int th, .ref yb, .int v1, .ref yt, .int v2, .ref yr, .int (nI (sz + 1)), .ref yo, .int v4, .ref yn])), (yr, .inl (cI, 2000, .inl (iA (spl r 0 (L ++ [v / 256])))))] H := hP
  have hD : va_D A [(y, .inr (2, [.int th, .ref yb, .int v1, .ref yt, .int v2, .ref yr, .int (nI (sz + 1)), .ref yo, .int v4, .ref yn])), (yr, .inl (cI, 2000, .inl (iA (spl r 0 (L ++ [v / 256])))))] := hD
  refine lv_aload_n hx hb d_Mo_writeTwo_9 rfl (lv_at hl 0 rfl) ?_
  refine lv_iload_n hx hb d_Mo_writeTwo_10 rfl (lv_at hl 1 rfl) ?_
  refine lv_sipush (v := nI 256) hx hb d_Mo_writeTwo_11 (by decide +kernel) ?_
  refine n_irem hx hb d_Mo_writeTwo_14 (by omega) (by decide) (by decide) ?_
  refine ip_V (As := [.int (nI (v % 256))]) (rest := []) ⟨hx, hb, hml, hown, hw⟩ (c_Mo_write l D cB cI cJ y yb yt yr yo yn th v1 v2 v4 r (L ++ [v / 256]) (sz + 1) (by simp [hs]) (v % 256) (by omega)) g_Mo_41 hd_Mo_write rfl ⟨rfl, rfl⟩ ⟨by decide, by decide⟩ hP hK hD hS [0, 1] (by decide) rfl [y, yr] rfl (fun _ => rfl) 0 2 rfl rfl rfl hl.1 rfl (Nat.le_of_ble_eq_true rfl) ⟨Nat.zero_le _, Nat.zero_le _⟩ d_Mo_writeTwo_15 (fun u_15 H locs hu_15 hP hD hS => ?_)
  refine W.eq (g2 := F0 m 18 ls []) rfl ?_
  have hP : va_P D classes [(y, .inr (2, [.int th, .ref yb, .int v1, .ref yt, .int v2, .ref yr, .int (nI (sz + 1 + 1)), .ref yo, .int v4, .ref yn])), (yr, .inl (cI, 2000, .inl (iA (spl r 0 (L ++ [v / 256] ++ [v % 256])))))] H := hP
  have hD : va_D A [(y, .inr (2, [.int th, .ref yb, .int v1, .ref yt, .int v2, .ref yr, .int (nI (sz + 1 + 1)), .ref yo, .int v4, .ref yn])), (yr, .inl (cI, 2000, .inl (iA (spl r 0 (L ++ [v / 256] ++ [v % 256])))))] := hD
  exact ip_vret hx hb hr hlk hAe hS () rfl trivial hP hQ d_Mo_writeTwo_18
set_option maxHeartbeats 4000000 in
set_option maxRecDepth 100000 in
theorem c_Mo_two (l : Launch) (D : va_G) (cB cI cJ : ClassId) (y yb yt yr yo yn : Nat) (th v1 v2 v3 v4 : Int32) (w : Nat → Nat) (a : Nat) (ha : a + 1 < 2000) : Met l y_Mo_two (Wd y_Mo_two b_Mo_two 2 (some .int)) ({ frames := 0, cells := 0, slots := 0, locals := 0 }) (ro_P D cB cI cJ [.ref y, .int (nI a)] [(y, .inr (2, [.int th, .ref yb, .int v1, .ref yt, .int v2, .ref yr, .int v3, .ref yo, .int v4, .ref yn])), (yr, .inl (cI, 2000, .inl (iA w)))]) (ro_Q (some (.int (nI (w a * 256 + w (a + 1)))))) 0 0 (fun _ => False) := by
  refine mt_ro (by decide) (Nat.le_of_ble_eq_true rfl) ?_
  intro p e s m args below meth c ls Q hx hb hr hml hw hown hlk hP hK hl hQ
  have hown : s.vm.findClass R_Mo = some m.cls := hown
  have hl : lv_has ls 2 [(0, .ref y), (1, .int (nI a))] := hl
  refine lv_sipush (v := nI 256) hx hb d_Mo_two_0 (by decide +kernel) ?_
  refine lv_aload_n hx hb d_Mo_two_3 rfl (lv_at hl 0 rfl) ?_
  refine va_get (D := D) (ci := 2) (v := .ref yr) (C := R_Mo) (T := F_Mo) (N := 10) hx hb hw i_Mo hown hK.1 hP 0 rfl rfl 5 (by decide) (hw _ k_227) (fun _ h9 => h9) rfl d_Mo_two_4 ?_
  refine lv_iload_n hx hb d_Mo_two_7 rfl (lv_at hl 1 rfl) ?_
  refine ia_ld hx hb hK.1 hP 1 1 rfl rfl (by omega) (by decide) d_Mo_two_8 ?_
  refine n_imul hx hb d_Mo_two_9 ?_
  refine lv_aload_n hx hb d_Mo_two_10 rfl (lv_at hl 0 rfl) ?_
  refine va_get (D := D) (ci := 2) (v := .ref yr) (C := R_Mo) (T := F_Mo) (N := 10) hx hb hw i_Mo hown hK.1 hP 0 rfl rfl 5 (by decide) (hw _ k_227) (fun _ h9 => h9) rfl d_Mo_two_11 ?_
  refine lv_iload_n hx hb d_Mo_two_14 rfl (lv_at hl 1 rfl) ?_
  refine lv_iconst (v := nI 1) hx hb d_Mo_two_15 (by decide +kernel) ?_
  refine n_iadd hx hb d_Mo_two_16 ?_
  refine ia_ld hx hb hK.1 hP 1 1 rfl rfl (by omega) (by decide) d_Mo_two_17 ?_
  refine n_iadd hx hb d_Mo_two_18 ?_
  exact ro_iret hx hb hr hlk (by rw [Nat.mul_comm]) hQ d_Mo_two_19
set_option maxHeartbeats 4000000 in
set_option maxRecDepth 100000 in
theorem c_Mo_alike (l : Launch) (D : va_G) (cB cI cJ : ClassId) (y yb yt yr yo yn : Nat) (th v3 v4 : Int32) (T B : Nat → Nat) (mm n t b : Nat) (hT : ∀ i, T i < 256) (hB : ∀ i, B i < 256) (hm : mm ≤ 600) (hn : n ≤ 600) (ht : t ≤ 600) (hb0 : b ≤ 600) : Met l y_Mo_alike (Wd y_Mo_alike b_Mo_alike 4 (some .int)) ({ frames := 0, cells := 0, slots := 0, locals := 0 }) (ro_P D cB cI cJ [.ref y, .int (nI b), .int (nI t)] [(y, .inr (2, [.int th, .ref yb, .int (nI n), .ref yt, .int (nI mm), .ref yr, .int v3, .ref yo, .int v4, .ref yn])), (yb, .inl (cI, 600, .inl (iA B))), (yt, .inl (cI, 600, .inl (iA T)))]) (ro_Q (some (.int (nI (alk B n T mm b t))))) 0 0 (fun _ => False) := by
  refine mt_ro (by decide) (Nat.le_of_ble_eq_true rfl) ?_
  intro p e s m args below meth c ls Q hx hb hr hml hw hown hlk hP hK hl hQ
  have hown : s.vm.findClass R_Mo = some m.cls := hown
  have hl : lv_has ls 4 [(0, .ref y), (1, .int (nI b)), (2, .int (nI t))] := hl
  have loop : ∀ (f k : Nat), k ≤ 600 → 601 < k + f → (∀ j, j < k → b + j < n ∧ t + j < mm ∧ B (b + j) = T (t + j)) → ∀ ls : Array Slot, lv_has ls 4 [(3, .int (nI k)), (0, .ref y), (1, .int (nI b)), (2, .int (nI t))] → W p l e ({ frames := 0, cells := 0, slots := 0, locals := 0 }) s m args below meth c s.heap [] 0 0 Q (F0 m 2 ls []) := by
    intro f
    induction f with
    | zero => intro k h1 h2; omega
    | succ f ih =>
      intro k h1 h2 hj ls hl
      refine lv_iload_n hx hb d_Mo_alike_2 rfl (lv_at hl 2 rfl) ?_
      refine lv_iload_n hx hb d_Mo_alike_3 rfl (lv_at hl 0 rfl) ?_
      refine n_iadd hx hb d_Mo_alike_4 ?_
      refine lv_aload_n hx hb d_Mo_alike_5 rfl (lv_at hl 1 rfl) ?_
      refine va_get (D := D) (ci := 2) (v := .int (nI n)) (C := R_Mo) (T := F_Mo) (N := 10) hx hb hw i_Mo hown hK.1 hP 0 rfl rfl 2 (by decide) (hw _ k_224) (fun _ h9 => h9) rfl d_Mo_alike_6 ?_
      refine n_icmp_ge (tgt := 47) hx hb d_Mo_alike_9 (by decide) (by omega) (by omega) (fun c_9 => ?_) (fun c_9 => ?_)
      · refine lv_iload_n hx hb d_Mo_alike_47 rfl (lv_at hl 0 rfl) ?_
        exact ro_iret hx hb hr hlk (by rw [alk_eq hj (by omega)]) hQ d_Mo_alike_48
      · refine lv_iload_n hx hb d_Mo_alike_12 rfl (lv_at hl 3 rfl) ?_
        refine lv_iload_n hx hb d_Mo_alike_13 rfl (lv_at hl 0 rfl) ?_
        refine n_iadd hx hb d_Mo_alike_14 ?_
        refine lv_aload_n hx hb d_Mo_alike_15 rfl (lv_at hl 1 rfl) ?_
        refine va_get (D := D) (ci := 2) (v := .int (nI mm)) (C := R_Mo) (T := F_Mo) (N := 10) hx hb hw i_Mo hown hK.1 hP 0 rfl rfl 4 (by decide) (hw _ k_226) (fun _ h9 => h9) rfl d_Mo_alike_16 ?_
        refine n_icmp_ge (tgt := 47) hx hb d_Mo_alike_19 (by decide) (by omega) (by omega) (fun c_19 => ?_) (fun c_19 => ?_)
        · refine lv_iload_n hx hb d_Mo_alike_47 rfl (lv_at hl 0 rfl) ?_
          exact ro_iret hx hb hr hlk (by rw [alk_eq hj (by omega)]) hQ d_Mo_alike_48
        · refine lv_aload_n hx hb d_Mo_alike_22 rfl (lv_at hl 1 rfl) ?_
          refine va_get (D := D) (ci := 2) (v := .ref yb) (C := R_Mo) (T := F_Mo) (N := 10) hx hb hw i_Mo hown hK.1 hP 0 rfl rfl 1 (by decide) (hw _ k_223) (fun _ h9 => h9) rfl d_Mo_alike_23 ?_
          refine lv_iload_n hx hb d_Mo_alike_26 rfl (lv_at hl 2 rfl) ?_
          refine lv_iload_n hx hb d_Mo_alike_27 rfl (lv_at hl 0 rfl) ?_
          refine n_iadd hx hb d_Mo_alike_28 ?_
          refine ia_ld hx hb hK.1 hP 1 1 rfl rfl (by omega) (by decide) d_Mo_alike_29 ?_
          refine lv_aload_n hx hb d_Mo_alike_30 rfl (lv_at hl 1 rfl) ?_
          refine va_get (D := D) (ci := 2) (v := .ref yt) (C := R_Mo) (T := F_Mo) (N := 10) hx hb hw i_Mo hown hK.1 hP 0 rfl rfl 3 (by decide) (hw _ k_225) (fun _ h9 => h9) rfl d_Mo_alike_31 ?_
          refine lv_iload_n hx hb d_Mo_alike_34 rfl (lv_at hl 3 rfl) ?_
          refine lv_iload_n hx hb d_Mo_alike_35 rfl (lv_at hl 0 rfl) ?_
          refine n_iadd hx hb d_Mo_alike_36 ?_
          refine ia_ld hx hb hK.1 hP 2 1 rfl rfl (by omega) (by decide) d_Mo_alike_37 ?_
          refine n_icmp_ne (tgt := 47) hx hb d_Mo_alike_38 (by decide) (Nat.lt_trans (hB _) (by decide)) (Nat.lt_trans (hT _) (by decide)) (fun c_38 => ?_) (fun c_38 => ?_)
          · refine lv_iload_n hx hb d_Mo_alike_47 rfl (lv_at hl 0 rfl) ?_
            exact ro_iret hx hb hr hlk (by rw [alk_eq hj (by omega)]) hQ d_Mo_alike_48
          · refine lv_iinc (v := nI (k + 1)) (lv' := [(3, .int (nI (k + 1))), (0, .ref y), (1, .int (nI b)), (2, .int (nI t))]) hx hb d_Mo_alike_41 hl (k := 0) rfl (nI_inc1 _) (by decide) rfl (fun ls hl => ?_)
            refine lv_goto (tgt := 2) hx hb d_Mo_alike_44 (by decide) ?_
            refine ih (k + 1) (by omega) (by omega) (fun j h => ?_) ls (lv_sub hl [0, 1, 2, 3] rfl)
            rcases Nat.lt_or_ge j k with h6 | h6
            · exact hj j h6
            · rw [show j = k by omega]; exact ⟨by omega, by omega, c_38⟩
  refine lv_iconst (v := nI 0) hx hb d_Mo_alike_0 (by decide +kernel) ?_
  refine lv_istore_n (lv' := [(3, .int (nI 0)), (0, .ref y), (1, .int (nI b)), (2, .int (nI t))]) hx hb d_Mo_alike_1 rfl hl (by decide) rfl (fun ls hl => ?_)
  exact loop 602 0 (by omega) (by omega) (fun j h => absurd h (Nat.not_lt_zero j)) ls (lv_sub hl [0, 1, 2, 3] rfl)
set_option maxHeartbeats 4000000 in
set_option maxRecDepth 100000 in
theorem c_Mo_many (l : Launch) (D : va_G) (cB cI cJ : ClassId) (y yb yt yr yo yn : Nat) (th v1 v2 v3 v4 : Int32) (w : Nat → Nat) (hw256 : ∀ i, w i < 256) (a : Nat) (ha : a + 4 < 2000) : Met l y_Mo_many (Wd y_Mo_many b_Mo_many 2 (some .int)) ({ frames := 1, cells := 0, slots := 0, locals := 30 }) (ro_P D cB cI cJ [.ref y, .int (nI a)] [(y, .inr (2, [.int th, .ref yb, .int v1, .ref yt, .int v2, .ref yr, .int v3, .ref yo, .int v4, .ref yn])), (yr, .inl (cI, 2000, .inl (iA w)))]) (ro_Q (some (.int (nI (mny w a))))) 0 0 (fun _ => False) := by
  refine mt_ro (by decide) (Nat.le_of_ble_eq_true rfl) ?_
  intro p e s m args below meth c ls Q hx hb hr hml hw hown hlk hP hK hl hQ
  have hown : s.vm.findClass R_Mo = some m.cls := hown
  have hl : lv_has ls 2 [(0, .ref y), (1, .int (nI a))] := hl
  refine lv_aload_n hx hb d_Mo_many_0 rfl (lv_at hl 0 rfl) ?_
  refine lv_aload_n hx hb d_Mo_many_1 rfl (lv_at hl 0 rfl) ?_
  refine va_get (D := D) (ci := 2) (v := .ref yr) (C := R_Mo) (T := F_Mo) (N := 10) hx hb hw i_Mo hown hK.1 hP 0 rfl rfl 5 (by decide) (hw _ k_227) (fun _ h9 => h9) rfl d_Mo_many_2 ?_
  refine lv_iload_n hx hb d_Mo_many_5 rfl (lv_at hl 1 rfl) ?_
  refine ia_ld hx hb hK.1 hP 1 1 rfl rfl (by omega) (by decide) d_Mo_many_6 ?_
  refine lv_iconst (v := nI 1) hx hb d_Mo_many_7 (by decide +kernel) ?_
  refine n_icmp_ne (tgt := 17) hx hb d_Mo_many_8 (by decide) (Nat.lt_trans (hw256 _) (by decide)) (by omega) (fun c_8 => ?_) (fun c_8 => ?_)
  · refine lv_iload_n hx hb d_Mo_many_17 rfl (lv_at hl 1 rfl) ?_
    refine lv_iconst (v := nI 1) hx hb d_Mo_many_18 (by decide +kernel) ?_
    refine n_iadd hx hb d_Mo_many_19 ?_
    refine ro_V (As := [.int (nI (a + 1))]) (rest := []) ⟨hx, hb, hml, hown, hw⟩ (c_Mo_two l D cB cI cJ y yb yt yr yo yn th v1 v2 v3 v4 w (a + 1) (by omega)) g_Mo_45 hd_Mo_two rfl ⟨rfl, rfl⟩ ⟨by decide, by decide⟩ hP hK [0, 1] rfl 0 2 rfl rfl rfl hl.1 rfl (Nat.le_of_ble_eq_true rfl) ⟨Nat.zero_le _, Nat.zero_le _⟩ d_Mo_many_20 ?_
    exact ro_iret hx hb hr hlk (by unfold mny; rw [if_neg c_8]) hQ d_Mo_many_23
  · refine lv_iload_n hx hb d_Mo_many_11 rfl (lv_at hl 1 rfl) ?_
    refine lv_iconst (v := nI 3) hx hb d_Mo_many_12 (by decide +kernel) ?_
    refine n_iadd hx hb d_Mo_many_13 ?_
    refine lv_goto (tgt := 20) hx hb d_Mo_many_14 (by decide) ?_
    refine ro_V (As := [.int (nI (a + 3))]) (rest := []) ⟨hx, hb, hml, hown, hw⟩ (c_Mo_two l D cB cI cJ y yb yt yr yo yn th v1 v2 v3 v4 w (a + 3) (by omega)) g_Mo_45 hd_Mo_two rfl ⟨rfl, rfl⟩ ⟨by decide, by decide⟩ hP hK [0, 1] rfl 0 2 rfl rfl rfl hl.1 rfl (Nat.le_of_ble_eq_true rfl) ⟨Nat.zero_le _, Nat.zero_le _⟩ d_Mo_many_20 ?_
    exact ro_iret hx hb hr hlk (by unfold mny; rw [if_pos c_8]) hQ d_Mo_many_23
set_option maxHeartbeats 4000000 in
set_option maxRecDepth 100000 in
theorem c_Mo_behind (l : Launch) (D : va_G) (cB cI cJ : ClassId) (y yb yt yr yo yn : Nat) (th v1 v2 v3 v4 : Int32) (w : Nat → Nat) (hw256 : ∀ i, w i < 256) (a : Nat) (ha : a + 4 < 2000) : Met l y_Mo_behind (Wd y_Mo_behind b_Mo_behind 2 (some .int)) ({ frames := 1, cells := 0, slots := 0, locals := 30 }) (ro_P D cB cI cJ [.ref y, .int (nI a)] [(y, .inr (2, [.int th, .ref yb, .int v1, .ref yt, .int v2, .ref yr, .int v3, .ref yo, .int v4, .ref yn])), (yr, .inl (cI, 2000, .inl (iA w)))]) (ro_Q (some (.int (nI (nxt w a))))) 0 0 (fun _ => False) := by
  refine mt_ro (by decide) (Nat.le_of_ble_eq_true rfl) ?_
  intro p e s m args below meth c ls Q hx hb hr hml hw hown hlk hP hK hl hQ
  have hown : s.vm.findClass R_Mo = some m.cls := hown
  have hl : lv_has ls 2 [(0, .ref y), (1, .int (nI a))] := hl
  refine lv_aload_n hx hb d_Mo_behind_0 rfl (lv_at hl 0 rfl) ?_
  refine va_get (D := D) (ci := 2) (v := .ref yr) (C := R_Mo) (T := F_Mo) (N := 10) hx hb hw i_Mo hown hK.1 hP 0 rfl rfl 5 (by decide) (hw _ k_227) (fun _ h9 => h9) rfl d_Mo_behind_1 ?_
  refine lv_iload_n hx hb d_Mo_behind_4 rfl (lv_at hl 1 rfl) ?_
  refine ia_ld hx hb hK.1 hP 1 1 rfl rfl (by omega) (by decide) d_Mo_behind_5 ?_
  refine lv_iconst (v := nI 1) hx hb d_Mo_behind_6 (by decide +kernel) ?_
  refine n_icmp_ne (tgt := 16) hx hb d_Mo_behind_7 (by decide) (Nat.lt_trans (hw256 _) (by decide)) (by omega) (fun c_7 => ?_) (fun c_7 => ?_)
  · refine lv_iload_n hx hb d_Mo_behind_16 rfl (lv_at hl 1 rfl) ?_
    refine lv_iconst (v := nI 3) hx hb d_Mo_behind_17 (by decide +kernel) ?_
    refine n_iadd hx hb d_Mo_behind_18 ?_
    refine lv_aload_n hx hb d_Mo_behind_19 rfl (lv_at hl 0 rfl) ?_
    refine lv_iload_n hx hb d_Mo_behind_20 rfl (lv_at hl 1 rfl) ?_
    refine lv_iconst (v := nI 1) hx hb d_Mo_behind_21 (by decide +kernel) ?_
    refine n_iadd hx hb d_Mo_behind_22 ?_
    refine ro_V (As := [.int (nI (a + 1))]) (rest := [.int (nI (a + 3))]) ⟨hx, hb, hml, hown, hw⟩ (c_Mo_two l D cB cI cJ y yb yt yr yo yn th v1 v2 v3 v4 w (a + 1) (by omega)) g_Mo_45 hd_Mo_two rfl ⟨rfl, rfl⟩ ⟨by decide, by decide⟩ hP hK [0, 1] rfl 0 2 rfl rfl rfl hl.1 rfl (Nat.le_of_ble_eq_true rfl) ⟨Nat.zero_le _, Nat.zero_le _⟩ d_Mo_behind_23 ?_
    refine n_iadd hx hb d_Mo_behind_26 ?_
    exact ro_iret hx hb hr hlk (by unfold nxt mny; rw [if_neg c_7, if_neg c_7]) hQ d_Mo_behind_27
  · refine lv_iload_n hx hb d_Mo_behind_10 rfl (lv_at hl 1 rfl) ?_
    refine lv_iconst (v := nI 5) hx hb d_Mo_behind_11 (by decide +kernel) ?_
    refine n_iadd hx hb d_Mo_behind_12 ?_
    refine lv_goto (tgt := 27) hx hb d_Mo_behind_13 (by decide) ?_
    exact ro_iret hx hb hr hlk (by unfold nxt; rw [if_pos c_7]) hQ d_Mo_behind_27
set_option maxHeartbeats 4000000 in
set_option maxRecDepth 100000 in
theorem c_Mo_thrown (l : Launch) (D : va_G) (cB cI cJ : ClassId) (y yb yt yr yo yn : Nat) (th v1 v2 v3 v4 : Int32) : Met l y_Mo_thrown (Wd y_Mo_thrown b_Mo_thrown 1 (some .int)) ({ frames := 0, cells := 0, slots := 0, locals := 0 }) (ro_P D cB cI cJ [.ref y] [(y, .inr (2, [.int th, .ref yb, .int v1, .ref yt, .int v2, .ref yr, .int v3, .ref yo, .int v4, .ref yn]))]) (ro_Q (some (.int th))) 0 0 (fun _ => False) := by
  refine mt_ro (by decide) (Nat.le_of_ble_eq_true rfl) ?_
  intro p e s m args below meth c ls Q hx hb hr hml hw hown hlk hP hK hl hQ
  have hown : s.vm.findClass R_Mo = some m.cls := hown
  have hl : lv_has ls 1 [(0, .ref y)] := hl
  refine lv_aload_n hx hb d_Mo_thrown_0 rfl (lv_at hl 0 rfl) ?_
  refine va_get (D := D) (ci := 2) (v := .int th) (C := R_Mo) (T := F_Mo) (N := 10) hx hb hw i_Mo hown hK.1 hP 0 rfl rfl 0 (by decide) (hw _ k_222) (fun _ h9 => h9) rfl d_Mo_thrown_1 ?_
  exact ro_iret hx hb hr hlk rfl hQ d_Mo_thrown_4
set_option maxHeartbeats 4000000 in
set_option maxRecDepth 100000 in
theorem c_Mo_clearT (l : Launch) (D : va_G) (cB cI cJ : ClassId) (y yb yt yr yo yn : Nat) (th v1 v2 v3 v4 : Int32) : Met l y_Mo_clear (Wd y_Mo_clear b_Mo_clear 2 none) ({ frames := 0, cells := 0, slots := 0, locals := 0 }) (ip_P D cB cI cJ [.ref y, .int (nI 1)] [(y, .inr (2, [.int th, .ref yb, .int v1, .ref yt, .int v2, .ref yr, .int v3, .ref yo, .int v4, .ref yn]))]) (ip_Q D [(y, .inr (2, [.int th, .ref yb, .int v1, .ref yt, .int v2, .ref yr, .int v3, .ref yo, .int v4, .ref yn]))] (fun _ : Unit => True) (fun _ : Unit => none) (fun _ : Unit => [(y, .inr (2, [.int (nI 0), .ref yb, .int v1, .ref yt, .int (nI 0), .ref yr, .int v3, .ref yo, .int v4, .ref yn]))])) 0 0 (inW [(y, .inr (2, [.int th, .ref yb, .int v1, .ref yt, .int v2, .ref yr, .int v3, .ref yo, .int v4, .ref yn]))]) := by
  refine mt_ip (by decide) (Nat.le_of_ble_eq_true rfl) ?_
  intro p e s m args below meth c ls Q A hx hb hr hml hw hown hlk hP hK hD hS hl hAe hQ
  have hown : s.vm.findClass R_Mo = some m.cls := hown
  have hl : lv_has ls 2 [(0, .ref y), (1, .int (nI 1))] := hl
  refine lv_aload_n hx hb d_Mo_clear_0 rfl (lv_at hl 0 rfl) ?_
  refine lv_iconst (v := nI 0) hx hb d_Mo_clear_1 (by decide +kernel) ?_
  refine va_put (D := D) (ci := 2) (v := .int (nI 0)) (ty := .int) (C := R_Mo) (T := F_Mo) (N := 10) hx hb hw i_Mo t_Mo t_Mo_ok n_Mo hown hK.1 hP hD hS 0 rfl rfl 0 (by decide) (hw _ k_222) (fun _ h9 => h9) rfl (by decide +kernel) rfl rfl (Nat.le_of_ble_eq_true rfl) d_Mo_clear_2 (fun H locs hP hD hS => ?_)
  have hP : va_P D classes [(y, .inr (2, [.int (nI 0), .ref yb, .int v1, .ref yt, .int v2, .ref yr, .int v3, .ref yo, .int v4, .ref yn]))] H := hP
  have hD : va_D A [(y, .inr (2, [.int (nI 0), .ref yb, .int v1, .ref yt, .int v2, .ref yr, .int v3, .ref yo, .int v4, .ref yn]))] := hD
  refine lv_iload_n hx hb d_Mo_clear_5 rfl (lv_at hl 1 rfl) ?_
  refine n_if_eq (tgt := 17) hx hb d_Mo_clear_6 (by decide) (by omega) (fun c_6 => ?_) (fun c_6 => ?_)
  · exfalso; omega
  · refine lv_aload_n hx hb d_Mo_clear_9 rfl (lv_at hl 0 rfl) ?_
    refine lv_iconst (v := nI 0) hx hb d_Mo_clear_10 (by decide +kernel) ?_
    refine va_put (D := D) (ci := 2) (v := .int (nI 0)) (ty := .int) (C := R_Mo) (T := F_Mo) (N := 10) hx hb hw i_Mo t_Mo t_Mo_ok n_Mo hown hK.1 hP hD hS 0 rfl rfl 4 (by decide) (hw _ k_226) (fun _ h9 => h9) rfl (by decide +kernel) rfl rfl (Nat.le_of_ble_eq_true rfl) d_Mo_clear_11 (fun H locs hP hD hS => ?_)
    have hP : va_P D classes [(y, .inr (2, [.int (nI 0), .ref yb, .int v1, .ref yt, .int (nI 0), .ref yr, .int v3, .ref yo, .int v4, .ref yn]))] H := hP
    have hD : va_D A [(y, .inr (2, [.int (nI 0), .ref yb, .int v1, .ref yt, .int (nI 0), .ref yr, .int v3, .ref yo, .int v4, .ref yn]))] := hD
    refine lv_goto (tgt := 22) hx hb d_Mo_clear_14 (by decide) ?_
    exact ip_vret hx hb hr hlk hAe hS () rfl trivial hP hQ d_Mo_clear_22
set_option maxHeartbeats 4000000 in
set_option maxRecDepth 100000 in
theorem c_Mo_clearB (l : Launch) (D : va_G) (cB cI cJ : ClassId) (y yb yt yr yo yn : Nat) (th v1 v2 v3 v4 : Int32) : Met l y_Mo_clear (Wd y_Mo_clear b_Mo_clear 2 none) ({ frames := 0, cells := 0, slots := 0, locals := 0 }) (ip_P D cB cI cJ [.ref y, .int (nI 0)] [(y, .inr (2, [.int th, .ref yb, .int v1, .ref yt, .int v2, .ref yr, .int v3, .ref yo, .int v4, .ref yn]))]) (ip_Q D [(y, .inr (2, [.int th, .ref yb, .int v1, .ref yt, .int v2, .ref yr, .int v3, .ref yo, .int v4, .ref yn]))] (fun _ : Unit => True) (fun _ : Unit => none) (fun _ : Unit => [(y, .inr (2, [.int (nI 0), .ref yb, .int (nI 0), .ref yt, .int v2, .ref yr, .int v3, .ref yo, .int v4, .ref yn]))])) 0 0 (inW [(y, .inr (2, [.int th, .ref yb, .int v1, .ref yt, .int v2, .ref yr, .int v3, .ref yo, .int v4, .ref yn]))]) := by
  refine mt_ip (by decide) (Nat.le_of_ble_eq_true rfl) ?_
  intro p e s m args below meth c ls Q A hx hb hr hml hw hown hlk hP hK hD hS hl hAe hQ
  have hown : s.vm.findClass R_Mo = some m.cls := hown
  have hl : lv_has ls 2 [(0, .ref y), (1, .int (nI 0))] := hl
  refine lv_aload_n hx hb d_Mo_clear_0 rfl (lv_at hl 0 rfl) ?_
  refine lv_iconst (v := nI 0) hx hb d_Mo_clear_1 (by decide +kernel) ?_
  refine va_put (D := D) (ci := 2) (v := .int (nI 0)) (ty := .int) (C := R_Mo) (T := F_Mo) (N := 10) hx hb hw i_Mo t_Mo t_Mo_ok n_Mo hown hK.1 hP hD hS 0 rfl rfl 0 (by decide) (hw _ k_222) (fun _ h9 => h9) rfl (by decide +kernel) rfl rfl (Nat.le_of_ble_eq_true rfl) d_Mo_clear_2 (fun H locs hP hD hS => ?_)
  have hP : va_P D classes [(y, .inr (2, [.int (nI 0), .ref yb, .int v1, .ref yt, .int v2, .ref yr, .int v3, .ref yo, .int v4, .ref yn]))] H := hP
  have hD : va_D A [(y, .inr (2, [.int (nI 0), .ref yb, .int v1, .ref yt, .int v2, .ref yr, .int v3, .ref yo, .int v4, .ref yn]))] := hD
  refine lv_iload_n hx hb d_Mo_clear_5 rfl (lv_at hl 1 rfl) ?_
  refine n_if_eq (tgt := 17) hx hb d_Mo_clear_6 (by decide) (by omega) (fun c_6 => ?_) (fun c_6 => ?_)
  · refine lv_aload_n hx hb d_Mo_clear_17 rfl (lv_at hl 0 rfl) ?_
    refine lv_iconst (v := nI 0) hx hb d_Mo_clear_18 (by decide +kernel) ?_
    refine va_put (D := D) (ci := 2) (v := .int (nI 0)) (ty := .int) (C := R_Mo) (T := F_Mo) (N := 10) hx hb hw i_Mo t_Mo t_Mo_ok n_Mo hown hK.1 hP hD hS 0 rfl rfl 2 (by decide) (hw _ k_224) (fun _ h9 => h9) rfl (by decide +kernel) rfl rfl (Nat.le_of_ble_eq_true rfl) d_Mo_clear_19 (fun H locs hP hD hS => ?_)
    have hP : va_P D classes [(y, .inr (2, [.int (nI 0), .ref yb, .int (nI 0), .ref yt, .int v2, .ref yr, .int v3, .ref yo, .int v4, .ref yn]))] H := hP
    have hD : va_D A [(y, .inr (2, [.int (nI 0), .ref yb, .int (nI 0), .ref yt, .int v2, .ref yr, .int v3, .ref yo, .int v4, .ref yn]))] := hD
    exact ip_vret hx hb hr hlk hAe hS () rfl trivial hP hQ d_Mo_clear_22
  · exfalso; omega
set_option maxHeartbeats 4000000 in
set_option maxRecDepth 100000 in
theorem c_Mo_size (l : Launch) (D : va_G) (cB cI cJ : ClassId) (y yb yt yr yo yn : Nat) (th v1 v2 v3 v4 : Int32) : Met l y_Mo_size (Wd y_Mo_size b_Mo_size 1 (some .int)) ({ frames := 0, cells := 0, slots := 0, locals := 0 }) (ip_P D cB cI cJ [.ref y] [(y, .inr (2, [.int th, .ref yb, .int v1, .ref yt, .int v2, .ref yr, .int v3, .ref yo, .int v4, .ref yn]))]) (ip_Q D [(y, .inr (2, [.int th, .ref yb, .int v1, .ref yt, .int v2, .ref yr, .int v3, .ref yo, .int v4, .ref yn]))] (fun _ : Unit => True) (fun _ : Unit => some (.int v3)) (fun _ : Unit => [(y, .inr (2, [.int (nI 0), .ref yb, .int v1, .ref yt, .int v2, .ref yr, .int v3, .ref yo, .int v4, .ref yn]))])) 0 0 (inW [(y, .inr (2, [.int th, .ref yb, .int v1, .ref yt, .int v2, .ref yr, .int v3, .ref yo, .int v4, .ref yn]))]) := by
  refine mt_ip (by decide) (Nat.le_of_ble_eq_true rfl) ?_
  intro p e s m args below meth c ls Q A hx hb hr hml hw hown hlk hP hK hD hS hl hAe hQ
  have hown : s.vm.findClass R_Mo = some m.cls := hown
  have hl : lv_has ls 1 [(0, .ref y)] := hl
  refine lv_aload_n hx hb d_Mo_size_0 rfl (lv_at hl 0 rfl) ?_
  refine lv_iconst (v := nI 0) hx hb d_Mo_size_1 (by decide +kernel) ?_
  refine va_put (D := D) (ci := 2) (v := .int (nI 0)) (ty := .int) (C := R_Mo) (T := F_Mo) (N := 10) hx hb hw i_Mo t_Mo t_Mo_ok n_Mo hown hK.1 hP hD hS 0 rfl rfl 0 (by decide) (hw _ k_222) (fun _ h9 => h9) rfl (by decide +kernel) rfl rfl (Nat.le_of_ble_eq_true rfl) d_Mo_size_2 (fun H locs hP hD hS => ?_)
  have hP : va_P D classes [(y, .inr (2, [.int (nI 0), .ref yb, .int v1, .ref yt, .int v2, .ref yr, .int v3, .ref yo, .int v4, .ref yn]))] H := hP
  have hD : va_D A [(y, .inr (2, [.int (nI 0), .ref yb, .int v1, .ref yt, .int v2, .ref yr, .int v3, .ref yo, .int v4, .ref yn]))] := hD
  refine lv_aload_n hx hb d_Mo_size_5 rfl (lv_at hl 0 rfl) ?_
  refine va_get (D := D) (ci := 2) (v := .int v3) (C := R_Mo) (T := F_Mo) (N := 10) hx hb hw i_Mo hown hK.1 hP 0 rfl rfl 6 (by decide) (hw _ k_228) (fun _ h9 => h9) rfl d_Mo_size_6 ?_
  exact ip_iret hx hb hr hlk hAe hS () rfl trivial hP hQ d_Mo_size_9
set_option maxHeartbeats 4000000 in
set_option maxRecDepth 100000 in
theorem c_Mo_way (l : Launch) (D : va_G) (cB cI cJ : ClassId) (y yb yt yr yo yn : Nat) (th v1 v2 v4 : Int32) (w : Nat → Nat) (n : Nat) (hn : n ≤ 2000) (i : Int32) : Met l y_Mo_way (Wd y_Mo_way b_Mo_way 2 (some .int)) ({ frames := 0, cells := 0, slots := 0, locals := 0 }) (ip_P D cB cI cJ [.ref y, .int i] [(y, .inr (2, [.int th, .ref yb, .int v1, .ref yt, .int v2, .ref yr, .int (nI n), .ref yo, .int v4, .ref yn])), (yr, .inl (cI, 2000, .inl (iA w)))]) (ip_Q D [(y, .inr (2, [.int th, .ref yb, .int v1, .ref yt, .int v2, .ref yr, .int (nI n), .ref yo, .int v4, .ref yn])), (yr, .inl (cI, 2000, .inl (iA w)))] (fun _ : Unit => True) (fun _ : Unit => some (.int (ixV w n i))) (fun _ : Unit => [(y, .inr (2, [.int (nI 0), .ref yb, .int v1, .ref yt, .int v2, .ref yr, .int (nI n), .ref yo, .int v4, .ref yn])), (yr, .inl (cI, 2000, .inl (iA w)))])) 0 0 (inW [(y, .inr (2, [.int th, .ref yb, .int v1, .ref yt, .int v2, .ref yr, .int (nI n), .ref yo, .int v4, .ref yn])), (yr, .inl (cI, 2000, .inl (iA w)))]) := by
  refine mt_ip (by decide) (Nat.le_of_ble_eq_true rfl) ?_
  intro p e s m args below meth c ls Q A hx hb hr hml hw hown hlk hP hK hD hS hl hAe hQ
  have hown : s.vm.findClass R_Mo = some m.cls := hown
  have hl : lv_has ls 2 [(0, .ref y), (1, .int i)] := hl
  refine lv_aload_n hx hb d_Mo_way_0 rfl (lv_at hl 0 rfl) ?_
  refine lv_iconst (v := nI 0) hx hb d_Mo_way_1 (by decide +kernel) ?_
  refine va_put (D := D) (ci := 2) (v := .int (nI 0)) (ty := .int) (C := R_Mo) (T := F_Mo) (N := 10) hx hb hw i_Mo t_Mo t_Mo_ok n_Mo hown hK.1 hP hD hS 0 rfl rfl 0 (by decide) (hw _ k_222) (fun _ h9 => h9) rfl (by decide +kernel) rfl rfl (Nat.le_of_ble_eq_true rfl) d_Mo_way_2 (fun H locs hP hD hS => ?_)
  have hP : va_P D classes [(y, .inr (2, [.int (nI 0), .ref yb, .int v1, .ref yt, .int v2, .ref yr, .int (nI n), .ref yo, .int v4, .ref yn])), (yr, .inl (cI, 2000, .inl (iA w)))] H := hP
  have hD : va_D A [(y, .inr (2, [.int (nI 0), .ref yb, .int v1, .ref yt, .int v2, .ref yr, .int (nI n), .ref yo, .int v4, .ref yn])), (yr, .inl (cI, 2000, .inl (iA w)))] := hD
  refine lv_iload_n hx hb d_Mo_way_5 rfl (lv_at hl 1 rfl) ?_
  refine lv_if_lt (tgt := 17) hx hb d_Mo_way_6 (by decide) (fun c_6 => ?_) (fun c_6 => ?_)
  · refine lv_iconst (v := -1) hx hb d_Mo_way_17 (by decide +kernel) ?_
    refine lv_goto (tgt := 27) hx hb d_Mo_way_18 (by decide) ?_
    exact ip_iret hx hb hr hlk hAe hS () (by rw [ixV_neg (by left; exact c_6)]) trivial hP hQ d_Mo_way_27
  · refine lv_iload_n hx hb d_Mo_way_9 rfl (lv_at hl 1 rfl) ?_
    refine lv_aload_n hx hb d_Mo_way_10 rfl (lv_at hl 0 rfl) ?_
    refine va_get (D := D) (ci := 2) (v := .int (nI n)) (C := R_Mo) (T := F_Mo) (N := 10) hx hb hw i_Mo hown hK.1 hP 0 rfl rfl 6 (by decide) (hw _ k_228) (fun _ h9 => h9) rfl d_Mo_way_11 ?_
    refine lv_icmp_lt (tgt := 21) hx hb d_Mo_way_14 (by decide) (fun c_14 => ?_) (fun c_14 => ?_)
    · obtain ⟨j, hj, rfl⟩ : ∃ j : Nat, j < n ∧ i = nI j := by
        obtain ⟨j, hj, e⟩ := nI_of c_6
        rw [e] at c_14
        exact ⟨j, (nI_ltI hj (by omega)).mp c_14, e⟩
      refine lv_aload_n hx hb d_Mo_way_21 rfl (lv_at hl 0 rfl) ?_
      refine va_get (D := D) (ci := 2) (v := .ref yr) (C := R_Mo) (T := F_Mo) (N := 10) hx hb hw i_Mo hown hK.1 hP 0 rfl rfl 5 (by decide) (hw _ k_227) (fun _ h9 => h9) rfl d_Mo_way_22 ?_
      refine lv_iload_n hx hb d_Mo_way_25 rfl (lv_at hl 1 rfl) ?_
      refine ia_ld hx hb hK.1 hP 1 1 rfl rfl (by omega) (by decide) d_Mo_way_26 ?_
      exact ip_iret hx hb hr hlk hAe hS () (by rw [ixV_in (by omega) hj]) trivial hP hQ d_Mo_way_27
    · refine lv_iconst (v := -1) hx hb d_Mo_way_17 (by decide +kernel) ?_
      refine lv_goto (tgt := 27) hx hb d_Mo_way_18 (by decide) ?_
      exact ip_iret hx hb hr hlk hAe hS () (by rw [ixV_neg (by right; exact nlt_le c_14)]) trivial hP hQ d_Mo_way_27
set_option maxHeartbeats 4000000 in
set_option maxRecDepth 100000 in
theorem c_Mo_result (l : Launch) (D : va_G) (cB cI cJ : ClassId) (y yb yt yr yo yn : Nat) (th v1 v2 v3 : Int32) (w : Nat → Nat) (n : Nat) (hn : n ≤ 600) (i : Int32) : Met l y_Mo_result (Wd y_Mo_result b_Mo_result 2 (some .int)) ({ frames := 0, cells := 0, slots := 0, locals := 0 }) (ip_P D cB cI cJ [.ref y, .int i] [(y, .inr (2, [.int th, .ref yb, .int v1, .ref yt, .int v2, .ref yr, .int v3, .ref yo, .int (nI n), .ref yn])), (yo, .inl (cI, 600, .inl (iA w)))]) (ip_Q D [(y, .inr (2, [.int th, .ref yb, .int v1, .ref yt, .int v2, .ref yr, .int v3, .ref yo, .int (nI n), .ref yn])), (yo, .inl (cI, 600, .inl (iA w)))] (fun _ : Unit => True) (fun _ : Unit => some (.int (ixV w n i))) (fun _ : Unit => [(y, .inr (2, [.int (nI 0), .ref yb, .int v1, .ref yt, .int v2, .ref yr, .int v3, .ref yo, .int (nI n), .ref yn])), (yo, .inl (cI, 600, .inl (iA w)))])) 0 0 (inW [(y, .inr (2, [.int th, .ref yb, .int v1, .ref yt, .int v2, .ref yr, .int v3, .ref yo, .int (nI n), .ref yn])), (yo, .inl (cI, 600, .inl (iA w)))]) := by
  refine mt_ip (by decide) (Nat.le_of_ble_eq_true rfl) ?_
  intro p e s m args below meth c ls Q A hx hb hr hml hw hown hlk hP hK hD hS hl hAe hQ
  have hown : s.vm.findClass R_Mo = some m.cls := hown
  have hl : lv_has ls 2 [(0, .ref y), (1, .int i)] := hl
  refine lv_aload_n hx hb d_Mo_result_0 rfl (lv_at hl 0 rfl) ?_
  refine lv_iconst (v := nI 0) hx hb d_Mo_result_1 (by decide +kernel) ?_
  refine va_put (D := D) (ci := 2) (v := .int (nI 0)) (ty := .int) (C := R_Mo) (T := F_Mo) (N := 10) hx hb hw i_Mo t_Mo t_Mo_ok n_Mo hown hK.1 hP hD hS 0 rfl rfl 0 (by decide) (hw _ k_222) (fun _ h9 => h9) rfl (by decide +kernel) rfl rfl (Nat.le_of_ble_eq_true rfl) d_Mo_result_2 (fun H locs hP hD hS => ?_)
  have hP : va_P D classes [(y, .inr (2, [.int (nI 0), .ref yb, .int v1, .ref yt, .int v2, .ref yr, .int v3, .ref yo, .int (nI n), .ref yn])), (yo, .inl (cI, 600, .inl (iA w)))] H := hP
  have hD : va_D A [(y, .inr (2, [.int (nI 0), .ref yb, .int v1, .ref yt, .int v2, .ref yr, .int v3, .ref yo, .int (nI n), .ref yn])), (yo, .inl (cI, 600, .inl (iA w)))] := hD
  refine lv_iload_n hx hb d_Mo_result_5 rfl (lv_at hl 1 rfl) ?_
  refine lv_if_lt (tgt := 17) hx hb d_Mo_result_6 (by decide) (fun c_6 => ?_) (fun c_6 => ?_)
  · refine lv_iconst (v := -1) hx hb d_Mo_result_17 (by decide +kernel) ?_
    refine lv_goto (tgt := 27) hx hb d_Mo_result_18 (by decide) ?_
    exact ip_iret hx hb hr hlk hAe hS () (by rw [ixV_neg (by left; exact c_6)]) trivial hP hQ d_Mo_result_27
  · refine lv_iload_n hx hb d_Mo_result_9 rfl (lv_at hl 1 rfl) ?_
    refine lv_aload_n hx hb d_Mo_result_10 rfl (lv_at hl 0 rfl) ?_
    refine va_get (D := D) (ci := 2) (v := .int (nI n)) (C := R_Mo) (T := F_Mo) (N := 10) hx hb hw i_Mo hown hK.1 hP 0 rfl rfl 8 (by decide) (hw _ k_230) (fun _ h9 => h9) rfl d_Mo_result_11 ?_
    refine lv_icmp_lt (tgt := 21) hx hb d_Mo_result_14 (by decide) (fun c_14 => ?_) (fun c_14 => ?_)
    · obtain ⟨j, hj, rfl⟩ : ∃ j : Nat, j < n ∧ i = nI j := by
        obtain ⟨j, hj, e⟩ := nI_of c_6
        rw [e] at c_14
        exact ⟨j, (nI_ltI hj (by omega)).mp c_14, e⟩
      refine lv_aload_n hx hb d_Mo_result_21 rfl (lv_at hl 0 rfl) ?_
      refine va_get (D := D) (ci := 2) (v := .ref yo) (C := R_Mo) (T := F_Mo) (N := 10) hx hb hw i_Mo hown hK.1 hP 0 rfl rfl 7 (by decide) (hw _ k_229) (fun _ h9 => h9) rfl d_Mo_result_22 ?_
      refine lv_iload_n hx hb d_Mo_result_25 rfl (lv_at hl 1 rfl) ?_
      refine ia_ld hx hb hK.1 hP 1 1 rfl rfl (by omega) (by decide) d_Mo_result_26 ?_
      exact ip_iret hx hb hr hlk hAe hS () (by rw [ixV_in (by omega) hj]) trivial hP hQ d_Mo_result_27
    · refine lv_iconst (v := -1) hx hb d_Mo_result_17 (by decide +kernel) ?_
      refine lv_goto (tgt := 27) hx hb d_Mo_result_18 (by decide) ?_
      exact ip_iret hx hb hr hlk hAe hS () (by rw [ixV_neg (by right; exact nlt_le c_14)]) trivial hP hQ d_Mo_result_27
set_option maxHeartbeats 4000000 in
set_option maxRecDepth 100000 in
theorem c_Mo_count (l : Launch) (D : va_G) (cB cI cJ : ClassId) (y yb yt yr yo yn : Nat) (th v1 v2 v3 v4 : Int32) (i : Int32) : Met l y_Mo_count (Wd y_Mo_count b_Mo_count 2 (some .int)) ({ frames := 0, cells := 0, slots := 0, locals := 0 }) (ip_P D cB cI cJ [.ref y, .int i] [(y, .inr (2, [.int th, .ref yb, .int v1, .ref yt, .int v2, .ref yr, .int v3, .ref yo, .int v4, .ref yn]))]) (ip_Q D [(y, .inr (2, [.int th, .ref yb, .int v1, .ref yt, .int v2, .ref yr, .int v3, .ref yo, .int v4, .ref yn]))] (fun _ : Unit => True) (fun _ : Unit => some (.int (cnV v1 v2 v4 i))) (fun _ : Unit => [(y, .inr (2, [.int (nI 0), .ref yb, .int v1, .ref yt, .int v2, .ref yr, .int v3, .ref yo, .int v4, .ref yn]))])) 0 0 (inW [(y, .inr (2, [.int th, .ref yb, .int v1, .ref yt, .int v2, .ref yr, .int v3, .ref yo, .int v4, .ref yn]))]) := by
  refine mt_ip (by decide) (Nat.le_of_ble_eq_true rfl) ?_
  intro p e s m args below meth c ls Q A hx hb hr hml hw hown hlk hP hK hD hS hl hAe hQ
  have hown : s.vm.findClass R_Mo = some m.cls := hown
  have hl : lv_has ls 2 [(0, .ref y), (1, .int i)] := hl
  refine lv_aload_n hx hb d_Mo_count_0 rfl (lv_at hl 0 rfl) ?_
  refine lv_iconst (v := nI 0) hx hb d_Mo_count_1 (by decide +kernel) ?_
  refine va_put (D := D) (ci := 2) (v := .int (nI 0)) (ty := .int) (C := R_Mo) (T := F_Mo) (N := 10) hx hb hw i_Mo t_Mo t_Mo_ok n_Mo hown hK.1 hP hD hS 0 rfl rfl 0 (by decide) (hw _ k_222) (fun _ h9 => h9) rfl (by decide +kernel) rfl rfl (Nat.le_of_ble_eq_true rfl) d_Mo_count_2 (fun H locs hP hD hS => ?_)
  have hP : va_P D classes [(y, .inr (2, [.int (nI 0), .ref yb, .int v1, .ref yt, .int v2, .ref yr, .int v3, .ref yo, .int v4, .ref yn]))] H := hP
  have hD : va_D A [(y, .inr (2, [.int (nI 0), .ref yb, .int v1, .ref yt, .int v2, .ref yr, .int v3, .ref yo, .int v4, .ref yn]))] := hD
  refine lv_iload_n hx hb d_Mo_count_5 rfl (lv_at hl 1 rfl) ?_
  refine lv_if_ne (tgt := 16) hx hb d_Mo_count_6 (by decide) (fun c_6 => ?_) (fun c_6 => ?_)
  · refine lv_iload_n hx hb d_Mo_count_16 rfl (lv_at hl 1 rfl) ?_
    refine lv_iconst (v := nI 1) hx hb d_Mo_count_17 (by decide +kernel) ?_
    refine lv_icmp_ne (tgt := 28) hx hb d_Mo_count_18 (by decide) (fun c_18 => ?_) (fun c_18 => ?_)
    · refine lv_iload_n hx hb d_Mo_count_28 rfl (lv_at hl 1 rfl) ?_
      refine lv_iconst (v := nI 2) hx hb d_Mo_count_29 (by decide +kernel) ?_
      refine lv_icmp_ne (tgt := 40) hx hb d_Mo_count_30 (by decide) (fun c_30 => ?_) (fun c_30 => ?_)
      · refine lv_iconst (v := -1) hx hb d_Mo_count_40 (by decide +kernel) ?_
        exact ip_iret hx hb hr hlk hAe hS () (by unfold cnV; rw [if_neg c_6, if_neg c_18, if_neg c_30]) trivial hP hQ d_Mo_count_41
      · refine lv_aload_n hx hb d_Mo_count_33 rfl (lv_at hl 0 rfl) ?_
        refine va_get (D := D) (ci := 2) (v := .int v4) (C := R_Mo) (T := F_Mo) (N := 10) hx hb hw i_Mo hown hK.1 hP 0 rfl rfl 8 (by decide) (hw _ k_230) (fun _ h9 => h9) rfl d_Mo_count_34 ?_
        refine lv_goto (tgt := 41) hx hb d_Mo_count_37 (by decide) ?_
        exact ip_iret hx hb hr hlk hAe hS () (by unfold cnV; rw [if_neg c_6, if_neg c_18, if_pos c_30]) trivial hP hQ d_Mo_count_41
    · refine lv_aload_n hx hb d_Mo_count_21 rfl (lv_at hl 0 rfl) ?_
      refine va_get (D := D) (ci := 2) (v := .int v2) (C := R_Mo) (T := F_Mo) (N := 10) hx hb hw i_Mo hown hK.1 hP 0 rfl rfl 4 (by decide) (hw _ k_226) (fun _ h9 => h9) rfl d_Mo_count_22 ?_
      refine lv_goto (tgt := 41) hx hb d_Mo_count_25 (by decide) ?_
      exact ip_iret hx hb hr hlk hAe hS () (by unfold cnV; rw [if_neg c_6, if_pos c_18]) trivial hP hQ d_Mo_count_41
  · refine lv_aload_n hx hb d_Mo_count_9 rfl (lv_at hl 0 rfl) ?_
    refine va_get (D := D) (ci := 2) (v := .int v1) (C := R_Mo) (T := F_Mo) (N := 10) hx hb hw i_Mo hown hK.1 hP 0 rfl rfl 2 (by decide) (hw _ k_224) (fun _ h9 => h9) rfl d_Mo_count_10 ?_
    refine lv_goto (tgt := 41) hx hb d_Mo_count_13 (by decide) ?_
    exact ip_iret hx hb hr hlk hAe hS () (by unfold cnV; rw [if_pos c_6]) trivial hP hQ d_Mo_count_41
set_option maxHeartbeats 4000000 in
set_option maxRecDepth 100000 in
theorem c_Mo_putTbad (l : Launch) (D : va_G) (cB cI cJ : ClassId) (y yb yt yr yo yn : Nat) (th v1 v3 v4 : Int32) (had : Nat) (hh : had ≤ 600) (v : Int64) (n : Int32) (hbad : badN n had) : Met l y_Mo_put (Wd y_Mo_put b_Mo_put 8 (some .boolean)) ({ frames := 0, cells := 0, slots := 0, locals := 0 }) (ip_P D cB cI cJ [.ref y, .int (nI 1), .long v, .int n] [(y, .inr (2, [.int th, .ref yb, .int v1, .ref yt, .int (nI had), .ref yr, .int v3, .ref yo, .int v4, .ref yn]))]) (ip_Q D [(y, .inr (2, [.int th, .ref yb, .int v1, .ref yt, .int (nI had), .ref yr, .int v3, .ref yo, .int v4, .ref yn]))] (fun _ : Unit => True) (fun _ : Unit => some (.int (nI 0))) (fun _ : Unit => [(y, .inr (2, [.int (nI 0), .ref yb, .int v1, .ref yt, .int (nI had), .ref yr, .int v3, .ref yo, .int v4, .ref yn]))])) 0 0 (inW [(y, .inr (2, [.int th, .ref yb, .int v1, .ref yt, .int (nI had), .ref yr, .int v3, .ref yo, .int v4, .ref yn]))]) := by
  refine mt_ip (by decide) (Nat.le_of_ble_eq_true rfl) ?_
  intro p e s m args below meth c ls Q A hx hb hr hml hw hown hlk hP hK hD hS hl hAe hQ
  have hown : s.vm.findClass R_Mo = some m.cls := hown
  have hl : lv_has ls 8 [(0, .ref y), (1, .int (nI 1)), (2, .long v), (4, .int n)] := hl
  refine lv_aload_n hx hb d_Mo_put_0 rfl (lv_at hl 0 rfl) ?_
  refine lv_iconst (v := nI 0) hx hb d_Mo_put_1 (by decide +kernel) ?_
  refine va_put (D := D) (ci := 2) (v := .int (nI 0)) (ty := .int) (C := R_Mo) (T := F_Mo) (N := 10) hx hb hw i_Mo t_Mo t_Mo_ok n_Mo hown hK.1 hP hD hS 0 rfl rfl 0 (by decide) (hw _ k_222) (fun _ h9 => h9) rfl (by decide +kernel) rfl rfl (Nat.le_of_ble_eq_true rfl) d_Mo_put_2 (fun H locs hP hD hS => ?_)
  have hP : va_P D classes [(y, .inr (2, [.int (nI 0), .ref yb, .int v1, .ref yt, .int (nI had), .ref yr, .int v3, .ref yo, .int v4, .ref yn]))] H := hP
  have hD : va_D A [(y, .inr (2, [.int (nI 0), .ref yb, .int v1, .ref yt, .int (nI had), .ref yr, .int v3, .ref yo, .int v4, .ref yn]))] := hD
  refine lv_iload_n hx hb d_Mo_put_5 rfl (lv_at hl 1 rfl) ?_
  refine n_if_eq (tgt := 16) hx hb d_Mo_put_6 (by decide) (by omega) (fun c_6 => ?_) (fun c_6 => ?_)
  · exfalso; omega
  · refine lv_aload_n hx hb d_Mo_put_9 rfl (lv_at hl 0 rfl) ?_
    refine va_get (D := D) (ci := 2) (v := .int (nI had)) (C := R_Mo) (T := F_Mo) (N := 10) hx hb hw i_Mo hown hK.1 hP 0 rfl rfl 4 (by decide) (hw _ k_226) (fun _ h9 => h9) rfl d_Mo_put_10 ?_
    refine lv_goto (tgt := 20) hx hb d_Mo_put_13 (by decide) ?_
    refine lv_istore (lv' := [(5, .int (nI had)), (0, .ref y), (1, .int (nI 1)), (2, .long v), (4, .int n)]) hx hb d_Mo_put_20 hl (by decide) rfl (fun ls hl => ?_)
    refine lv_iload hx hb d_Mo_put_22 (lv_at hl 4 rfl) ?_
    refine lv_if_lt (tgt := 45) hx hb d_Mo_put_24 (by decide) (fun c_24 => ?_) (fun c_24 => ?_)
    · refine lv_iconst (v := nI 0) hx hb d_Mo_put_45 (by decide +kernel) ?_
      exact ip_zret hx hb hr hlk hAe hS rfl () rfl trivial hP hQ d_Mo_put_46
    · refine lv_iload hx hb d_Mo_put_27 (lv_at hl 4 rfl) ?_
      refine lv_bipush (v := nI 8) hx hb d_Mo_put_29 (by decide +kernel) ?_
      refine lv_icmp_gt (tgt := 45) hx hb d_Mo_put_31 (by decide) (fun c_31 => ?_) (fun c_31 => ?_)
      · refine lv_iconst (v := nI 0) hx hb d_Mo_put_45 (by decide +kernel) ?_
        exact ip_zret hx hb hr hlk hAe hS rfl () rfl trivial hP hQ d_Mo_put_46
      · obtain ⟨k, hk, rfl, hk6⟩ : ∃ k : Nat, k ≤ 8 ∧ n = nI k ∧ 600 < had + k := by
          rcases hbad with h | h | h
          · exact absurd h c_24
          · exact absurd h c_31
          · exact h
        refine lv_iload hx hb d_Mo_put_34 (lv_at hl 0 rfl) ?_
        refine lv_iload hx hb d_Mo_put_36 (lv_at hl 4 rfl) ?_
        refine n_iadd hx hb d_Mo_put_38 ?_
        refine lv_sipush (v := nI 600) hx hb d_Mo_put_39 (by decide +kernel) ?_
        refine n_icmp_le (tgt := 47) hx hb d_Mo_put_42 (by decide) (by omega) (by omega) (fun c_42 => ?_) (fun c_42 => ?_)
        · exfalso; omega
        · refine lv_iconst (v := nI 0) hx hb d_Mo_put_45 (by decide +kernel) ?_
          exact ip_zret hx hb hr hlk hAe hS rfl () rfl trivial hP hQ d_Mo_put_46
set_option maxHeartbeats 4000000 in
set_option maxRecDepth 100000 in
theorem c_Mo_putT (l : Launch) (D : va_G) (cB cI cJ : ClassId) (y yb yt yr yo yn : Nat) (th v1 v3 v4 : Int32) (had : Nat) (g : Nat → Nat) (v : Int64) (k : Nat) (hk : k ≤ 8) (hh : had + k ≤ 600) : Met l y_Mo_put (Wd y_Mo_put b_Mo_put 8 (some .boolean)) ({ frames := 0, cells := 0, slots := 0, locals := 0 }) (ip_P D cB cI cJ [.ref y, .int (nI 1), .long v, .int (nI k)] [(y, .inr (2, [.int th, .ref yb, .int v1, .ref yt, .int (nI had), .ref yr, .int v3, .ref yo, .int v4, .ref yn])), (yt, .inl (cI, 600, .inl (iA g)))]) (ip_Q D [(y, .inr (2, [.int th, .ref yb, .int v1, .ref yt, .int (nI had), .ref yr, .int v3, .ref yo, .int v4, .ref yn])), (yt, .inl (cI, 600, .inl (iA g)))] (fun _ : Unit => True) (fun _ : Unit => some (.int (nI 1))) (fun _ : Unit => [(y, .inr (2, [.int (nI 0), .ref yb, .int v1, .ref yt, .int (nI (had + k)), .ref yr, .int v3, .ref yo, .int v4, .ref yn])), (yt, .inl (cI, 600, .inl (iA (spl g had (vbl v k k)))))])) 0 0 (inW [(y, .inr (2, [.int th, .ref yb, .int v1, .ref yt, .int (nI had), .ref yr, .int v3, .ref yo, .int v4, .ref yn])), (yt, .inl (cI, 600, .inl (iA g)))]) := by
  refine mt_ip (by decide) (Nat.le_of_ble_eq_true rfl) ?_
  intro p e s m args below meth c ls Q A hx hb hr hml hw hown hlk hP hK hD hS hl hAe hQ
  have hown : s.vm.findClass R_Mo = some m.cls := hown
  have hl : lv_has ls 8 [(0, .ref y), (1, .int (nI 1)), (2, .long v), (4, .int (nI k))] := hl
  have loop : ∀ (f j : Nat), j ≤ k → k < j + f → ∀ (H : Heap) (locs : List Loc), va_P D classes [(y, .inr (2, [.int (nI 0), .ref yb, .int v1, .ref yt, .int (nI (had + j)), .ref yr, .int v3, .ref yo, .int v4, .ref yn])), (yt, .inl (cI, 600, .inl (iA (spl g had (vbl v k j)))))] H → va_D A [(y, .inr (2, [.int (nI 0), .ref yb, .int v1, .ref yt, .int (nI (had + j)), .ref yr, .int v3, .ref yo, .int v4, .ref yn])), (yt, .inl (cI, 600, .inl (iA (spl g had (vbl v k j)))))] → va_S A s.heap H locs → ∀ ls : Array Slot, lv_has ls 8 [(6, .int (nI (k - j) - nI 1)), (5, .int (nI had)), (0, .ref y), (1, .int (nI 1)), (2, .long v), (4, .int (nI k))] → W p l e ({ frames := 0, cells := 0, slots := 0, locals := 0 }) s m args below meth c H locs 0 0 Q (F0 m 53 ls []) := by
    intro f
    induction f with
    | zero => intro j h1 h2; omega
    | succ f ih =>
      intro j h1 h2 H locs hP hD hS ls hl
      rcases Nat.eq_or_lt_of_le h1 with hjk | hjk
      · subst hjk
        rw [Nat.sub_self] at hl
        refine lv_iload hx hb d_Mo_put_53 (lv_at hl 0 rfl) ?_
        refine lv_if_lt (tgt := 127) hx hb d_Mo_put_55 (by decide) (fun c_55 => ?_) (fun c_55 => ?_)
        · refine lv_iconst (v := nI 1) hx hb d_Mo_put_127 (by decide +kernel) ?_
          exact ip_zret hx hb hr hlk hAe hS rfl () rfl trivial hP hQ d_Mo_put_128
        · exact absurd nI_m1lt c_55
      · rw [show nI (k - j) - nI 1 = nI (k - 1 - j) from by rw [pk_sub (by omega)]; congr 1; omega] at hl
        refine lv_iload hx hb d_Mo_put_53 (lv_at hl 0 rfl) ?_
        refine n_if_lt (tgt := 127) hx hb d_Mo_put_55 (by decide) (by omega) ?_
        refine lv_lload_n hx hb d_Mo_put_58 rfl (lv_at hl 4 rfl) ?_
        refine lv_bipush (v := nI 8) hx hb d_Mo_put_59 (by decide +kernel) ?_
        refine lv_iload hx hb d_Mo_put_61 (lv_at hl 0 rfl) ?_
        refine n_imul hx hb d_Mo_put_63 ?_
        refine lv_lshr hx hb d_Mo_put_64 rfl ?_
        refine lv_l2i hx hb d_Mo_put_65 rfl ?_
        refine lv_sipush (v := nI 255) hx hb d_Mo_put_66 (by decide +kernel) ?_
        refine lv_iand hx hb d_Mo_put_69 ?_
        refine tv_i (y := nI (vb v (k - 1 - j))) (pk_and _ 8 (by decide +kernel)) ?_
        refine lv_istore (lv' := [(7, .int (nI (vb v (k - 1 - j)))), (6, .int (nI (k - 1 - j))), (5, .int (nI had)), (0, .ref y), (1, .int (nI 1)), (2, .long v), (4, .int (nI k))]) hx hb d_Mo_put_70 hl (by decide) rfl (fun ls hl => ?_)
        refine lv_iload_n hx hb d_Mo_put_72 rfl (lv_at hl 4 rfl) ?_
        refine n_if_eq (tgt := 100) hx hb d_Mo_put_73 (by decide) (by omega) (fun c_73 => ?_) (fun c_73 => ?_)
        · exfalso; omega
        · refine lv_aload_n hx hb d_Mo_put_76 rfl (lv_at hl 3 rfl) ?_
          refine va_get (D := D) (ci := 2) (v := .ref yt) (C := R_Mo) (T := F_Mo) (N := 10) hx hb hw i_Mo hown hK.1 hP 0 rfl rfl 3 (by decide) (hw _ k_225) (fun _ h9 => h9) rfl d_Mo_put_77 ?_
          refine lv_aload_n hx hb d_Mo_put_80 rfl (lv_at hl 3 rfl) ?_
          refine va_get (D := D) (ci := 2) (v := .int (nI (had + j))) (C := R_Mo) (T := F_Mo) (N := 10) hx hb hw i_Mo hown hK.1 hP 0 rfl rfl 4 (by decide) (hw _ k_226) (fun _ h9 => h9) rfl d_Mo_put_81 ?_
          refine lv_iload hx hb d_Mo_put_84 (lv_at hl 0 rfl) ?_
          refine ia_st hx hb hK.1 hP hD hS 1 1 rfl rfl (by omega) (by decide) d_Mo_put_86 (fun H locs hP hD hS => ?_)
          rw [show va_up (spl g had (vbl v k j)) (had + j) (vb v (k - 1 - j)) = spl g had (vbl v k (j + 1)) from vbl_up g had v k j] at hP hD
          have hP : va_P D classes [(y, .inr (2, [.int (nI 0), .ref yb, .int v1, .ref yt, .int (nI (had + j)), .ref yr, .int v3, .ref yo, .int v4, .ref yn])), (yt, .inl (cI, 600, .inl (iA (spl g had (vbl v k (j + 1))))))] H := hP
          have hD : va_D A [(y, .inr (2, [.int (nI 0), .ref yb, .int v1, .ref yt, .int (nI (had + j)), .ref yr, .int v3, .ref yo, .int v4, .ref yn])), (yt, .inl (cI, 600, .inl (iA (spl g had (vbl v k (j + 1))))))] := hD
          refine lv_aload_n hx hb d_Mo_put_87 rfl (lv_at hl 3 rfl) ?_
          refine lv_dup hx hb d_Mo_put_88 rfl ?_
          refine va_get (D := D) (ci := 2) (v := .int (nI (had + j))) (C := R_Mo) (T := F_Mo) (N := 10) hx hb hw i_Mo hown hK.1 hP 0 rfl rfl 4 (by decide) (hw _ k_226) (fun _ h9 => h9) rfl d_Mo_put_89 ?_
          refine lv_iconst (v := nI 1) hx hb d_Mo_put_92 (by decide +kernel) ?_
          refine n_iadd hx hb d_Mo_put_93 ?_
          refine va_put (D := D) (ci := 2) (v := .int (nI ((had + j) + 1))) (ty := .int) (C := R_Mo) (T := F_Mo) (N := 10) hx hb hw i_Mo t_Mo t_Mo_ok n_Mo hown hK.1 hP hD hS 0 rfl rfl 4 (by decide) (hw _ k_226) (fun _ h9 => h9) rfl (by decide +kernel) rfl rfl (Nat.le_of_ble_eq_true rfl) d_Mo_put_94 (fun H locs hP hD hS => ?_)
          have hP : va_P D classes [(y, .inr (2, [.int (nI 0), .ref yb, .int v1, .ref yt, .int (nI ((had + j) + 1)), .ref yr, .int v3, .ref yo, .int v4, .ref yn])), (yt, .inl (cI, 600, .inl (iA (spl g had (vbl v k (j + 1))))))] H := hP
          have hD : va_D A [(y, .inr (2, [.int (nI 0), .ref yb, .int v1, .ref yt, .int (nI ((had + j) + 1)), .ref yr, .int v3, .ref yo, .int v4, .ref yn])), (yt, .inl (cI, 600, .inl (iA (spl g had (vbl v k (j + 1))))))] := hD
          refine lv_goto (tgt := 121) hx hb d_Mo_put_97 (by decide) ?_
          refine lv_iinc (v := nI (k - 1 - j) - nI 1) (lv' := [(6, .int (nI (k - 1 - j) - nI 1)), (7, .int (nI (vb v (k - 1 - j)))), (5, .int (nI had)), (0, .ref y), (1, .int (nI 1)), (2, .long v), (4, .int (nI k))]) hx hb d_Mo_put_121 hl (k := 1) rfl (nI_dec1 _) (by decide) rfl (fun ls hl => ?_)
          refine lv_goto (tgt := 53) hx hb d_Mo_put_124 (by decide) ?_
          rw [show k - 1 - j = k - (j + 1) by omega] at hl
          exact ih (j + 1) (by omega) (by omega) H locs hP hD hS ls (lv_sub hl [0, 2, 3, 4, 5, 6] rfl)
  refine lv_aload_n hx hb d_Mo_put_0 rfl (lv_at hl 0 rfl) ?_
  refine lv_iconst (v := nI 0) hx hb d_Mo_put_1 (by decide +kernel) ?_
  refine va_put (D := D) (ci := 2) (v := .int (nI 0)) (ty := .int) (C := R_Mo) (T := F_Mo) (N := 10) hx hb hw i_Mo t_Mo t_Mo_ok n_Mo hown hK.1 hP hD hS 0 rfl rfl 0 (by decide) (hw _ k_222) (fun _ h9 => h9) rfl (by decide +kernel) rfl rfl (Nat.le_of_ble_eq_true rfl) d_Mo_put_2 (fun H locs hP hD hS => ?_)
  have hP : va_P D classes [(y, .inr (2, [.int (nI 0), .ref yb, .int v1, .ref yt, .int (nI had), .ref yr, .int v3, .ref yo, .int v4, .ref yn])), (yt, .inl (cI, 600, .inl (iA g)))] H := hP
  have hD : va_D A [(y, .inr (2, [.int (nI 0), .ref yb, .int v1, .ref yt, .int (nI had), .ref yr, .int v3, .ref yo, .int v4, .ref yn])), (yt, .inl (cI, 600, .inl (iA g)))] := hD
  refine lv_iload_n hx hb d_Mo_put_5 rfl (lv_at hl 1 rfl) ?_
  refine n_if_eq (tgt := 16) hx hb d_Mo_put_6 (by decide) (by omega) (fun c_6 => ?_) (fun c_6 => ?_)
  · exfalso; omega
  · refine lv_aload_n hx hb d_Mo_put_9 rfl (lv_at hl 0 rfl) ?_
    refine va_get (D := D) (ci := 2) (v := .int (nI had)) (C := R_Mo) (T := F_Mo) (N := 10) hx hb hw i_Mo hown hK.1 hP 0 rfl rfl 4 (by decide) (hw _ k_226) (fun _ h9 => h9) rfl d_Mo_put_10 ?_
    refine lv_goto (tgt := 20) hx hb d_Mo_put_13 (by decide) ?_
    refine lv_istore (lv' := [(5, .int (nI had)), (0, .ref y), (1, .int (nI 1)), (2, .long v), (4, .int (nI k))]) hx hb d_Mo_put_20 hl (by decide) rfl (fun ls hl => ?_)
    refine lv_iload hx hb d_Mo_put_22 (lv_at hl 4 rfl) ?_
    refine n_if_lt (tgt := 45) hx hb d_Mo_put_24 (by decide) (by omega) ?_
    refine lv_iload hx hb d_Mo_put_27 (lv_at hl 4 rfl) ?_
    refine lv_bipush (v := nI 8) hx hb d_Mo_put_29 (by decide +kernel) ?_
    refine n_icmp_gt (tgt := 45) hx hb d_Mo_put_31 (by decide) (by omega) (by omega) (fun c_31 => ?_) (fun c_31 => ?_)
    · exfalso; omega
    · refine lv_iload hx hb d_Mo_put_34 (lv_at hl 0 rfl) ?_
      refine lv_iload hx hb d_Mo_put_36 (lv_at hl 4 rfl) ?_
      refine n_iadd hx hb d_Mo_put_38 ?_
      refine lv_sipush (v := nI 600) hx hb d_Mo_put_39 (by decide +kernel) ?_
      refine n_icmp_le (tgt := 47) hx hb d_Mo_put_42 (by decide) (by omega) (by omega) (fun c_42 => ?_) (fun c_42 => ?_)
      · refine lv_iload hx hb d_Mo_put_47 (lv_at hl 4 rfl) ?_
        refine lv_iconst (v := nI 1) hx hb d_Mo_put_49 (by decide +kernel) ?_
        refine lv_isub hx hb d_Mo_put_50 ?_
        refine lv_istore (lv' := [(6, .int ((nI k) - (nI 1))), (5, .int (nI had)), (0, .ref y), (1, .int (nI 1)), (2, .long v), (4, .int (nI k))]) hx hb d_Mo_put_51 hl (by decide) rfl (fun ls hl => ?_)
        refine loop (k + 1) 0 (by omega) (by omega) H locs ?_ ?_ hS ls (lv_sub hl [0, 1, 2, 3, 4, 5] rfl)
        · show va_P D classes [(y, .inr (2, [.int (nI 0), .ref yb, .int v1, .ref yt, .int (nI had), .ref yr, .int v3, .ref yo, .int v4, .ref yn])), (yt, .inl (cI, 600, .inl (iA (spl g had []))))] H
          rw [spl_nil]; exact hP
        · show va_D A [(y, .inr (2, [.int (nI 0), .ref yb, .int v1, .ref yt, .int (nI had), .ref yr, .int v3, .ref yo, .int v4, .ref yn])), (yt, .inl (cI, 600, .inl (iA (spl g had []))))]
          rw [spl_nil]; exact hD
      · exfalso; omega
set_option maxHeartbeats 4000000 in
set_option maxRecDepth 100000 in
theorem c_Mo_putBbad (l : Launch) (D : va_G) (cB cI cJ : ClassId) (y yb yt yr yo yn : Nat) (th v2 v3 v4 : Int32) (had : Nat) (hh : had ≤ 600) (v : Int64) (n : Int32) (hbad : badN n had) : Met l y_Mo_put (Wd y_Mo_put b_Mo_put 8 (some .boolean)) ({ frames := 0, cells := 0, slots := 0, locals := 0 }) (ip_P D cB cI cJ [.ref y, .int (nI 0), .long v, .int n] [(y, .inr (2, [.int th, .ref yb, .int (nI had), .ref yt, .int v2, .ref yr, .int v3, .ref yo, .int v4, .ref yn]))]) (ip_Q D [(y, .inr (2, [.int th, .ref yb, .int (nI had), .ref yt, .int v2, .ref yr, .int v3, .ref yo, .int v4, .ref yn]))] (fun _ : Unit => True) (fun _ : Unit => some (.int (nI 0))) (fun _ : Unit => [(y, .inr (2, [.int (nI 0), .ref yb, .int (nI had), .ref yt, .int v2, .ref yr, .int v3, .ref yo, .int v4, .ref yn]))])) 0 0 (inW [(y, .inr (2, [.int th, .ref yb, .int (nI had), .ref yt, .int v2, .ref yr, .int v3, .ref yo, .int v4, .ref yn]))]) := by
  refine mt_ip (by decide) (Nat.le_of_ble_eq_true rfl) ?_
  intro p e s m args below meth c ls Q A hx hb hr hml hw hown hlk hP hK hD hS hl hAe hQ
  have hown : s.vm.findClass R_Mo = some m.cls := hown
  have hl : lv_has ls 8 [(0, .ref y), (1, .int (nI 0)), (2, .long v), (4, .int n)] := hl
  refine lv_aload_n hx hb d_Mo_put_0 rfl (lv_at hl 0 rfl) ?_
  refine lv_iconst (v := nI 0) hx hb d_Mo_put_1 (by decide +kernel) ?_
  refine va_put (D := D) (ci := 2) (v := .int (nI 0)) (ty := .int) (C := R_Mo) (T := F_Mo) (N := 10) hx hb hw i_Mo t_Mo t_Mo_ok n_Mo hown hK.1 hP hD hS 0 rfl rfl 0 (by decide) (hw _ k_222) (fun _ h9 => h9) rfl (by decide +kernel) rfl rfl (Nat.le_of_ble_eq_true rfl) d_Mo_put_2 (fun H locs hP hD hS => ?_)
  have hP : va_P D classes [(y, .inr (2, [.int (nI 0), .ref yb, .int (nI had), .ref yt, .int v2, .ref yr, .int v3, .ref yo, .int v4, .ref yn]))] H := hP
  have hD : va_D A [(y, .inr (2, [.int (nI 0), .ref yb, .int (nI had), .ref yt, .int v2, .ref yr, .int v3, .ref yo, .int v4, .ref yn]))] := hD
  refine lv_iload_n hx hb d_Mo_put_5 rfl (lv_at hl 1 rfl) ?_
  refine n_if_eq (tgt := 16) hx hb d_Mo_put_6 (by decide) (by omega) (fun c_6 => ?_) (fun c_6 => ?_)
  · refine lv_aload_n hx hb d_Mo_put_16 rfl (lv_at hl 0 rfl) ?_
    refine va_get (D := D) (ci := 2) (v := .int (nI had)) (C := R_Mo) (T := F_Mo) (N := 10) hx hb hw i_Mo hown hK.1 hP 0 rfl rfl 2 (by decide) (hw _ k_224) (fun _ h9 => h9) rfl d_Mo_put_17 ?_
    refine lv_istore (lv' := [(5, .int (nI had)), (0, .ref y), (1, .int (nI 0)), (2, .long v), (4, .int n)]) hx hb d_Mo_put_20 hl (by decide) rfl (fun ls hl => ?_)
    refine lv_iload hx hb d_Mo_put_22 (lv_at hl 4 rfl) ?_
    refine lv_if_lt (tgt := 45) hx hb d_Mo_put_24 (by decide) (fun c_24 => ?_) (fun c_24 => ?_)
    · refine lv_iconst (v := nI 0) hx hb d_Mo_put_45 (by decide +kernel) ?_
      exact ip_zret hx hb hr hlk hAe hS rfl () rfl trivial hP hQ d_Mo_put_46
    · refine lv_iload hx hb d_Mo_put_27 (lv_at hl 4 rfl) ?_
      refine lv_bipush (v := nI 8) hx hb d_Mo_put_29 (by decide +kernel) ?_
      refine lv_icmp_gt (tgt := 45) hx hb d_Mo_put_31 (by decide) (fun c_31 => ?_) (fun c_31 => ?_)
      · refine lv_iconst (v := nI 0) hx hb d_Mo_put_45 (by decide +kernel) ?_
        exact ip_zret hx hb hr hlk hAe hS rfl () rfl trivial hP hQ d_Mo_put_46
      · obtain ⟨k, hk, rfl, hk6⟩ : ∃ k : Nat, k ≤ 8 ∧ n = nI k ∧ 600 < had + k := by
          rcases hbad with h | h | h
          · exact absurd h c_24
          · exact absurd h c_31
          · exact h
        refine lv_iload hx hb d_Mo_put_34 (lv_at hl 0 rfl) ?_
        refine lv_iload hx hb d_Mo_put_36 (lv_at hl 4 rfl) ?_
        refine n_iadd hx hb d_Mo_put_38 ?_
        refine lv_sipush (v := nI 600) hx hb d_Mo_put_39 (by decide +kernel) ?_
        refine n_icmp_le (tgt := 47) hx hb d_Mo_put_42 (by decide) (by omega) (by omega) (fun c_42 => ?_) (fun c_42 => ?_)
        · exfalso; omega
        · refine lv_iconst (v := nI 0) hx hb d_Mo_put_45 (by decide +kernel) ?_
          exact ip_zret hx hb hr hlk hAe hS rfl () rfl trivial hP hQ d_Mo_put_46
  · exfalso; omega
set_option maxHeartbeats 4000000 in
set_option maxRecDepth 100000 in
theorem c_Mo_putB (l : Launch) (D : va_G) (cB cI cJ : ClassId) (y yb yt yr yo yn : Nat) (th v2 v3 v4 : Int32) (had : Nat) (g : Nat → Nat) (v : Int64) (k : Nat) (hk : k ≤ 8) (hh : had + k ≤ 600) : Met l y_Mo_put (Wd y_Mo_put b_Mo_put 8 (some .boolean)) ({ frames := 0, cells := 0, slots := 0, locals := 0 }) (ip_P D cB cI cJ [.ref y, .int (nI 0), .long v, .int (nI k)] [(y, .inr (2, [.int th, .ref yb, .int (nI had), .ref yt, .int v2, .ref yr, .int v3, .ref yo, .int v4, .ref yn])), (yb, .inl (cI, 600, .inl (iA g)))]) (ip_Q D [(y, .inr (2, [.int th, .ref yb, .int (nI had), .ref yt, .int v2, .ref yr, .int v3, .ref yo, .int v4, .ref yn])), (yb, .inl (cI, 600, .inl (iA g)))] (fun _ : Unit => True) (fun _ : Unit => some (.int (nI 1))) (fun _ : Unit => [(y, .inr (2, [.int (nI 0), .ref yb, .int (nI (had + k)), .ref yt, .int v2, .ref yr, .int v3, .ref yo, .int v4, .ref yn])), (yb, .inl (cI, 600, .inl (iA (spl g had (vbl v k k)))))])) 0 0 (inW [(y, .inr (2, [.int th, .ref yb, .int (nI had), .ref yt, .int v2, .ref yr, .int v3, .ref yo, .int v4, .ref yn])), (yb, .inl (cI, 600, .inl (iA g)))]) := by
  refine mt_ip (by decide) (Nat.le_of_ble_eq_true rfl) ?_
  intro p e s m args below meth c ls Q A hx hb hr hml hw hown hlk hP hK hD hS hl hAe hQ
  have hown : s.vm.findClass R_Mo = some m.cls := hown
  have hl : lv_has ls 8 [(0, .ref y), (1, .int (nI 0)), (2, .long v), (4, .int (nI k))] := hl
  have loop : ∀ (f j : Nat), j ≤ k → k < j + f → ∀ (H : Heap) (locs : List Loc), va_P D classes [(y, .inr (2, [.int (nI 0), .ref yb, .int (nI (had + j)), .ref yt, .int v2, .ref yr, .int v3, .ref yo, .int v4, .ref yn])), (yb, .inl (cI, 600, .inl (iA (spl g had (vbl v k j)))))] H → va_D A [(y, .inr (2, [.int (nI 0), .ref yb, .int (nI (had + j)), .ref yt, .int v2, .ref yr, .int v3, .ref yo, .int v4, .ref yn])), (yb, .inl (cI, 600, .inl (iA (spl g had (vbl v k j)))))] → va_S A s.heap H locs → ∀ ls : Array Slot, lv_has ls 8 [(6, .int (nI (k - j) - nI 1)), (5, .int (nI had)), (0, .ref y), (1, .int (nI 0)), (2, .long v), (4, .int (nI k))] → W p l e ({ frames := 0, cells := 0, slots := 0, locals := 0 }) s m args below meth c H locs 0 0 Q (F0 m 53 ls []) := by
    intro f
    induction f with
    | zero => intro j h1 h2; omega
    | succ f ih =>
      intro j h1 h2 H locs hP hD hS ls hl
      rcases Nat.eq_or_lt_of_le h1 with hjk | hjk
      · subst hjk
        rw [Nat.sub_self] at hl
        refine lv_iload hx hb d_Mo_put_53 (lv_at hl 0 rfl) ?_
        refine lv_if_lt (tgt := 127) hx hb d_Mo_put_55 (by decide) (fun c_55 => ?_) (fun c_55 => ?_)
        · refine lv_iconst (v := nI 1) hx hb d_Mo_put_127 (by decide +kernel) ?_
          exact ip_zret hx hb hr hlk hAe hS rfl () rfl trivial hP hQ d_Mo_put_128
        · exact absurd nI_m1lt c_55
      · rw [show nI (k - j) - nI 1 = nI (k - 1 - j) from by rw [pk_sub (by omega)]; congr 1; omega] at hl
        refine lv_iload hx hb d_Mo_put_53 (lv_at hl 0 rfl) ?_
        refine n_if_lt (tgt := 127) hx hb d_Mo_put_55 (by decide) (by omega) ?_
        refine lv_lload_n hx hb d_Mo_put_58 rfl (lv_at hl 4 rfl) ?_
        refine lv_bipush (v := nI 8) hx hb d_Mo_put_59 (by decide +kernel) ?_
        refine lv_iload hx hb d_Mo_put_61 (lv_at hl 0 rfl) ?_
        refine n_imul hx hb d_Mo_put_63 ?_
        refine lv_lshr hx hb d_Mo_put_64 rfl ?_
        refine lv_l2i hx hb d_Mo_put_65 rfl ?_
        refine lv_sipush (v := nI 255) hx hb d_Mo_put_66 (by decide +kernel) ?_
        refine lv_iand hx hb d_Mo_put_69 ?_
        refine tv_i (y := nI (vb v (k - 1 - j))) (pk_and _ 8 (by decide +kernel)) ?_
        refine lv_istore (lv' := [(7, .int (nI (vb v (k - 1 - j)))), (6, .int (nI (k - 1 - j))), (5, .int (nI had)), (0, .ref y), (1, .int (nI 0)), (2, .long v), (4, .int (nI k))]) hx hb d_Mo_put_70 hl (by decide) rfl (fun ls hl => ?_)
        refine lv_iload_n hx hb d_Mo_put_72 rfl (lv_at hl 4 rfl) ?_
        refine n_if_eq (tgt := 100) hx hb d_Mo_put_73 (by decide) (by omega) (fun c_73 => ?_) (fun c_73 => ?_)
        · refine lv_aload_n hx hb d_Mo_put_100 rfl (lv_at hl 3 rfl) ?_
          refine va_get (D := D) (ci := 2) (v := .ref yb) (C := R_Mo) (T := F_Mo) (N := 10) hx hb hw i_Mo hown hK.1 hP 0 rfl rfl 1 (by decide) (hw _ k_223) (fun _ h9 => h9) rfl d_Mo_put_101 ?_
          refine lv_aload_n hx hb d_Mo_put_104 rfl (lv_at hl 3 rfl) ?_
          refine va_get (D := D) (ci := 2) (v := .int (nI (had + j))) (C := R_Mo) (T := F_Mo) (N := 10) hx hb hw i_Mo hown hK.1 hP 0 rfl rfl 2 (by decide) (hw _ k_224) (fun _ h9 => h9) rfl d_Mo_put_105 ?_
          refine lv_iload hx hb d_Mo_put_108 (lv_at hl 0 rfl) ?_
          refine ia_st hx hb hK.1 hP hD hS 1 1 rfl rfl (by omega) (by decide) d_Mo_put_110 (fun H locs hP hD hS => ?_)
          rw [show va_up (spl g had (vbl v k j)) (had + j) (vb v (k - 1 - j)) = spl g had (vbl v k (j + 1)) from vbl_up g had v k j] at hP hD
          have hP : va_P D classes [(y, .inr (2, [.int (nI 0), .ref yb, .int (nI (had + j)), .ref yt, .int v2, .ref yr, .int v3, .ref yo, .int v4, .ref yn])), (yb, .inl (cI, 600, .inl (iA (spl g had (vbl v k (j + 1))))))] H := hP
          have hD : va_D A [(y, .inr (2, [.int (nI 0), .ref yb, .int (nI (had + j)), .ref yt, .int v2, .ref yr, .int v3, .ref yo, .int v4, .ref yn])), (yb, .inl (cI, 600, .inl (iA (spl g had (vbl v k (j + 1))))))] := hD
          refine lv_aload_n hx hb d_Mo_put_111 rfl (lv_at hl 3 rfl) ?_
          refine lv_dup hx hb d_Mo_put_112 rfl ?_
          refine va_get (D := D) (ci := 2) (v := .int (nI (had + j))) (C := R_Mo) (T := F_Mo) (N := 10) hx hb hw i_Mo hown hK.1 hP 0 rfl rfl 2 (by decide) (hw _ k_224) (fun _ h9 => h9) rfl d_Mo_put_113 ?_
          refine lv_iconst (v := nI 1) hx hb d_Mo_put_116 (by decide +kernel) ?_
          refine n_iadd hx hb d_Mo_put_117 ?_
          refine va_put (D := D) (ci := 2) (v := .int (nI ((had + j) + 1))) (ty := .int) (C := R_Mo) (T := F_Mo) (N := 10) hx hb hw i_Mo t_Mo t_Mo_ok n_Mo hown hK.1 hP hD hS 0 rfl rfl 2 (by decide) (hw _ k_224) (fun _ h9 => h9) rfl (by decide +kernel) rfl rfl (Nat.le_of_ble_eq_true rfl) d_Mo_put_118 (fun H locs hP hD hS => ?_)
          have hP : va_P D classes [(y, .inr (2, [.int (nI 0), .ref yb, .int (nI ((had + j) + 1)), .ref yt, .int v2, .ref yr, .int v3, .ref yo, .int v4, .ref yn])), (yb, .inl (cI, 600, .inl (iA (spl g had (vbl v k (j + 1))))))] H := hP
          have hD : va_D A [(y, .inr (2, [.int (nI 0), .ref yb, .int (nI ((had + j) + 1)), .ref yt, .int v2, .ref yr, .int v3, .ref yo, .int v4, .ref yn])), (yb, .inl (cI, 600, .inl (iA (spl g had (vbl v k (j + 1))))))] := hD
          refine lv_iinc (v := nI (k - 1 - j) - nI 1) (lv' := [(6, .int (nI (k - 1 - j) - nI 1)), (7, .int (nI (vb v (k - 1 - j)))), (5, .int (nI had)), (0, .ref y), (1, .int (nI 0)), (2, .long v), (4, .int (nI k))]) hx hb d_Mo_put_121 hl (k := 1) rfl (nI_dec1 _) (by decide) rfl (fun ls hl => ?_)
          refine lv_goto (tgt := 53) hx hb d_Mo_put_124 (by decide) ?_
          rw [show k - 1 - j = k - (j + 1) by omega] at hl
          exact ih (j + 1) (by omega) (by omega) H locs hP hD hS ls (lv_sub hl [0, 2, 3, 4, 5, 6] rfl)
        · exfalso; omega
  refine lv_aload_n hx hb d_Mo_put_0 rfl (lv_at hl 0 rfl) ?_
  refine lv_iconst (v := nI 0) hx hb d_Mo_put_1 (by decide +kernel) ?_
  refine va_put (D := D) (ci := 2) (v := .int (nI 0)) (ty := .int) (C := R_Mo) (T := F_Mo) (N := 10) hx hb hw i_Mo t_Mo t_Mo_ok n_Mo hown hK.1 hP hD hS 0 rfl rfl 0 (by decide) (hw _ k_222) (fun _ h9 => h9) rfl (by decide +kernel) rfl rfl (Nat.le_of_ble_eq_true rfl) d_Mo_put_2 (fun H locs hP hD hS => ?_)
  have hP : va_P D classes [(y, .inr (2, [.int (nI 0), .ref yb, .int (nI had), .ref yt, .int v2, .ref yr, .int v3, .ref yo, .int v4, .ref yn])), (yb, .inl (cI, 600, .inl (iA g)))] H := hP
  have hD : va_D A [(y, .inr (2, [.int (nI 0), .ref yb, .int (nI had), .ref yt, .int v2, .ref yr, .int v3, .ref yo, .int v4, .ref yn])), (yb, .inl (cI, 600, .inl (iA g)))] := hD
  refine lv_iload_n hx hb d_Mo_put_5 rfl (lv_at hl 1 rfl) ?_
  refine n_if_eq (tgt := 16) hx hb d_Mo_put_6 (by decide) (by omega) (fun c_6 => ?_) (fun c_6 => ?_)
  · refine lv_aload_n hx hb d_Mo_put_16 rfl (lv_at hl 0 rfl) ?_
    refine va_get (D := D) (ci := 2) (v := .int (nI had)) (C := R_Mo) (T := F_Mo) (N := 10) hx hb hw i_Mo hown hK.1 hP 0 rfl rfl 2 (by decide) (hw _ k_224) (fun _ h9 => h9) rfl d_Mo_put_17 ?_
    refine lv_istore (lv' := [(5, .int (nI had)), (0, .ref y), (1, .int (nI 0)), (2, .long v), (4, .int (nI k))]) hx hb d_Mo_put_20 hl (by decide) rfl (fun ls hl => ?_)
    refine lv_iload hx hb d_Mo_put_22 (lv_at hl 4 rfl) ?_
    refine n_if_lt (tgt := 45) hx hb d_Mo_put_24 (by decide) (by omega) ?_
    refine lv_iload hx hb d_Mo_put_27 (lv_at hl 4 rfl) ?_
    refine lv_bipush (v := nI 8) hx hb d_Mo_put_29 (by decide +kernel) ?_
    refine n_icmp_gt (tgt := 45) hx hb d_Mo_put_31 (by decide) (by omega) (by omega) (fun c_31 => ?_) (fun c_31 => ?_)
    · exfalso; omega
    · refine lv_iload hx hb d_Mo_put_34 (lv_at hl 0 rfl) ?_
      refine lv_iload hx hb d_Mo_put_36 (lv_at hl 4 rfl) ?_
      refine n_iadd hx hb d_Mo_put_38 ?_
      refine lv_sipush (v := nI 600) hx hb d_Mo_put_39 (by decide +kernel) ?_
      refine n_icmp_le (tgt := 47) hx hb d_Mo_put_42 (by decide) (by omega) (by omega) (fun c_42 => ?_) (fun c_42 => ?_)
      · refine lv_iload hx hb d_Mo_put_47 (lv_at hl 4 rfl) ?_
        refine lv_iconst (v := nI 1) hx hb d_Mo_put_49 (by decide +kernel) ?_
        refine lv_isub hx hb d_Mo_put_50 ?_
        refine lv_istore (lv' := [(6, .int ((nI k) - (nI 1))), (5, .int (nI had)), (0, .ref y), (1, .int (nI 0)), (2, .long v), (4, .int (nI k))]) hx hb d_Mo_put_51 hl (by decide) rfl (fun ls hl => ?_)
        refine loop (k + 1) 0 (by omega) (by omega) H locs ?_ ?_ hS ls (lv_sub hl [0, 1, 2, 3, 4, 5] rfl)
        · show va_P D classes [(y, .inr (2, [.int (nI 0), .ref yb, .int (nI had), .ref yt, .int v2, .ref yr, .int v3, .ref yo, .int v4, .ref yn])), (yb, .inl (cI, 600, .inl (iA (spl g had []))))] H
          rw [spl_nil]; exact hP
        · show va_D A [(y, .inr (2, [.int (nI 0), .ref yb, .int (nI had), .ref yt, .int v2, .ref yr, .int v3, .ref yo, .int v4, .ref yn])), (yb, .inl (cI, 600, .inl (iA (spl g had []))))]
          rw [spl_nil]; exact hD
      · exfalso; omega
  · exfalso; omega
end
section
theorem pcV_k {ps : List Pce} {i k : Int32} (h0 : ¬ k = nI 0) (h1 : ¬ k = nI 1) (h2 : ¬ k = nI 2) : pcV ps i k = -1 := by
  unfold pcV
  by_cases h : i < 0 ∨ nI ps.length ≤ i
  · rw [if_pos h]
  · rw [if_neg h]
    cases ps[i.toNatClampNeg]? with
    | none => rfl
    | some p => simp only [if_neg h0, if_neg h1, if_neg h2]
set_option maxHeartbeats 4000000 in
set_option maxRecDepth 100000 in
theorem c_Mo_piece (l : Launch) (D : va_G) (cB cI cJ : ClassId) (y yb yt yr yo yn : Nat) (th v1 v2 v4 : Int32) (w : Nat → Nat) (hw256 : ∀ i, w i < 256) (ps : List Pce) (hok : okW ps) (hR : Rd w ps) (i k : Int32) : Met l y_Mo_piece (Wd y_Mo_piece b_Mo_piece 6 (some .int)) ({ frames := 2, cells := 0, slots := 0, locals := 60 }) (ip_P D cB cI cJ [.ref y, .int i, .int k] [(y, .inr (2, [.int th, .ref yb, .int v1, .ref yt, .int v2, .ref yr, .int (nI ((enc ps).length)), .ref yo, .int v4, .ref yn])), (yr, .inl (cI, 2000, .inl (iA w)))]) (ip_Q D [(y, .inr (2, [.int th, .ref yb, .int v1, .ref yt, .int v2, .ref yr, .int (nI ((enc ps).length)), .ref yo, .int v4, .ref yn])), (yr, .inl (cI, 2000, .inl (iA w)))] (fun _ : Unit => True) (fun _ : Unit => some (.int (pcV ps i k))) (fun _ : Unit => [(y, .inr (2, [.int (nI 0), .ref yb, .int v1, .ref yt, .int v2, .ref yr, .int (nI ((enc ps).length)), .ref yo, .int v4, .ref yn])), (yr, .inl (cI, 2000, .inl (iA w)))])) 0 0 (inW [(y, .inr (2, [.int th, .ref yb, .int v1, .ref yt, .int v2, .ref yr, .int (nI ((enc ps).length)), .ref yo, .int v4, .ref yn])), (yr, .inl (cI, 2000, .inl (iA w)))]) := by
  refine mt_ip (by decide) (Nat.le_of_ble_eq_true rfl) ?_
  intro p e s m args below meth c ls Q A hx hb hr hml hw hown hlk hP hK hD hS hl hAe hQ
  have hown : s.vm.findClass R_Mo = some m.cls := hown
  have hl : lv_has ls 6 [(0, .ref y), (1, .int i), (2, .int k)] := hl
  have hpl := okW_len hok
  have hlen := hok.2.2
  have hsum := hok.2.1
  refine lv_aload_n hx hb d_Mo_piece_0 rfl (lv_at hl 0 rfl) ?_
  refine lv_iconst (v := nI 0) hx hb d_Mo_piece_1 (by decide +kernel) ?_
  refine va_put (D := D) (ci := 2) (v := .int (nI 0)) (ty := .int) (C := R_Mo) (T := F_Mo) (N := 10) hx hb hw i_Mo t_Mo t_Mo_ok n_Mo hown hK.1 hP hD hS 0 rfl rfl 0 (by decide) (hw _ k_222) (fun _ h9 => h9) rfl (by decide +kernel) rfl rfl (Nat.le_of_ble_eq_true rfl) d_Mo_piece_2 (fun H locs hP hD hS => ?_)
  have hP : va_P D classes [(y, .inr (2, [.int (nI 0), .ref yb, .int v1, .ref yt, .int v2, .ref yr, .int (nI ((enc ps).length)), .ref yo, .int v4, .ref yn])), (yr, .inl (cI, 2000, .inl (iA w)))] H := hP
  have hD : va_D A [(y, .inr (2, [.int (nI 0), .ref yb, .int v1, .ref yt, .int v2, .ref yr, .int (nI ((enc ps).length)), .ref yo, .int v4, .ref yn])), (yr, .inl (cI, 2000, .inl (iA w)))] := hD
  refine lv_iload_n hx hb d_Mo_piece_5 rfl (lv_at hl 1 rfl) ?_
  refine lv_if_lt (tgt := 18) hx hb d_Mo_piece_6 (by decide) (fun c_6 => ?_) (fun c_6 => ?_)
  · refine lv_iconst (v := -1) hx hb d_Mo_piece_18 (by decide +kernel) ?_
    exact ip_iret hx hb hr hlk hAe hS () (by rw [pcV_out (Or.inl c_6)]) trivial hP hQ d_Mo_piece_19
  · refine lv_iload_n hx hb d_Mo_piece_9 rfl (lv_at hl 2 rfl) ?_
    refine lv_if_lt (tgt := 18) hx hb d_Mo_piece_10 (by decide) (fun c_10 => ?_) (fun c_10 => ?_)
    · refine lv_iconst (v := -1) hx hb d_Mo_piece_18 (by decide +kernel) ?_
      exact ip_iret hx hb hr hlk hAe hS () (by rw [pcV_k (fun h => by rw [h] at c_10; exact absurd c_10 (by decide +kernel)) (fun h => by rw [h] at c_10; exact absurd c_10 (by decide +kernel)) (fun h => by rw [h] at c_10; exact absurd c_10 (by decide +kernel))]) trivial hP hQ d_Mo_piece_19
    · refine lv_iload_n hx hb d_Mo_piece_13 rfl (lv_at hl 2 rfl) ?_
      refine lv_iconst (v := nI 2) hx hb d_Mo_piece_14 (by decide +kernel) ?_
      refine lv_icmp_le (tgt := 20) hx hb d_Mo_piece_15 (by decide) (fun c_15 => ?_) (fun c_15 => ?_)
      · obtain ⟨j, hj, rfl⟩ := nI_of c_6
        obtain ⟨c0, hc0, rfl⟩ := nI_of2 (M := nI 2) (n := 2) (by decide +kernel) c_10 c_15
        refine lv_iconst (v := nI 0) hx hb d_Mo_piece_20 (by decide +kernel) ?_
        refine lv_istore_n (lv' := [(3, .int (nI 0)), (0, .ref y), (1, .int (nI j)), (2, .int (nI c0))]) hx hb d_Mo_piece_21 rfl hl (by decide) rfl (fun ls hl => ?_)
        refine lv_iconst (v := nI 0) hx hb d_Mo_piece_22 (by decide +kernel) ?_
        refine lv_istore (lv' := [(4, .int (nI 0)), (3, .int (nI 0)), (0, .ref y), (1, .int (nI j)), (2, .int (nI c0))]) hx hb d_Mo_piece_23 hl (by decide) rfl (fun ls hl => ?_)
        refine lv_iconst (v := nI 0) hx hb d_Mo_piece_25 (by decide +kernel) ?_
        refine lv_istore (lv' := [(5, .int (nI 0)), (4, .int (nI 0)), (3, .int (nI 0)), (0, .ref y), (1, .int (nI j)), (2, .int (nI c0))]) hx hb d_Mo_piece_26 hl (by decide) rfl (fun ls hl => ?_)
        have loop : ∀ (f q : Nat), q ≤ j → q ≤ ps.length → ps.length < q + f → ∀ ls : Array Slot, lv_has ls 6 [(5, .int (nI q)), (4, .int (nI (sN (ps.take q)))), (3, .int (nI ((enc (ps.take q)).length))), (0, .ref y), (1, .int (nI j)), (2, .int (nI c0))] → W p l e ({ frames := 2, cells := 0, slots := 0, locals := 60 }) s m args below meth c H locs 0 0 Q (F0 m 28 ls []) := by
          intro f
          induction f with
          | zero => intro q h1 h2 h3; omega
          | succ f ih =>
            intro q h1 h2 h3 ls hl
            have hofs : q < ps.length → ∃ p, ps[q]? = some p ∧ ps = ps.take q ++ p :: ps.drop (q + 1) ∧ ps.take (q + 1) = ps.take q ++ [p] ∧ (enc ps).length = (enc (ps.take q)).length + (eP p).length + (enc (ps.drop (q + 1))).length ∧ sN (ps.take q) + nP p ≤ 600 ∧ 3 ≤ (eP p).length := by
              intro hq
              obtain ⟨p, hpq, hmid, htk⟩ := ps_mid hq
              have e1 := congrArg (fun l => (enc l).length) hmid
              rw [enc_len] at e1
              have e2 := congrArg sN hmid
              rw [sN_mid] at e2
              exact ⟨p, hpq, hmid, htk, e1, by omega, eP_3 p⟩
            have hend : ps.length ≤ q → (enc (ps.take q)).length = (enc ps).length := fun hq => by rw [List.take_of_length_le hq]
            have hle : (enc (ps.take q)).length ≤ (enc ps).length ∧ sN (ps.take q) ≤ 600 := by
              rcases Nat.lt_or_ge q ps.length with hq | hq
              · obtain ⟨p, -, -, -, e1, e2, e3⟩ := hofs hq
                omega
              · rw [List.take_of_length_le hq]; omega
            refine lv_iload hx hb d_Mo_piece_28 (lv_at hl 0 rfl) ?_
            refine lv_iload_n hx hb d_Mo_piece_30 rfl (lv_at hl 4 rfl) ?_
            refine n_icmp_ge (tgt := 64) hx hb d_Mo_piece_31 (by decide) (by omega) (by omega) (fun c_31 => ?_) (fun c_31 => ?_)
            · refine lv_iload_n hx hb d_Mo_piece_64 rfl (lv_at hl 2 rfl) ?_
              refine lv_aload_n hx hb d_Mo_piece_65 rfl (lv_at hl 3 rfl) ?_
              refine va_get (D := D) (ci := 2) (v := .int (nI ((enc ps).length))) (C := R_Mo) (T := F_Mo) (N := 10) hx hb hw i_Mo hown hK.1 hP 0 rfl rfl 6 (by decide) (hw _ k_228) (fun _ h9 => h9) rfl d_Mo_piece_66 ?_
              refine n_icmp_lt (tgt := 74) hx hb d_Mo_piece_69 (by decide) (by omega) (by omega) (fun c_69 => ?_) (fun c_69 => ?_)
              · have hq : q < ps.length := by
                  rcases Nat.lt_or_ge q ps.length with hq | hq
                  · exact hq
                  · have := hend hq; omega
                obtain ⟨p, hpq, hmid, htk, he1, he2, he3⟩ := hofs hq
                obtain rfl : q = j := by omega
                refine lv_iload_n hx hb d_Mo_piece_74 rfl (lv_at hl 5 rfl) ?_
                refine n_if_ne (tgt := 87) hx hb d_Mo_piece_75 (by decide) (by omega) (fun c_75 => ?_) (fun c_75 => ?_)
                · refine lv_iload_n hx hb d_Mo_piece_87 rfl (lv_at hl 5 rfl) ?_
                  refine lv_iconst (v := nI 2) hx hb d_Mo_piece_88 (by decide +kernel) ?_
                  refine n_icmp_ne (tgt := 100) hx hb d_Mo_piece_89 (by decide) (by omega) (by omega) (fun c_89 => ?_) (fun c_89 => ?_)
                  · refine lv_aload_n hx hb d_Mo_piece_100 rfl (lv_at hl 3 rfl) ?_
                    refine va_get (D := D) (ci := 2) (v := .ref yr) (C := R_Mo) (T := F_Mo) (N := 10) hx hb hw i_Mo hown hK.1 hP 0 rfl rfl 5 (by decide) (hw _ k_227) (fun _ h9 => h9) rfl d_Mo_piece_101 ?_
                    refine lv_iload_n hx hb d_Mo_piece_104 rfl (lv_at hl 2 rfl) ?_
                    refine ia_ld hx hb hK.1 hP 1 1 rfl rfl (by omega) (by decide) d_Mo_piece_105 ?_
                    refine lv_iconst (v := nI 1) hx hb d_Mo_piece_106 (by decide +kernel) ?_
                    refine n_icmp_ne (tgt := 120) hx hb d_Mo_piece_107 (by decide) (Nat.lt_trans (hw256 _) (by decide)) (by omega) (fun c_107 => ?_) (fun c_107 => ?_)
                    · refine lv_iload hx hb d_Mo_piece_120 (lv_at hl 1 rfl) ?_
                      refine ip_iret hx hb hr hlk hAe hS () ?_ trivial hP hQ d_Mo_piece_122
                      show some (Value.int (pcV ps (nI q) (nI c0))) = some (Value.int (nI (sN (ps.take q))))
                      refine congrArg some (congrArg Value.int ?_)
                      have hc1 : c0 = 1 := by omega
                      subst hc1
                      rw [pcV_in (by omega) hpq, if_neg (by decide +kernel), if_pos rfl]
                      cases p with
                      | inl q0 => exact absurd (Rd_c hR hmid).1 c_107
                      | inr l0 => rfl
                    · refine lv_aload_n hx hb d_Mo_piece_110 rfl (lv_at hl 3 rfl) ?_
                      refine lv_iload_n hx hb d_Mo_piece_111 rfl (lv_at hl 2 rfl) ?_
                      refine lv_iconst (v := nI 1) hx hb d_Mo_piece_112 (by decide +kernel) ?_
                      refine n_iadd hx hb d_Mo_piece_113 ?_
                      refine ro_V (As := [.int (nI (((enc (ps.take q)).length) + 1))]) (rest := []) ⟨hx, hb, hml, hown, hw⟩ (c_Mo_two l D cB cI cJ y yb yt yr yo yn (nI 0) v1 v2 (nI (enc ps).length) v4 w ((enc (ps.take q)).length + 1) (by omega)) g_Mo_45 hd_Mo_two rfl ⟨rfl, rfl⟩ ⟨by decide, by decide⟩ hP hK [0, 1] rfl 0 2 rfl rfl rfl hl.1 rfl (Nat.le_of_ble_eq_true rfl) ⟨Nat.zero_le _, Nat.zero_le _⟩ d_Mo_piece_114 ?_
                      refine lv_goto (tgt := 122) hx hb d_Mo_piece_117 (by decide) ?_
                      refine ip_iret hx hb hr hlk hAe hS () ?_ trivial hP hQ d_Mo_piece_122
                      show some (Value.int (pcV ps (nI q) (nI c0))) = some (Value.int (nI (w ((enc (ps.take q)).length + 1) * 256 + w ((enc (ps.take q)).length + 1 + 1))))
                      refine congrArg some (congrArg Value.int ?_)
                      have hc1 : c0 = 1 := by omega
                      subst hc1
                      rw [pcV_in (by omega) hpq, if_neg (by decide +kernel), if_pos rfl]
                      cases p with
                      | inl q0 => rw [(Rd_c hR hmid).2.1]; rfl
                      | inr l0 => exfalso; rw [(Rd_p hR hmid).1] at c_107; omega
                  · refine lv_aload_n hx hb d_Mo_piece_92 rfl (lv_at hl 3 rfl) ?_
                    refine lv_iload_n hx hb d_Mo_piece_93 rfl (lv_at hl 2 rfl) ?_
                    refine ro_V (As := [.int (nI ((enc (ps.take q)).length))]) (rest := []) ⟨hx, hb, hml, hown, hw⟩ (c_Mo_many l D cB cI cJ y yb yt yr yo yn (nI 0) v1 v2 (nI (enc ps).length) v4 w hw256 (enc (ps.take q)).length (by omega)) g_Mo_56 hd_Mo_many rfl ⟨rfl, rfl⟩ ⟨by decide, by decide⟩ hP hK [0, 1] rfl 0 2 rfl rfl rfl hl.1 rfl (Nat.le_of_ble_eq_true rfl) ⟨Nat.zero_le _, Nat.zero_le _⟩ d_Mo_piece_94 ?_
                    refine tv_i (y := nI (nP p)) (by rw [mny_at hR hmid]) ?_
                    refine lv_goto (tgt := 122) hx hb d_Mo_piece_97 (by decide) ?_
                    refine ip_iret hx hb hr hlk hAe hS () ?_ trivial hP hQ d_Mo_piece_122
                    show some (Value.int (pcV ps (nI q) (nI c0))) = some (Value.int (nI (nP p)))
                    refine congrArg some (congrArg Value.int ?_)
                    have hc2 : c0 = 2 := c_89
                    subst hc2
                    rw [pcV_in (by omega) hpq, if_neg (by decide +kernel), if_neg (by decide +kernel), if_pos rfl]
                · refine lv_aload_n hx hb d_Mo_piece_78 rfl (lv_at hl 3 rfl) ?_
                  refine va_get (D := D) (ci := 2) (v := .ref yr) (C := R_Mo) (T := F_Mo) (N := 10) hx hb hw i_Mo hown hK.1 hP 0 rfl rfl 5 (by decide) (hw _ k_227) (fun _ h9 => h9) rfl d_Mo_piece_79 ?_
                  refine lv_iload_n hx hb d_Mo_piece_82 rfl (lv_at hl 2 rfl) ?_
                  refine ia_ld hx hb hK.1 hP 1 1 rfl rfl (by omega) (by decide) d_Mo_piece_83 ?_
                  refine lv_goto (tgt := 122) hx hb d_Mo_piece_84 (by decide) ?_
                  refine ip_iret hx hb hr hlk hAe hS () ?_ trivial hP hQ d_Mo_piece_122
                  show some (Value.int (pcV ps (nI q) (nI c0))) = some (Value.int (nI (w ((enc (ps.take q)).length))))
                  refine congrArg some (congrArg Value.int ?_)
                  subst c_75
                  rw [pcV_in (by omega) hpq, if_pos rfl]
                  cases p with
                  | inl q0 => rw [(Rd_c hR hmid).1]; rfl
                  | inr l0 => rw [(Rd_p hR hmid).1]; rfl
              · have hq : ps.length ≤ q := by
                  rcases Nat.lt_or_ge q ps.length with hq | hq
                  · obtain ⟨p, -, -, -, e1, -, e3⟩ := hofs hq; omega
                  · exact hq
                refine lv_iconst (v := -1) hx hb d_Mo_piece_72 (by decide +kernel) ?_
                exact ip_iret hx hb hr hlk hAe hS () (by rw [pcV_out (Or.inr (nI_le (by omega) (by omega)))]) trivial hP hQ d_Mo_piece_73
            · refine lv_iload_n hx hb d_Mo_piece_34 rfl (lv_at hl 2 rfl) ?_
              refine lv_aload_n hx hb d_Mo_piece_35 rfl (lv_at hl 3 rfl) ?_
              refine va_get (D := D) (ci := 2) (v := .int (nI ((enc ps).length))) (C := R_Mo) (T := F_Mo) (N := 10) hx hb hw i_Mo hown hK.1 hP 0 rfl rfl 6 (by decide) (hw _ k_228) (fun _ h9 => h9) rfl d_Mo_piece_36 ?_
              refine n_icmp_ge (tgt := 64) hx hb d_Mo_piece_39 (by decide) (by omega) (by omega) (fun c_39 => ?_) (fun c_39 => ?_)
              · refine lv_iload_n hx hb d_Mo_piece_64 rfl (lv_at hl 2 rfl) ?_
                refine lv_aload_n hx hb d_Mo_piece_65 rfl (lv_at hl 3 rfl) ?_
                refine va_get (D := D) (ci := 2) (v := .int (nI ((enc ps).length))) (C := R_Mo) (T := F_Mo) (N := 10) hx hb hw i_Mo hown hK.1 hP 0 rfl rfl 6 (by decide) (hw _ k_228) (fun _ h9 => h9) rfl d_Mo_piece_66 ?_
                refine n_icmp_lt (tgt := 74) hx hb d_Mo_piece_69 (by decide) (by omega) (by omega) (fun c_69 => ?_) (fun c_69 => ?_)
                · have hq : q < ps.length := by
                    rcases Nat.lt_or_ge q ps.length with hq | hq
                    · exact hq
                    · have := hend hq; omega
                  obtain ⟨p, hpq, hmid, htk, he1, he2, he3⟩ := hofs hq
                  obtain rfl : q = j := by omega
                  refine lv_iload_n hx hb d_Mo_piece_74 rfl (lv_at hl 5 rfl) ?_
                  refine n_if_ne (tgt := 87) hx hb d_Mo_piece_75 (by decide) (by omega) (fun c_75 => ?_) (fun c_75 => ?_)
                  · refine lv_iload_n hx hb d_Mo_piece_87 rfl (lv_at hl 5 rfl) ?_
                    refine lv_iconst (v := nI 2) hx hb d_Mo_piece_88 (by decide +kernel) ?_
                    refine n_icmp_ne (tgt := 100) hx hb d_Mo_piece_89 (by decide) (by omega) (by omega) (fun c_89 => ?_) (fun c_89 => ?_)
                    · refine lv_aload_n hx hb d_Mo_piece_100 rfl (lv_at hl 3 rfl) ?_
                      refine va_get (D := D) (ci := 2) (v := .ref yr) (C := R_Mo) (T := F_Mo) (N := 10) hx hb hw i_Mo hown hK.1 hP 0 rfl rfl 5 (by decide) (hw _ k_227) (fun _ h9 => h9) rfl d_Mo_piece_101 ?_
                      refine lv_iload_n hx hb d_Mo_piece_104 rfl (lv_at hl 2 rfl) ?_
                      refine ia_ld hx hb hK.1 hP 1 1 rfl rfl (by omega) (by decide) d_Mo_piece_105 ?_
                      refine lv_iconst (v := nI 1) hx hb d_Mo_piece_106 (by decide +kernel) ?_
                      refine n_icmp_ne (tgt := 120) hx hb d_Mo_piece_107 (by decide) (Nat.lt_trans (hw256 _) (by decide)) (by omega) (fun c_107 => ?_) (fun c_107 => ?_)
                      · refine lv_iload hx hb d_Mo_piece_120 (lv_at hl 1 rfl) ?_
                        refine ip_iret hx hb hr hlk hAe hS () ?_ trivial hP hQ d_Mo_piece_122
                        show some (Value.int (pcV ps (nI q) (nI c0))) = some (Value.int (nI (sN (ps.take q))))
                        refine congrArg some (congrArg Value.int ?_)
                        have hc1 : c0 = 1 := by omega
                        subst hc1
                        rw [pcV_in (by omega) hpq, if_neg (by decide +kernel), if_pos rfl]
                        cases p with
                        | inl q0 => exact absurd (Rd_c hR hmid).1 c_107
                        | inr l0 => rfl
                      · refine lv_aload_n hx hb d_Mo_piece_110 rfl (lv_at hl 3 rfl) ?_
                        refine lv_iload_n hx hb d_Mo_piece_111 rfl (lv_at hl 2 rfl) ?_
                        refine lv_iconst (v := nI 1) hx hb d_Mo_piece_112 (by decide +kernel) ?_
                        refine n_iadd hx hb d_Mo_piece_113 ?_
                        refine ro_V (As := [.int (nI (((enc (ps.take q)).length) + 1))]) (rest := []) ⟨hx, hb, hml, hown, hw⟩ (c_Mo_two l D cB cI cJ y yb yt yr yo yn (nI 0) v1 v2 (nI (enc ps).length) v4 w ((enc (ps.take q)).length + 1) (by omega)) g_Mo_45 hd_Mo_two rfl ⟨rfl, rfl⟩ ⟨by decide, by decide⟩ hP hK [0, 1] rfl 0 2 rfl rfl rfl hl.1 rfl (Nat.le_of_ble_eq_true rfl) ⟨Nat.zero_le _, Nat.zero_le _⟩ d_Mo_piece_114 ?_
                        refine lv_goto (tgt := 122) hx hb d_Mo_piece_117 (by decide) ?_
                        refine ip_iret hx hb hr hlk hAe hS () ?_ trivial hP hQ d_Mo_piece_122
                        show some (Value.int (pcV ps (nI q) (nI c0))) = some (Value.int (nI (w ((enc (ps.take q)).length + 1) * 256 + w ((enc (ps.take q)).length + 1 + 1))))
                        refine congrArg some (congrArg Value.int ?_)
                        have hc1 : c0 = 1 := by omega
                        subst hc1
                        rw [pcV_in (by omega) hpq, if_neg (by decide +kernel), if_pos rfl]
                        cases p with
                        | inl q0 => rw [(Rd_c hR hmid).2.1]; rfl
                        | inr l0 => exfalso; rw [(Rd_p hR hmid).1] at c_107; omega
                    · refine lv_aload_n hx hb d_Mo_piece_92 rfl (lv_at hl 3 rfl) ?_
                      refine lv_iload_n hx hb d_Mo_piece_93 rfl (lv_at hl 2 rfl) ?_
                      refine ro_V (As := [.int (nI ((enc (ps.take q)).length))]) (rest := []) ⟨hx, hb, hml, hown, hw⟩ (c_Mo_many l D cB cI cJ y yb yt yr yo yn (nI 0) v1 v2 (nI (enc ps).length) v4 w hw256 (enc (ps.take q)).length (by omega)) g_Mo_56 hd_Mo_many rfl ⟨rfl, rfl⟩ ⟨by decide, by decide⟩ hP hK [0, 1] rfl 0 2 rfl rfl rfl hl.1 rfl (Nat.le_of_ble_eq_true rfl) ⟨Nat.zero_le _, Nat.zero_le _⟩ d_Mo_piece_94 ?_
                      refine tv_i (y := nI (nP p)) (by rw [mny_at hR hmid]) ?_
                      refine lv_goto (tgt := 122) hx hb d_Mo_piece_97 (by decide) ?_
                      refine ip_iret hx hb hr hlk hAe hS () ?_ trivial hP hQ d_Mo_piece_122
                      show some (Value.int (pcV ps (nI q) (nI c0))) = some (Value.int (nI (nP p)))
                      refine congrArg some (congrArg Value.int ?_)
                      have hc2 : c0 = 2 := c_89
                      subst hc2
                      rw [pcV_in (by omega) hpq, if_neg (by decide +kernel), if_neg (by decide +kernel), if_pos rfl]
                  · refine lv_aload_n hx hb d_Mo_piece_78 rfl (lv_at hl 3 rfl) ?_
                    refine va_get (D := D) (ci := 2) (v := .ref yr) (C := R_Mo) (T := F_Mo) (N := 10) hx hb hw i_Mo hown hK.1 hP 0 rfl rfl 5 (by decide) (hw _ k_227) (fun _ h9 => h9) rfl d_Mo_piece_79 ?_
                    refine lv_iload_n hx hb d_Mo_piece_82 rfl (lv_at hl 2 rfl) ?_
                    refine ia_ld hx hb hK.1 hP 1 1 rfl rfl (by omega) (by decide) d_Mo_piece_83 ?_
                    refine lv_goto (tgt := 122) hx hb d_Mo_piece_84 (by decide) ?_
                    refine ip_iret hx hb hr hlk hAe hS () ?_ trivial hP hQ d_Mo_piece_122
                    show some (Value.int (pcV ps (nI q) (nI c0))) = some (Value.int (nI (w ((enc (ps.take q)).length))))
                    refine congrArg some (congrArg Value.int ?_)
                    subst c_75
                    rw [pcV_in (by omega) hpq, if_pos rfl]
                    cases p with
                    | inl q0 => rw [(Rd_c hR hmid).1]; rfl
                    | inr l0 => rw [(Rd_p hR hmid).1]; rfl
                · have hq : ps.length ≤ q := by
                    rcases Nat.lt_or_ge q ps.length with hq | hq
                    · obtain ⟨p, -, -, -, e1, -, e3⟩ := hofs hq; omega
                    · exact hq
                  refine lv_iconst (v := -1) hx hb d_Mo_piece_72 (by decide +kernel) ?_
                  exact ip_iret hx hb hr hlk hAe hS () (by rw [pcV_out (Or.inr (nI_le (by omega) (by omega)))]) trivial hP hQ d_Mo_piece_73
              · have hq : q < ps.length := by
                  rcases Nat.lt_or_ge q ps.length with hq | hq
                  · exact hq
                  · have := hend hq; omega
                obtain ⟨p, hpq, hmid, htk, he1, he2, he3⟩ := hofs hq
                refine lv_iload hx hb d_Mo_piece_42 (lv_at hl 1 rfl) ?_
                refine lv_aload_n hx hb d_Mo_piece_44 rfl (lv_at hl 3 rfl) ?_
                refine lv_iload_n hx hb d_Mo_piece_45 rfl (lv_at hl 2 rfl) ?_
                refine ro_V (As := [.int (nI ((enc (ps.take q)).length))]) (rest := [.int (nI (sN (ps.take q)))]) ⟨hx, hb, hml, hown, hw⟩ (c_Mo_many l D cB cI cJ y yb yt yr yo yn (nI 0) v1 v2 (nI (enc ps).length) v4 w hw256 (enc (ps.take q)).length (by omega)) g_Mo_56 hd_Mo_many rfl ⟨rfl, rfl⟩ ⟨by decide, by decide⟩ hP hK [0, 1] rfl 0 2 rfl rfl rfl hl.1 rfl (Nat.le_of_ble_eq_true rfl) ⟨Nat.zero_le _, Nat.zero_le _⟩ d_Mo_piece_46 ?_
                refine tv_i (y := nI (nP p)) (by rw [mny_at hR hmid]) ?_
                refine n_iadd hx hb d_Mo_piece_49 ?_
                refine lv_istore (lv' := [(4, .int (nI ((sN (ps.take q)) + (nP p)))), (5, .int (nI q)), (3, .int (nI ((enc (ps.take q)).length))), (0, .ref y), (1, .int (nI j)), (2, .int (nI c0))]) hx hb d_Mo_piece_50 hl (by decide) rfl (fun ls hl => ?_)
                refine lv_aload_n hx hb d_Mo_piece_52 rfl (lv_at hl 3 rfl) ?_
                refine lv_iload_n hx hb d_Mo_piece_53 rfl (lv_at hl 2 rfl) ?_
                refine ro_V (As := [.int (nI ((enc (ps.take q)).length))]) (rest := []) ⟨hx, hb, hml, hown, hw⟩ (c_Mo_behind l D cB cI cJ y yb yt yr yo yn (nI 0) v1 v2 (nI (enc ps).length) v4 w hw256 (enc (ps.take q)).length (by omega)) g_Mo_59 hd_Mo_behind rfl ⟨rfl, rfl⟩ ⟨by decide, by decide⟩ hP hK [0, 1] rfl 0 2 rfl rfl rfl hl.1 rfl (Nat.le_of_ble_eq_true rfl) ⟨Nat.zero_le _, Nat.zero_le _⟩ d_Mo_piece_54 ?_
                refine tv_i (y := nI ((enc (ps.take q ++ [p])).length)) (by rw [nxt_at hR hmid]) ?_
                refine lv_istore_n (lv' := [(3, .int (nI ((enc (ps.take q ++ [p])).length))), (4, .int (nI ((sN (ps.take q)) + (nP p)))), (5, .int (nI q)), (0, .ref y), (1, .int (nI j)), (2, .int (nI c0))]) hx hb d_Mo_piece_57 rfl hl (by decide) rfl (fun ls hl => ?_)
                refine lv_iinc (v := nI (q + 1)) (lv' := [(5, .int (nI (q + 1))), (3, .int (nI ((enc (ps.take q ++ [p])).length))), (4, .int (nI ((sN (ps.take q)) + (nP p)))), (0, .ref y), (1, .int (nI j)), (2, .int (nI c0))]) hx hb d_Mo_piece_58 hl (k := 2) rfl (nI_inc1 _) (by decide) rfl (fun ls hl => ?_)
                refine lv_goto (tgt := 28) hx hb d_Mo_piece_61 (by decide) ?_
                refine ih (q + 1) (by omega) (by omega) (by omega) ls ?_
                rw [htk, sN_snoc]
                exact lv_sub hl [0, 2, 1, 3, 4, 5] rfl
        exact loop (ps.length + 1) 0 (Nat.zero_le _) (Nat.zero_le _) (by omega) ls (lv_sub hl [0, 1, 2, 3, 4, 5] rfl)
      · refine lv_iconst (v := -1) hx hb d_Mo_piece_18 (by decide +kernel) ?_
        exact ip_iret hx hb hr hlk hAe hS () (by rw [pcV_k (fun h => c_15 (by rw [h]; decide +kernel)) (fun h => c_15 (by rw [h]; decide +kernel)) (fun h => c_15 (by rw [h]; decide +kernel))]) trivial hP hQ d_Mo_piece_19
end
section
def opI (ps : List Pce) (zs : List Nat) : Int32 := if zs.length = 0 then -1 else nI (enc ps).length
theorem rz0 {r : Nat → Nat} {E M : List Nat} {k : Nat} (h : k < M.length) : spl r 0 (E ++ M) (E.length + k) = M.getD k 0 := by
  rw [spl_0 (by simp; omega)]
  simp only [List.getD_eq_getElem?_getD]
  rw [List.getElem?_append_right (by omega), show E.length + k - E.length = k by omega]
theorem rs0 {r : Nat → Nat} {E M : List Nat} {k v : Nat} (h : k < M.length) : va_up (spl r 0 (E ++ M)) (E.length + k) v = spl r 0 (E ++ M.set k v) := by
  have := spl_set r 0 (E.length + k) v (E ++ M) (by simp; omega)
  rw [Nat.zero_add] at this
  rw [this, List.set_append_right _ _ (by omega), show E.length + k - E.length = k by omega]
theorem enc_fl {ps : List Pce} {zs : List Nat} (h : 0 < zs.length) : enc (ps ++ fl zs) = enc ps ++ 2 :: zs.length / 256 :: zs.length % 256 :: zs := by
  rw [enc_app, fl_cons h, enc_one]; rfl
theorem len_fl {ps : List Pce} {zs : List Nat} (h : 0 < zs.length) : (ps ++ fl zs).length = ps.length + 1 := by
  rw [fl_cons h]; simp
theorem fl_nil (ps : List Pce) : ps ++ fl [] = ps := List.append_nil ps
set_option maxHeartbeats 4000000 in
set_option maxRecDepth 100000 in
theorem c_Mo_make (l : Launch) (D : va_G) (cB cI cJ : ClassId) (y yb yt yr yo yn : Nat) (th v3 v4 : Int32) (r B T : Nat → Nat) (hB : ∀ i, B i < 256) (hT : ∀ i, T i < 256) (bs ts : Nat) (hbs : bs ≤ 600) (hts : ts ≤ 600) : Met l y_Mo_make (Wd y_Mo_make b_Mo_make 8 (some .int)) ({ frames := 2, cells := 0, slots := 0, locals := 60 }) (ip_P D cB cI cJ [.ref y] [(y, .inr (2, [.int th, .ref yb, .int (nI bs), .ref yt, .int (nI ts), .ref yr, .int v3, .ref yo, .int v4, .ref yn])), (yb, .inl (cI, 600, .inl (iA B))), (yt, .inl (cI, 600, .inl (iA T))), (yr, .inl (cI, 2000, .inl (iA r)))]) (ip_Q D [(y, .inr (2, [.int th, .ref yb, .int (nI bs), .ref yt, .int (nI ts), .ref yr, .int v3, .ref yo, .int v4, .ref yn])), (yb, .inl (cI, 600, .inl (iA B))), (yt, .inl (cI, 600, .inl (iA T))), (yr, .inl (cI, 2000, .inl (iA r)))] (fun _ : Unit => True) (fun _ : Unit => some (.int (nI (way B bs T ts).length))) (fun _ : Unit => [(y, .inr (2, [.int (nI 0), .ref yb, .int (nI bs), .ref yt, .int (nI ts), .ref yr, .int (nI ((enc (way B bs T ts)).length)), .ref yo, .int v4, .ref yn])), (yb, .inl (cI, 600, .inl (iA B))), (yt, .inl (cI, 600, .inl (iA T))), (yr, .inl (cI, 2000, .inl (iA (spl r 0 (enc (way B bs T ts))))))])) 0 0 (inW [(y, .inr (2, [.int th, .ref yb, .int (nI bs), .ref yt, .int (nI ts), .ref yr, .int v3, .ref yo, .int v4, .ref yn])), (yb, .inl (cI, 600, .inl (iA B))), (yt, .inl (cI, 600, .inl (iA T))), (yr, .inl (cI, 2000, .inl (iA r)))]) := by
  refine mt_ip (by decide) (Nat.le_of_ble_eq_true rfl) ?_
  intro p e s m args below meth c ls Q A hx hb hr hml hw hown hlk hP hK hD hS hl hAe hQ
  have hown : s.vm.findClass R_Mo = some m.cls := hown
  have hl : lv_has ls 8 [(0, .ref y)] := hl
  have loop : ∀ (f t : Nat) (ps : List Pce) (zs : List Nat) (g : Nat), ts < t + f → mkI ts t ps zs → ts ≤ g + t → mkP B bs T ts g t ps zs = way B bs T ts → ∀ (H : Heap) (locs : List Loc), va_P D classes [(y, .inr (2, [.int (nI 0), .ref yb, .int (nI bs), .ref yt, .int (nI ts), .ref yr, .int (nI ((enc (ps ++ fl zs)).length)), .ref yo, .int v4, .ref yn])), (yb, .inl (cI, 600, .inl (iA B))), (yt, .inl (cI, 600, .inl (iA T))), (yr, .inl (cI, 2000, .inl (iA (spl r 0 (enc (ps ++ fl zs))))))] H → va_D A [(y, .inr (2, [.int (nI 0), .ref yb, .int (nI bs), .ref yt, .int (nI ts), .ref yr, .int (nI ((enc (ps ++ fl zs)).length)), .ref yo, .int v4, .ref yn])), (yb, .inl (cI, 600, .inl (iA B))), (yt, .inl (cI, 600, .inl (iA T))), (yr, .inl (cI, 2000, .inl (iA (spl r 0 (enc (ps ++ fl zs))))))] → va_S A s.heap H locs → ∀ ls : Array Slot, lv_has ls 8 [(3, .int (nI t)), (2, .int (opI ps zs)), (1, .int (nI ((ps ++ fl zs).length))), (0, .ref y)] → W p l e ({ frames := 2, cells := 0, slots := 0, locals := 60 }) s m args below meth c H locs 0 0 Q (F0 m 16 ls []) := by
    intro f
    induction f with
    | zero => intro t ps zs g h1 h2; exfalso; have h9 := h2.2.2.2.2; omega
    | succ f ih =>
      intro t ps zs g ht hI hg hway H locs hP hD hS ls hl
      have hI5 := hI.2.2.2.2
      have hI3 := hI.2.2.1
      have hI4 := hI.2.2.2.1
      obtain ⟨hokE, hlenE⟩ := mkI_end hts hI
      have hplE := okW_len hokE
      have hpl : ps.length ≤ (ps ++ fl zs).length := by rw [List.length_append]; omega
      have k135 : (bst B bs T ts t (bs / 8)).1 = 7 → t < ts → ∀ (H : Heap) (locs : List Loc), va_P D classes [(y, .inr (2, [.int (nI 0), .ref yb, .int (nI bs), .ref yt, .int (nI ts), .ref yr, .int (nI ((enc ps).length + 3 + zs.length)), .ref yo, .int v4, .ref yn])), (yb, .inl (cI, 600, .inl (iA B))), (yt, .inl (cI, 600, .inl (iA T))), (yr, .inl (cI, 2000, .inl (iA (spl r 0 (enc ps ++ 2 :: zs.length / 256 :: zs.length % 256 :: zs)))))] H → va_D A [(y, .inr (2, [.int (nI 0), .ref yb, .int (nI bs), .ref yt, .int (nI ts), .ref yr, .int (nI ((enc ps).length + 3 + zs.length)), .ref yo, .int v4, .ref yn])), (yb, .inl (cI, 600, .inl (iA B))), (yt, .inl (cI, 600, .inl (iA T))), (yr, .inl (cI, 2000, .inl (iA (spl r 0 (enc ps ++ 2 :: zs.length / 256 :: zs.length % 256 :: zs)))))] → va_S A s.heap H locs → ∀ ls : Array Slot, lv_has ls 8 [(1, .int (nI (ps.length + 1))), (2, .int (nI ((enc ps).length))), (3, .int (nI t)), (0, .ref y)] → W p l e ({ frames := 2, cells := 0, slots := 0, locals := 60 }) s m args below meth c H locs 0 0 Q (F0 m 135 ls []) := by
        intro hb7 htl H locs hP hD hS ls hl
        refine lv_aload_n hx hb d_Mo_make_135 rfl (lv_at hl 3 rfl) ?_
        refine lv_iload_n hx hb d_Mo_make_136 rfl (lv_at hl 1 rfl) ?_
        refine lv_iconst (v := nI 1) hx hb d_Mo_make_137 (by decide +kernel) ?_
        refine n_iadd hx hb d_Mo_make_138 ?_
        refine ro_V (As := [.int (nI (((enc ps).length) + 1))]) (rest := []) ⟨hx, hb, hml, hown, hw⟩ (c_Mo_two l D cB cI cJ y yb yt yr yo yn (nI 0) (nI bs) (nI ts) (nI ((enc ps).length + 3 + zs.length)) v4 (spl r 0 (enc ps ++ 2 :: zs.length / 256 :: zs.length % 256 :: zs)) ((enc ps).length + 1) (by omega)) g_Mo_45 hd_Mo_two rfl ⟨rfl, rfl⟩ ⟨by decide, by decide⟩ hP hK [0, 3] rfl 0 2 rfl rfl rfl hl.1 rfl (Nat.le_of_ble_eq_true rfl) ⟨Nat.zero_le _, Nat.zero_le _⟩ d_Mo_make_139 ?_
        refine tv_i (y := nI zs.length) (by rw [rz0 (k := 1) (by simp), Nat.add_assoc (enc ps).length 1 1, rz0 (k := 1 + 1) (by simp)]; simp only [List.getD_cons_zero, List.getD_cons_succ]; congr 1; omega) ?_
        refine lv_iconst (v := nI 1) hx hb d_Mo_make_142 (by decide +kernel) ?_
        refine n_iadd hx hb d_Mo_make_143 ?_
        refine lv_istore (lv' := [(6, .int (nI (zs.length + 1))), (1, .int (nI (ps.length + 1))), (2, .int (nI ((enc ps).length))), (3, .int (nI t)), (0, .ref y)]) hx hb d_Mo_make_144 hl (by decide) rfl (fun ls hl => ?_)
        refine lv_aload_n hx hb d_Mo_make_146 rfl (lv_at hl 4 rfl) ?_
        refine va_get (D := D) (ci := 2) (v := .ref yr) (C := R_Mo) (T := F_Mo) (N := 10) hx hb hw i_Mo hown hK.1 hP 0 rfl rfl 5 (by decide) (hw _ k_227) (fun _ h9 => h9) rfl d_Mo_make_147 ?_
        refine lv_iload_n hx hb d_Mo_make_150 rfl (lv_at hl 2 rfl) ?_
        refine lv_iconst (v := nI 1) hx hb d_Mo_make_151 (by decide +kernel) ?_
        refine n_iadd hx hb d_Mo_make_152 ?_
        refine lv_iload hx hb d_Mo_make_153 (lv_at hl 0 rfl) ?_
        refine lv_sipush (v := nI 256) hx hb d_Mo_make_155 (by decide +kernel) ?_
        refine n_idiv hx hb d_Mo_make_158 (by omega) (by decide) (by decide) ?_
        refine ia_st hx hb hK.1 hP hD hS 3 1 rfl rfl (by omega) (by decide) d_Mo_make_159 (fun H locs hP hD hS => ?_)
        rw [show va_up (spl r 0 (enc ps ++ 2 :: zs.length / 256 :: zs.length % 256 :: zs)) (((enc ps).length) + 1) ((zs.length + 1) / 256) = spl r 0 (enc ps ++ 2 :: (zs.length + 1) / 256 :: zs.length % 256 :: zs) from rs0 (k := 1) (by simp)] at hP hD
        have hP : va_P D classes [(y, .inr (2, [.int (nI 0), .ref yb, .int (nI bs), .ref yt, .int (nI ts), .ref yr, .int (nI ((enc ps).length + 3 + zs.length)), .ref yo, .int v4, .ref yn])), (yb, .inl (cI, 600, .inl (iA B))), (yt, .inl (cI, 600, .inl (iA T))), (yr, .inl (cI, 2000, .inl (iA (spl r 0 (enc ps ++ 2 :: (zs.length + 1) / 256 :: zs.length % 256 :: zs)))))] H := hP
        have hD : va_D A [(y, .inr (2, [.int (nI 0), .ref yb, .int (nI bs), .ref yt, .int (nI ts), .ref yr, .int (nI ((enc ps).length + 3 + zs.length)), .ref yo, .int v4, .ref yn])), (yb, .inl (cI, 600, .inl (iA B))), (yt, .inl (cI, 600, .inl (iA T))), (yr, .inl (cI, 2000, .inl (iA (spl r 0 (enc ps ++ 2 :: (zs.length + 1) / 256 :: zs.length % 256 :: zs)))))] := hD
        refine lv_aload_n hx hb d_Mo_make_160 rfl (lv_at hl 4 rfl) ?_
        refine va_get (D := D) (ci := 2) (v := .ref yr) (C := R_Mo) (T := F_Mo) (N := 10) hx hb hw i_Mo hown hK.1 hP 0 rfl rfl 5 (by decide) (hw _ k_227) (fun _ h9 => h9) rfl d_Mo_make_161 ?_
        refine lv_iload_n hx hb d_Mo_make_164 rfl (lv_at hl 2 rfl) ?_
        refine lv_iconst (v := nI 2) hx hb d_Mo_make_165 (by decide +kernel) ?_
        refine n_iadd hx hb d_Mo_make_166 ?_
        refine lv_iload hx hb d_Mo_make_167 (lv_at hl 0 rfl) ?_
        refine lv_sipush (v := nI 256) hx hb d_Mo_make_169 (by decide +kernel) ?_
        refine n_irem hx hb d_Mo_make_172 (by omega) (by decide) (by decide) ?_
        refine ia_st hx hb hK.1 hP hD hS 3 1 rfl rfl (by omega) (by decide) d_Mo_make_173 (fun H locs hP hD hS => ?_)
        rw [show va_up (spl r 0 (enc ps ++ 2 :: (zs.length + 1) / 256 :: zs.length % 256 :: zs)) (((enc ps).length) + 2) ((zs.length + 1) % 256) = spl r 0 (enc ps ++ 2 :: (zs.length + 1) / 256 :: (zs.length + 1) % 256 :: zs) from rs0 (k := 2) (by simp)] at hP hD
        have hP : va_P D classes [(y, .inr (2, [.int (nI 0), .ref yb, .int (nI bs), .ref yt, .int (nI ts), .ref yr, .int (nI ((enc ps).length + 3 + zs.length)), .ref yo, .int v4, .ref yn])), (yb, .inl (cI, 600, .inl (iA B))), (yt, .inl (cI, 600, .inl (iA T))), (yr, .inl (cI, 2000, .inl (iA (spl r 0 (enc ps ++ 2 :: (zs.length + 1) / 256 :: (zs.length + 1) % 256 :: zs)))))] H := hP
        have hD : va_D A [(y, .inr (2, [.int (nI 0), .ref yb, .int (nI bs), .ref yt, .int (nI ts), .ref yr, .int (nI ((enc ps).length + 3 + zs.length)), .ref yo, .int v4, .ref yn])), (yb, .inl (cI, 600, .inl (iA B))), (yt, .inl (cI, 600, .inl (iA T))), (yr, .inl (cI, 2000, .inl (iA (spl r 0 (enc ps ++ 2 :: (zs.length + 1) / 256 :: (zs.length + 1) % 256 :: zs)))))] := hD
        refine lv_aload_n hx hb d_Mo_make_174 rfl (lv_at hl 4 rfl) ?_
        refine lv_aload_n hx hb d_Mo_make_175 rfl (lv_at hl 4 rfl) ?_
        refine va_get (D := D) (ci := 2) (v := .ref yt) (C := R_Mo) (T := F_Mo) (N := 10) hx hb hw i_Mo hown hK.1 hP 0 rfl rfl 3 (by decide) (hw _ k_225) (fun _ h9 => h9) rfl d_Mo_make_176 ?_
        refine lv_iload_n hx hb d_Mo_make_179 rfl (lv_at hl 3 rfl) ?_
        refine ia_ld hx hb hK.1 hP 2 1 rfl rfl (by omega) (by decide) d_Mo_make_180 ?_
        refine ip_V (As := [.int (nI (T t))]) (rest := []) ⟨hx, hb, hml, hown, hw⟩ (c_Mo_write l D cB cI cJ y yb yt yr yo yn (nI 0) (nI bs) (nI ts) v4 r (enc ps ++ 2 :: (zs.length + 1) / 256 :: (zs.length + 1) % 256 :: zs) ((enc ps).length + 3 + zs.length) (by simp; omega) (T t) (by omega)) g_Mo_41 hd_Mo_write rfl ⟨rfl, rfl⟩ ⟨by decide, by decide⟩ hP hK hD hS [0, 3] (by decide) rfl [y, yr] rfl (fun _ => rfl) 0 2 rfl rfl rfl hl.1 rfl (Nat.le_of_ble_eq_true rfl) ⟨Nat.zero_le _, Nat.zero_le _⟩ d_Mo_make_181 (fun u_181 H locs hu_181 hP hD hS => ?_)
        refine W.eq (g2 := F0 m 184 ls []) rfl ?_
        have hP : va_P D classes [(y, .inr (2, [.int (nI 0), .ref yb, .int (nI bs), .ref yt, .int (nI ts), .ref yr, .int (nI ((enc ps).length + 3 + zs.length + 1)), .ref yo, .int v4, .ref yn])), (yb, .inl (cI, 600, .inl (iA B))), (yt, .inl (cI, 600, .inl (iA T))), (yr, .inl (cI, 2000, .inl (iA (spl r 0 (enc ps ++ 2 :: (zs.length + 1) / 256 :: (zs.length + 1) % 256 :: zs ++ [T t])))))] H := hP
        have hD : va_D A [(y, .inr (2, [.int (nI 0), .ref yb, .int (nI bs), .ref yt, .int (nI ts), .ref yr, .int (nI ((enc ps).length + 3 + zs.length + 1)), .ref yo, .int v4, .ref yn])), (yb, .inl (cI, 600, .inl (iA B))), (yt, .inl (cI, 600, .inl (iA T))), (yr, .inl (cI, 2000, .inl (iA (spl r 0 (enc ps ++ 2 :: (zs.length + 1) / 256 :: (zs.length + 1) % 256 :: zs ++ [T t])))))] := hD
        refine lv_iinc (v := nI (t + 1)) (lv' := [(3, .int (nI (t + 1))), (6, .int (nI (zs.length + 1))), (1, .int (nI (ps.length + 1))), (2, .int (nI ((enc ps).length))), (0, .ref y)]) hx hb d_Mo_make_184 hl (k := 3) rfl (nI_inc1 _) (by decide) rfl (fun ls hl => ?_)
        refine lv_goto (tgt := 16) hx hb d_Mo_make_187 (by decide) ?_
        obtain ⟨g2, rfl⟩ : ∃ g2, g = g2 + 1 := ⟨g - 1, by omega⟩
        rw [mkP_lit htl hb7] at hway
        have hz : 0 < (zs ++ [T t]).length := by simp
        have e1 : enc (ps ++ fl (zs ++ [T t])) = enc ps ++ 2 :: (zs.length + 1) / 256 :: (zs.length + 1) % 256 :: zs ++ [T t] := by rw [enc_fl hz]; simp
        have e2 : (enc (ps ++ fl (zs ++ [T t]))).length = (enc ps).length + 3 + zs.length + 1 := by rw [e1]; simp; omega
        have e3 : opI ps (zs ++ [T t]) = nI (enc ps).length := if_neg (by omega)
        refine ih (t + 1) ps (zs ++ [T t]) g2 (by omega) (mkI_lit hT hI htl) (by omega) hway H locs ?_ ?_ hS ls ?_
        · rw [e2, e1]; exact hP
        · rw [e2, e1]; exact hD
        · rw [e3, len_fl hz]; exact lv_sub hl [0, 3, 2, 4] rfl
      refine lv_iload_n hx hb d_Mo_make_16 rfl (lv_at hl 0 rfl) ?_
      refine lv_aload_n hx hb d_Mo_make_17 rfl (lv_at hl 3 rfl) ?_
      refine va_get (D := D) (ci := 2) (v := .int (nI ts)) (C := R_Mo) (T := F_Mo) (N := 10) hx hb hw i_Mo hown hK.1 hP 0 rfl rfl 4 (by decide) (hw _ k_226) (fun _ h9 => h9) rfl d_Mo_make_18 ?_
      refine n_icmp_ge (tgt := 190) hx hb d_Mo_make_21 (by decide) (by omega) (by omega) (fun c_21 => ?_) (fun c_21 => ?_)
      · refine lv_iload_n hx hb d_Mo_make_190 rfl (lv_at hl 2 rfl) ?_
        have ew : way B bs T ts = ps ++ fl zs := by rw [← hway, mkP_stop (by omega)]
        rw [ew] at hQ
        exact ip_iret hx hb hr hlk hAe hS () rfl trivial hP hQ d_Mo_make_191
      · refine lv_bipush (v := nI 7) hx hb d_Mo_make_24 (by decide +kernel) ?_
        refine lv_istore (lv' := [(4, .int (nI 7)), (3, .int (nI t)), (2, .int (opI ps zs)), (1, .int (nI ((ps ++ fl zs).length))), (0, .ref y)]) hx hb d_Mo_make_26 hl (by decide) rfl (fun ls hl => ?_)
        refine lv_iconst (v := nI 0) hx hb d_Mo_make_28 (by decide +kernel) ?_
        refine lv_istore (lv' := [(5, .int (nI 0)), (4, .int (nI 7)), (3, .int (nI t)), (2, .int (opI ps zs)), (1, .int (nI ((ps ++ fl zs).length))), (0, .ref y)]) hx hb d_Mo_make_29 hl (by decide) rfl (fun ls hl => ?_)
        refine lv_iconst (v := nI 0) hx hb d_Mo_make_31 (by decide +kernel) ?_
        refine lv_istore (lv' := [(6, .int (nI 0)), (5, .int (nI 0)), (4, .int (nI 7)), (3, .int (nI t)), (2, .int (opI ps zs)), (1, .int (nI ((ps ++ fl zs).length))), (0, .ref y)]) hx hb d_Mo_make_32 hl (by decide) rfl (fun ls hl => ?_)
        have inner : (∀ ls : Array Slot, lv_has ls 8 [(6, .int (nI (8 * (bs / 8)))), (5, .int (nI ((bst B bs T ts t (bs / 8)).2))), (4, .int (nI ((bst B bs T ts t (bs / 8)).1))), (3, .int (nI t)), (2, .int (opI ps zs)), (1, .int (nI ((ps ++ fl zs).length))), (0, .ref y)] → W p l e ({ frames := 2, cells := 0, slots := 0, locals := 60 }) s m args below meth c H locs 0 0 Q (F0 m 76 ls [])) → ∀ (q j : Nat), j ≤ bs / 8 → bs / 8 < j + q → ∀ ls : Array Slot, lv_has ls 8 [(6, .int (nI (8 * j))), (5, .int (nI ((bst B bs T ts t j).2))), (4, .int (nI ((bst B bs T ts t j).1))), (3, .int (nI t)), (2, .int (opI ps zs)), (1, .int (nI ((ps ++ fl zs).length))), (0, .ref y)] → W p l e ({ frames := 2, cells := 0, slots := 0, locals := 60 }) s m args below meth c H locs 0 0 Q (F0 m 34 ls []) := by
          intro kk q
          induction q with
          | zero => intro j h1 h2; omega
          | succ q ihq =>
            intro j h1 h2 ls hl
            have hbl := bst_le B bs T ts t j
            have hal := alk_lt B bs T ts (8 * j) t
            refine lv_iload hx hb d_Mo_make_34 (lv_at hl 0 rfl) ?_
            refine lv_bipush (v := nI 8) hx hb d_Mo_make_36 (by decide +kernel) ?_
            refine n_iadd hx hb d_Mo_make_38 ?_
            refine lv_aload_n hx hb d_Mo_make_39 rfl (lv_at hl 6 rfl) ?_
            refine va_get (D := D) (ci := 2) (v := .int (nI bs)) (C := R_Mo) (T := F_Mo) (N := 10) hx hb hw i_Mo hown hK.1 hP 0 rfl rfl 2 (by decide) (hw _ k_224) (fun _ h9 => h9) rfl d_Mo_make_40 ?_
            refine n_icmp_gt (tgt := 76) hx hb d_Mo_make_43 (by decide) (by omega) (by omega) (fun c_43 => ?_) (fun c_43 => ?_)
            · obtain rfl : j = bs / 8 := by omega
              exact kk ls hl
            · refine lv_aload_n hx hb d_Mo_make_46 rfl (lv_at hl 6 rfl) ?_
              refine lv_iload hx hb d_Mo_make_47 (lv_at hl 0 rfl) ?_
              refine lv_iload_n hx hb d_Mo_make_49 rfl (lv_at hl 3 rfl) ?_
              refine ro_V (As := [.int (nI (8 * j)), .int (nI t)]) (rest := []) ⟨hx, hb, hml, hown, hw⟩ (c_Mo_alike l D cB cI cJ y yb yt yr yo yn (nI 0) (nI (enc (ps ++ fl zs)).length) v4 T B ts bs t (8 * j) hT hB hts hbs (by omega) (by omega)) g_Mo_49 hd_Mo_alike rfl ⟨rfl, rfl⟩ ⟨by decide, by decide⟩ hP hK [0, 1, 2] rfl 0 2 rfl rfl rfl hl.1 rfl (Nat.le_of_ble_eq_true rfl) ⟨Nat.zero_le _, Nat.zero_le _⟩ d_Mo_make_50 ?_
              refine lv_istore (lv' := [(7, .int (nI (alk B bs T ts (8 * j) t))), (6, .int (nI (8 * j))), (5, .int (nI ((bst B bs T ts t j).2))), (4, .int (nI ((bst B bs T ts t j).1))), (3, .int (nI t)), (2, .int (opI ps zs)), (1, .int (nI ((ps ++ fl zs).length))), (0, .ref y)]) hx hb d_Mo_make_53 hl (by decide) rfl (fun ls hl => ?_)
              refine lv_iload hx hb d_Mo_make_55 (lv_at hl 0 rfl) ?_
              refine lv_iload hx hb d_Mo_make_57 (lv_at hl 3 rfl) ?_
              refine n_icmp_le (tgt := 70) hx hb d_Mo_make_59 (by decide) (by omega) (by omega) (fun c_59 => ?_) (fun c_59 => ?_)
              · refine lv_iinc (v := nI ((8 * j) + 8)) (lv' := [(6, .int (nI ((8 * j) + 8))), (7, .int (nI (alk B bs T ts (8 * j) t))), (5, .int (nI ((bst B bs T ts t j).2))), (4, .int (nI ((bst B bs T ts t j).1))), (3, .int (nI t)), (2, .int (opI ps zs)), (1, .int (nI ((ps ++ fl zs).length))), (0, .ref y)]) hx hb d_Mo_make_70 hl (k := 1) rfl (nI_inc8 _) (by decide) rfl (fun ls hl => ?_)
                refine lv_goto (tgt := 34) hx hb d_Mo_make_73 (by decide) ?_
                have e2 : bst B bs T ts t (j + 1) = bst B bs T ts t j := by
                  simp only [bst]
                  rw [if_neg (by omega)]
                refine ihq (j + 1) (by omega) (by omega) ls ?_
                rw [e2, show 8 * (j + 1) = 8 * j + 8 by omega]
                exact lv_sub hl [0, 2, 3, 4, 5, 6, 7] rfl
              · refine lv_iload hx hb d_Mo_make_62 (lv_at hl 0 rfl) ?_
                refine lv_istore (lv' := [(4, .int (nI (alk B bs T ts (8 * j) t))), (7, .int (nI (alk B bs T ts (8 * j) t))), (6, .int (nI (8 * j))), (5, .int (nI ((bst B bs T ts t j).2))), (3, .int (nI t)), (2, .int (opI ps zs)), (1, .int (nI ((ps ++ fl zs).length))), (0, .ref y)]) hx hb d_Mo_make_64 hl (by decide) rfl (fun ls hl => ?_)
                refine lv_iload hx hb d_Mo_make_66 (lv_at hl 2 rfl) ?_
                refine lv_istore (lv' := [(5, .int (nI (8 * j))), (4, .int (nI (alk B bs T ts (8 * j) t))), (7, .int (nI (alk B bs T ts (8 * j) t))), (6, .int (nI (8 * j))), (3, .int (nI t)), (2, .int (opI ps zs)), (1, .int (nI ((ps ++ fl zs).length))), (0, .ref y)]) hx hb d_Mo_make_68 hl (by decide) rfl (fun ls hl => ?_)
                refine lv_iinc (v := nI ((8 * j) + 8)) (lv' := [(6, .int (nI ((8 * j) + 8))), (5, .int (nI (8 * j))), (4, .int (nI (alk B bs T ts (8 * j) t))), (7, .int (nI (alk B bs T ts (8 * j) t))), (3, .int (nI t)), (2, .int (opI ps zs)), (1, .int (nI ((ps ++ fl zs).length))), (0, .ref y)]) hx hb d_Mo_make_70 hl (k := 3) rfl (nI_inc8 _) (by decide) rfl (fun ls hl => ?_)
                refine lv_goto (tgt := 34) hx hb d_Mo_make_73 (by decide) ?_
                have e2 : bst B bs T ts t (j + 1) = (alk B bs T ts (8 * j) t, 8 * j) := by
                  simp only [bst]
                  rw [if_pos (by omega)]
                refine ihq (j + 1) (by omega) (by omega) ls ?_
                rw [e2, show 8 * (j + 1) = 8 * j + 8 by omega]
                exact lv_sub hl [0, 1, 2, 4, 5, 6, 7] rfl
        refine inner (fun ls hl => ?_) (bs / 8 + 1) 0 (Nat.zero_le _) (by omega) ls (lv_sub hl [0, 1, 2, 3, 4, 5, 6] rfl)
        have hbl := bst_le B bs T ts t (bs / 8)
        have hb7 := bst_7 B bs T ts t (bs / 8)
        refine lv_iload hx hb d_Mo_make_76 (lv_at hl 2 rfl) ?_
        refine lv_bipush (v := nI 7) hx hb d_Mo_make_78 (by decide +kernel) ?_
        refine n_icmp_le (tgt := 113) hx hb d_Mo_make_80 (by decide) (by omega) (by omega) (fun c_80 => ?_) (fun c_80 => ?_)
        · have hb77 : (bst B bs T ts t (bs / 8)).1 = 7 := by omega
          rcases Nat.eq_zero_or_pos zs.length with hz | hz
          · obtain rfl : zs = [] := List.eq_nil_of_length_eq_zero hz
            rw [fl_nil] at hP hD hl
            have hl : lv_has ls 8 [(6, .int (nI (8 * (bs / 8)))), (5, .int (nI ((bst B bs T ts t (bs / 8)).2))), (4, .int (nI ((bst B bs T ts t (bs / 8)).1))), (3, .int (nI t)), (2, .int (-1)), (1, .int (nI ps.length)), (0, .ref y)] := hl
            have hP : va_P D classes [(y, .inr (2, [.int (nI 0), .ref yb, .int (nI bs), .ref yt, .int (nI ts), .ref yr, .int (nI ((enc ps).length)), .ref yo, .int v4, .ref yn])), (yb, .inl (cI, 600, .inl (iA B))), (yt, .inl (cI, 600, .inl (iA T))), (yr, .inl (cI, 2000, .inl (iA (spl r 0 (enc ps)))))] H := hP
            have hD : va_D A [(y, .inr (2, [.int (nI 0), .ref yb, .int (nI bs), .ref yt, .int (nI ts), .ref yr, .int (nI ((enc ps).length)), .ref yo, .int v4, .ref yn])), (yb, .inl (cI, 600, .inl (iA B))), (yt, .inl (cI, 600, .inl (iA T))), (yr, .inl (cI, 2000, .inl (iA (spl r 0 (enc ps)))))] := hD
            refine lv_iload_n hx hb d_Mo_make_113 rfl (lv_at hl 4 rfl) ?_
            refine lv_if_ge (tgt := 135) hx hb d_Mo_make_114 (by decide) (fun c_114 => ?_) (fun c_114 => ?_)
            · exact absurd c_114 (by decide +kernel)
            · refine lv_aload_n hx hb d_Mo_make_117 rfl (lv_at hl 6 rfl) ?_
              refine va_get (D := D) (ci := 2) (v := .int (nI ((enc ps).length))) (C := R_Mo) (T := F_Mo) (N := 10) hx hb hw i_Mo hown hK.1 hP 0 rfl rfl 6 (by decide) (hw _ k_228) (fun _ h9 => h9) rfl d_Mo_make_118 ?_
              refine lv_istore_n (lv' := [(2, .int (nI ((enc ps).length))), (6, .int (nI (8 * (bs / 8)))), (5, .int (nI ((bst B bs T ts t (bs / 8)).2))), (4, .int (nI ((bst B bs T ts t (bs / 8)).1))), (3, .int (nI t)), (1, .int (nI ps.length)), (0, .ref y)]) hx hb d_Mo_make_121 rfl hl (by decide) rfl (fun ls hl => ?_)
              refine lv_aload_n hx hb d_Mo_make_122 rfl (lv_at hl 6 rfl) ?_
              refine lv_iconst (v := nI 2) hx hb d_Mo_make_123 (by decide +kernel) ?_
              refine ip_V (As := [.int (nI 2)]) (rest := []) ⟨hx, hb, hml, hown, hw⟩ (c_Mo_write l D cB cI cJ y yb yt yr yo yn (nI 0) (nI bs) (nI ts) v4 r (enc ps) (enc ps).length rfl 2 (by omega)) g_Mo_41 hd_Mo_write rfl ⟨rfl, rfl⟩ ⟨by decide, by decide⟩ hP hK hD hS [0, 3] (by decide) rfl [y, yr] rfl (fun _ => rfl) 0 2 rfl rfl rfl hl.1 rfl (Nat.le_of_ble_eq_true rfl) ⟨Nat.zero_le _, Nat.zero_le _⟩ d_Mo_make_124 (fun u_124 H locs hu_124 hP hD hS => ?_)
              refine W.eq (g2 := F0 m 127 ls []) rfl ?_
              have hP : va_P D classes [(y, .inr (2, [.int (nI 0), .ref yb, .int (nI bs), .ref yt, .int (nI ts), .ref yr, .int (nI ((enc ps).length + 1)), .ref yo, .int v4, .ref yn])), (yb, .inl (cI, 600, .inl (iA B))), (yt, .inl (cI, 600, .inl (iA T))), (yr, .inl (cI, 2000, .inl (iA (spl r 0 (enc ps ++ [2])))))] H := hP
              have hD : va_D A [(y, .inr (2, [.int (nI 0), .ref yb, .int (nI bs), .ref yt, .int (nI ts), .ref yr, .int (nI ((enc ps).length + 1)), .ref yo, .int v4, .ref yn])), (yb, .inl (cI, 600, .inl (iA B))), (yt, .inl (cI, 600, .inl (iA T))), (yr, .inl (cI, 2000, .inl (iA (spl r 0 (enc ps ++ [2])))))] := hD
              refine lv_aload_n hx hb d_Mo_make_127 rfl (lv_at hl 6 rfl) ?_
              refine lv_iconst (v := nI 0) hx hb d_Mo_make_128 (by decide +kernel) ?_
              refine ip_V (As := [.int (nI 0)]) (rest := []) ⟨hx, hb, hml, hown, hw⟩ (c_Mo_writeTwo l D cB cI cJ y yb yt yr yo yn (nI 0) (nI bs) (nI ts) v4 r (enc ps ++ [2]) ((enc ps).length + 1) (by simp) 0 (by omega) (by omega)) g_Mo_53 hd_Mo_writeTwo rfl ⟨rfl, rfl⟩ ⟨by decide, by decide⟩ hP hK hD hS [0, 3] (by decide) rfl [y, yr] rfl (fun _ => rfl) 0 2 rfl rfl rfl hl.1 rfl (Nat.le_of_ble_eq_true rfl) ⟨Nat.zero_le _, Nat.zero_le _⟩ d_Mo_make_129 (fun u_129 H locs hu_129 hP hD hS => ?_)
              refine W.eq (g2 := F0 m 132 ls []) rfl ?_
              have hP : va_P D classes [(y, .inr (2, [.int (nI 0), .ref yb, .int (nI bs), .ref yt, .int (nI ts), .ref yr, .int (nI ((enc ps).length + 1 + 1 + 1)), .ref yo, .int v4, .ref yn])), (yb, .inl (cI, 600, .inl (iA B))), (yt, .inl (cI, 600, .inl (iA T))), (yr, .inl (cI, 2000, .inl (iA (spl r 0 (enc ps ++ [2] ++ [0 / 256] ++ [0 % 256])))))] H := hP
              have hD : va_D A [(y, .inr (2, [.int (nI 0), .ref yb, .int (nI bs), .ref yt, .int (nI ts), .ref yr, .int (nI ((enc ps).length + 1 + 1 + 1)), .ref yo, .int v4, .ref yn])), (yb, .inl (cI, 600, .inl (iA B))), (yt, .inl (cI, 600, .inl (iA T))), (yr, .inl (cI, 2000, .inl (iA (spl r 0 (enc ps ++ [2] ++ [0 / 256] ++ [0 % 256])))))] := hD
              refine lv_iinc (v := nI (ps.length + 1)) (lv' := [(1, .int (nI (ps.length + 1))), (2, .int (nI ((enc ps).length))), (6, .int (nI (8 * (bs / 8)))), (5, .int (nI ((bst B bs T ts t (bs / 8)).2))), (4, .int (nI ((bst B bs T ts t (bs / 8)).1))), (3, .int (nI t)), (0, .ref y)]) hx hb d_Mo_make_132 hl (k := 5) rfl (nI_inc1 _) (by decide) rfl (fun ls hl => ?_)
              exact k135 hb77 (by omega) H locs (by simpa using hP) (by simpa using hD) hS ls (lv_sub hl [0, 1, 5, 6] rfl)
          · have e0 : opI ps zs = nI (enc ps).length := if_neg (by omega)
            have e4 : (enc ps ++ 2 :: zs.length / 256 :: zs.length % 256 :: zs).length = (enc ps).length + 3 + zs.length := by simp; omega
            rw [e0, len_fl hz] at hl
            rw [enc_fl hz, e4] at hP hD
            have hl : lv_has ls 8 [(6, .int (nI (8 * (bs / 8)))), (5, .int (nI ((bst B bs T ts t (bs / 8)).2))), (4, .int (nI ((bst B bs T ts t (bs / 8)).1))), (3, .int (nI t)), (2, .int (nI ((enc ps).length))), (1, .int (nI (ps.length + 1))), (0, .ref y)] := hl
            refine lv_iload_n hx hb d_Mo_make_113 rfl (lv_at hl 4 rfl) ?_
            refine n_if_ge (tgt := 135) hx hb d_Mo_make_114 (by decide) (by omega) ?_
            exact k135 hb77 (by omega) H locs hP hD hS ls (lv_sub hl [5, 4, 3, 6] rfl)
        · have hbi := bst_in B bs T ts t (bs / 8) (by omega)
          refine lv_aload_n hx hb d_Mo_make_83 rfl (lv_at hl 6 rfl) ?_
          refine lv_iconst (v := nI 1) hx hb d_Mo_make_84 (by decide +kernel) ?_
          refine ip_V (As := [.int (nI 1)]) (rest := []) ⟨hx, hb, hml, hown, hw⟩ (c_Mo_write l D cB cI cJ y yb yt yr yo yn (nI 0) (nI bs) (nI ts) v4 r (enc (ps ++ fl zs)) (enc (ps ++ fl zs)).length rfl 1 (by omega)) g_Mo_41 hd_Mo_write rfl ⟨rfl, rfl⟩ ⟨by decide, by decide⟩ hP hK hD hS [0, 3] (by decide) rfl [y, yr] rfl (fun _ => rfl) 0 2 rfl rfl rfl hl.1 rfl (Nat.le_of_ble_eq_true rfl) ⟨Nat.zero_le _, Nat.zero_le _⟩ d_Mo_make_85 (fun u_85 H locs hu_85 hP hD hS => ?_)
          refine W.eq (g2 := F0 m 88 ls []) rfl ?_
          have hP : va_P D classes [(y, .inr (2, [.int (nI 0), .ref yb, .int (nI bs), .ref yt, .int (nI ts), .ref yr, .int (nI ((enc (ps ++ fl zs)).length + 1)), .ref yo, .int v4, .ref yn])), (yb, .inl (cI, 600, .inl (iA B))), (yt, .inl (cI, 600, .inl (iA T))), (yr, .inl (cI, 2000, .inl (iA (spl r 0 (enc (ps ++ fl zs) ++ [1])))))] H := hP
          have hD : va_D A [(y, .inr (2, [.int (nI 0), .ref yb, .int (nI bs), .ref yt, .int (nI ts), .ref yr, .int (nI ((enc (ps ++ fl zs)).length + 1)), .ref yo, .int v4, .ref yn])), (yb, .inl (cI, 600, .inl (iA B))), (yt, .inl (cI, 600, .inl (iA T))), (yr, .inl (cI, 2000, .inl (iA (spl r 0 (enc (ps ++ fl zs) ++ [1])))))] := hD
          refine lv_aload_n hx hb d_Mo_make_88 rfl (lv_at hl 6 rfl) ?_
          refine lv_iload hx hb d_Mo_make_89 (lv_at hl 1 rfl) ?_
          refine ip_V (As := [.int (nI ((bst B bs T ts t (bs / 8)).2))]) (rest := []) ⟨hx, hb, hml, hown, hw⟩ (c_Mo_writeTwo l D cB cI cJ y yb yt yr yo yn (nI 0) (nI bs) (nI ts) v4 r (enc (ps ++ fl zs) ++ [1]) ((enc (ps ++ fl zs)).length + 1) (by simp) (bst B bs T ts t (bs / 8)).2 (by omega) (by omega)) g_Mo_53 hd_Mo_writeTwo rfl ⟨rfl, rfl⟩ ⟨by decide, by decide⟩ hP hK hD hS [0, 3] (by decide) rfl [y, yr] rfl (fun _ => rfl) 0 2 rfl rfl rfl hl.1 rfl (Nat.le_of_ble_eq_true rfl) ⟨Nat.zero_le _, Nat.zero_le _⟩ d_Mo_make_91 (fun u_91 H locs hu_91 hP hD hS => ?_)
          refine W.eq (g2 := F0 m 94 ls []) rfl ?_
          have hP : va_P D classes [(y, .inr (2, [.int (nI 0), .ref yb, .int (nI bs), .ref yt, .int (nI ts), .ref yr, .int (nI ((enc (ps ++ fl zs)).length + 1 + 1 + 1)), .ref yo, .int v4, .ref yn])), (yb, .inl (cI, 600, .inl (iA B))), (yt, .inl (cI, 600, .inl (iA T))), (yr, .inl (cI, 2000, .inl (iA (spl r 0 (enc (ps ++ fl zs) ++ [1] ++ [(bst B bs T ts t (bs / 8)).2 / 256] ++ [(bst B bs T ts t (bs / 8)).2 % 256])))))] H := hP
          have hD : va_D A [(y, .inr (2, [.int (nI 0), .ref yb, .int (nI bs), .ref yt, .int (nI ts), .ref yr, .int (nI ((enc (ps ++ fl zs)).length + 1 + 1 + 1)), .ref yo, .int v4, .ref yn])), (yb, .inl (cI, 600, .inl (iA B))), (yt, .inl (cI, 600, .inl (iA T))), (yr, .inl (cI, 2000, .inl (iA (spl r 0 (enc (ps ++ fl zs) ++ [1] ++ [(bst B bs T ts t (bs / 8)).2 / 256] ++ [(bst B bs T ts t (bs / 8)).2 % 256])))))] := hD
          refine lv_aload_n hx hb d_Mo_make_94 rfl (lv_at hl 6 rfl) ?_
          refine lv_iload hx hb d_Mo_make_95 (lv_at hl 2 rfl) ?_
          refine ip_V (As := [.int (nI ((bst B bs T ts t (bs / 8)).1))]) (rest := []) ⟨hx, hb, hml, hown, hw⟩ (c_Mo_writeTwo l D cB cI cJ y yb yt yr yo yn (nI 0) (nI bs) (nI ts) v4 r (enc (ps ++ fl zs) ++ [1] ++ [(bst B bs T ts t (bs / 8)).2 / 256] ++ [(bst B bs T ts t (bs / 8)).2 % 256]) ((enc (ps ++ fl zs)).length + 1 + 1 + 1) (by simp only [List.length_append, List.length_cons, List.length_nil]) (bst B bs T ts t (bs / 8)).1 (by omega) (by omega)) g_Mo_53 hd_Mo_writeTwo rfl ⟨rfl, rfl⟩ ⟨by decide, by decide⟩ hP hK hD hS [0, 3] (by decide) rfl [y, yr] rfl (fun _ => rfl) 0 2 rfl rfl rfl hl.1 rfl (Nat.le_of_ble_eq_true rfl) ⟨Nat.zero_le _, Nat.zero_le _⟩ d_Mo_make_97 (fun u_97 H locs hu_97 hP hD hS => ?_)
          refine W.eq (g2 := F0 m 100 ls []) rfl ?_
          have hP : va_P D classes [(y, .inr (2, [.int (nI 0), .ref yb, .int (nI bs), .ref yt, .int (nI ts), .ref yr, .int (nI ((enc (ps ++ fl zs)).length + 1 + 1 + 1 + 1 + 1)), .ref yo, .int v4, .ref yn])), (yb, .inl (cI, 600, .inl (iA B))), (yt, .inl (cI, 600, .inl (iA T))), (yr, .inl (cI, 2000, .inl (iA (spl r 0 (enc (ps ++ fl zs) ++ [1] ++ [(bst B bs T ts t (bs / 8)).2 / 256] ++ [(bst B bs T ts t (bs / 8)).2 % 256] ++ [(bst B bs T ts t (bs / 8)).1 / 256] ++ [(bst B bs T ts t (bs / 8)).1 % 256])))))] H := hP
          have hD : va_D A [(y, .inr (2, [.int (nI 0), .ref yb, .int (nI bs), .ref yt, .int (nI ts), .ref yr, .int (nI ((enc (ps ++ fl zs)).length + 1 + 1 + 1 + 1 + 1)), .ref yo, .int v4, .ref yn])), (yb, .inl (cI, 600, .inl (iA B))), (yt, .inl (cI, 600, .inl (iA T))), (yr, .inl (cI, 2000, .inl (iA (spl r 0 (enc (ps ++ fl zs) ++ [1] ++ [(bst B bs T ts t (bs / 8)).2 / 256] ++ [(bst B bs T ts t (bs / 8)).2 % 256] ++ [(bst B bs T ts t (bs / 8)).1 / 256] ++ [(bst B bs T ts t (bs / 8)).1 % 256])))))] := hD
          refine lv_iinc (v := nI (((ps ++ fl zs).length) + 1)) (lv' := [(1, .int (nI (((ps ++ fl zs).length) + 1))), (6, .int (nI (8 * (bs / 8)))), (5, .int (nI ((bst B bs T ts t (bs / 8)).2))), (4, .int (nI ((bst B bs T ts t (bs / 8)).1))), (3, .int (nI t)), (2, .int (opI ps zs)), (0, .ref y)]) hx hb d_Mo_make_100 hl (k := 5) rfl (nI_inc1 _) (by decide) rfl (fun ls hl => ?_)
          refine lv_iconst (v := -1) hx hb d_Mo_make_103 (by decide +kernel) ?_
          refine lv_istore_n (lv' := [(2, .int (-1)), (1, .int (nI (((ps ++ fl zs).length) + 1))), (6, .int (nI (8 * (bs / 8)))), (5, .int (nI ((bst B bs T ts t (bs / 8)).2))), (4, .int (nI ((bst B bs T ts t (bs / 8)).1))), (3, .int (nI t)), (0, .ref y)]) hx hb d_Mo_make_104 rfl hl (by decide) rfl (fun ls hl => ?_)
          refine lv_iload_n hx hb d_Mo_make_105 rfl (lv_at hl 5 rfl) ?_
          refine lv_iload hx hb d_Mo_make_106 (lv_at hl 4 rfl) ?_
          refine n_iadd hx hb d_Mo_make_108 ?_
          refine lv_istore_n (lv' := [(3, .int (nI (t + ((bst B bs T ts t (bs / 8)).1)))), (2, .int (-1)), (1, .int (nI (((ps ++ fl zs).length) + 1))), (6, .int (nI (8 * (bs / 8)))), (5, .int (nI ((bst B bs T ts t (bs / 8)).2))), (4, .int (nI ((bst B bs T ts t (bs / 8)).1))), (0, .ref y)]) hx hb d_Mo_make_109 rfl hl (by decide) rfl (fun ls hl => ?_)
          refine lv_goto (tgt := 187) hx hb d_Mo_make_110 (by decide) ?_
          refine lv_goto (tgt := 16) hx hb d_Mo_make_187 (by decide) ?_
          obtain ⟨g2, rfl⟩ : ∃ g2, g = g2 + 1 := ⟨g - 1, by omega⟩
          rw [mkP_copy (by omega) (by omega)] at hway
          have e1 : enc (ps ++ fl zs ++ [Sum.inl ((bst B bs T ts t (bs / 8)).2, (bst B bs T ts t (bs / 8)).1)] ++ fl []) = enc (ps ++ fl zs) ++ [1] ++ [(bst B bs T ts t (bs / 8)).2 / 256] ++ [(bst B bs T ts t (bs / 8)).2 % 256] ++ [(bst B bs T ts t (bs / 8)).1 / 256] ++ [(bst B bs T ts t (bs / 8)).1 % 256] := by rw [fl_nil, ← enc_cp, ← enc_app]
          have e2 : (enc (ps ++ fl zs ++ [Sum.inl ((bst B bs T ts t (bs / 8)).2, (bst B bs T ts t (bs / 8)).1)] ++ fl [])).length = (enc (ps ++ fl zs)).length + 1 + 1 + 1 + 1 + 1 := by rw [e1]; simp only [List.length_append, List.length_cons, List.length_nil]
          have e3 : (ps ++ fl zs ++ [Sum.inl ((bst B bs T ts t (bs / 8)).2, (bst B bs T ts t (bs / 8)).1)] ++ fl []).length = (ps ++ fl zs).length + 1 := by rw [fl_nil, List.length_append (as := ps ++ fl zs)]; rfl
          refine ih (t + (bst B bs T ts t (bs / 8)).1) (ps ++ fl zs ++ [Sum.inl ((bst B bs T ts t (bs / 8)).2, (bst B bs T ts t (bs / 8)).1)]) [] g2 (by omega) (mkI_copy hbs hts hI (by omega)) (by omega) hway H locs ?_ ?_ hS ls ?_
          · rw [e2, e1]; exact hP
          · rw [e2, e1]; exact hD
          · rw [e3]; exact lv_sub hl [0, 1, 2, 6] rfl
  refine lv_aload_n hx hb d_Mo_make_0 rfl (lv_at hl 0 rfl) ?_
  refine lv_iconst (v := nI 0) hx hb d_Mo_make_1 (by decide +kernel) ?_
  refine va_put (D := D) (ci := 2) (v := .int (nI 0)) (ty := .int) (C := R_Mo) (T := F_Mo) (N := 10) hx hb hw i_Mo t_Mo t_Mo_ok n_Mo hown hK.1 hP hD hS 0 rfl rfl 0 (by decide) (hw _ k_222) (fun _ h9 => h9) rfl (by decide +kernel) rfl rfl (Nat.le_of_ble_eq_true rfl) d_Mo_make_2 (fun H locs hP hD hS => ?_)
  have hP : va_P D classes [(y, .inr (2, [.int (nI 0), .ref yb, .int (nI bs), .ref yt, .int (nI ts), .ref yr, .int v3, .ref yo, .int v4, .ref yn])), (yb, .inl (cI, 600, .inl (iA B))), (yt, .inl (cI, 600, .inl (iA T))), (yr, .inl (cI, 2000, .inl (iA r)))] H := hP
  have hD : va_D A [(y, .inr (2, [.int (nI 0), .ref yb, .int (nI bs), .ref yt, .int (nI ts), .ref yr, .int v3, .ref yo, .int v4, .ref yn])), (yb, .inl (cI, 600, .inl (iA B))), (yt, .inl (cI, 600, .inl (iA T))), (yr, .inl (cI, 2000, .inl (iA r)))] := hD
  refine lv_aload_n hx hb d_Mo_make_5 rfl (lv_at hl 0 rfl) ?_
  refine lv_iconst (v := nI 0) hx hb d_Mo_make_6 (by decide +kernel) ?_
  refine va_put (D := D) (ci := 2) (v := .int (nI 0)) (ty := .int) (C := R_Mo) (T := F_Mo) (N := 10) hx hb hw i_Mo t_Mo t_Mo_ok n_Mo hown hK.1 hP hD hS 0 rfl rfl 6 (by decide) (hw _ k_228) (fun _ h9 => h9) rfl (by decide +kernel) rfl rfl (Nat.le_of_ble_eq_true rfl) d_Mo_make_7 (fun H locs hP hD hS => ?_)
  have hP : va_P D classes [(y, .inr (2, [.int (nI 0), .ref yb, .int (nI bs), .ref yt, .int (nI ts), .ref yr, .int (nI 0), .ref yo, .int v4, .ref yn])), (yb, .inl (cI, 600, .inl (iA B))), (yt, .inl (cI, 600, .inl (iA T))), (yr, .inl (cI, 2000, .inl (iA r)))] H := hP
  have hD : va_D A [(y, .inr (2, [.int (nI 0), .ref yb, .int (nI bs), .ref yt, .int (nI ts), .ref yr, .int (nI 0), .ref yo, .int v4, .ref yn])), (yb, .inl (cI, 600, .inl (iA B))), (yt, .inl (cI, 600, .inl (iA T))), (yr, .inl (cI, 2000, .inl (iA r)))] := hD
  refine lv_iconst (v := nI 0) hx hb d_Mo_make_10 (by decide +kernel) ?_
  refine lv_istore_n (lv' := [(1, .int (nI 0)), (0, .ref y)]) hx hb d_Mo_make_11 rfl hl (by decide) rfl (fun ls hl => ?_)
  refine lv_iconst (v := -1) hx hb d_Mo_make_12 (by decide +kernel) ?_
  refine lv_istore_n (lv' := [(2, .int (-1)), (1, .int (nI 0)), (0, .ref y)]) hx hb d_Mo_make_13 rfl hl (by decide) rfl (fun ls hl => ?_)
  refine lv_iconst (v := nI 0) hx hb d_Mo_make_14 (by decide +kernel) ?_
  refine lv_istore_n (lv' := [(3, .int (nI 0)), (2, .int (-1)), (1, .int (nI 0)), (0, .ref y)]) hx hb d_Mo_make_15 rfl hl (by decide) rfl (fun ls hl => ?_)
  refine loop (ts + 1) 0 [] [] ts (by omega) (mkI_0 ts) (by omega) rfl H locs ?_ ?_ hS ls (lv_sub hl [0, 1, 2, 3] rfl)
  · show va_P D classes [(y, .inr (2, [.int (nI 0), .ref yb, .int (nI bs), .ref yt, .int (nI ts), .ref yr, .int (nI 0), .ref yo, .int v4, .ref yn])), (yb, .inl (cI, 600, .inl (iA B))), (yt, .inl (cI, 600, .inl (iA T))), (yr, .inl (cI, 2000, .inl (iA (spl r 0 []))))] H
    rw [spl_nil]; exact hP
  · show va_D A [(y, .inr (2, [.int (nI 0), .ref yb, .int (nI bs), .ref yt, .int (nI ts), .ref yr, .int (nI 0), .ref yo, .int v4, .ref yn])), (yb, .inl (cI, 600, .inl (iA B))), (yt, .inl (cI, 600, .inl (iA T))), (yr, .inl (cI, 2000, .inl (iA (spl r 0 []))))]
    rw [spl_nil]; exact hD
end
section
set_option maxHeartbeats 4000000 in
set_option maxRecDepth 100000 in
/-- PieceWaysModel.go: one piece that fits -/
theorem g_Mo_step {p : Program} {l : Launch} {e : Env} {s : State} {m : MethodId} {args : Array Value} {below : List Frame} {meth : Method} {c : Code} {Q : State → Prop} {A : Nat → Prop} {D : va_G} {cB cI cJ : ClassId} (hx : p.tables.exec = Jvm.exec) (hb : c.code = b_Mo_go) (hml : c.maxLocals = 5) (hw : ∀ w ∈ gw, w.before args s = true) (hown : s.vm.findClass R_Mo = some m.cls) (hK : KX D cB cI cJ s) (y yb yt yr yo yn : Nat) (v2 v4 : Int32) (w B G X : Nat → Nat) (hw256 : ∀ i, w i < 256) (ps : List Pce) (hok : okW ps) (hR : Rd w ps) (bs : Nat) (hbs : bs ≤ 600) (qs rs : List Pce) (pp : Pce) (hps : ps = qs ++ pp :: rs) (hfit : fitP bs pp) (kk : ∀ (H : Heap) (locs : List Loc), va_P D classes [(y, .inr (2, [.int (nI 0), .ref yb, .int (nI bs), .ref yt, .int v2, .ref yr, .int (nI ((enc ps).length)), .ref yo, .int v4, .ref yn])), (yb, .inl (cI, 600, .inl (iA B))), (yr, .inl (cI, 2000, .inl (iA w))), (yo, .inl (cI, 600, .inl (iA G))), (yn, .inl (cI, 600, .inl (iA (spl X 0 (outs B (qs ++ [pp]))))))] H → va_D A [(y, .inr (2, [.int (nI 0), .ref yb, .int (nI bs), .ref yt, .int v2, .ref yr, .int (nI ((enc ps).length)), .ref yo, .int v4, .ref yn])), (yb, .inl (cI, 600, .inl (iA B))), (yr, .inl (cI, 2000, .inl (iA w))), (yo, .inl (cI, 600, .inl (iA G))), (yn, .inl (cI, 600, .inl (iA (spl X 0 (outs B (qs ++ [pp]))))))] → va_S A s.heap H locs → ∀ ls : Array Slot, lv_has ls 5 [(2, .int (nI ((enc (qs ++ [pp])).length))), (1, .int (nI (sN (qs ++ [pp])))), (0, .ref y)] → W p l e ({ frames := 2, cells := 0, slots := 0, locals := 60 }) s m args below meth c H locs 0 0 Q (F0 m 9 ls [])) : ∀ (H : Heap) (locs : List Loc), va_P D classes [(y, .inr (2, [.int (nI 0), .ref yb, .int (nI bs), .ref yt, .int v2, .ref yr, .int (nI ((enc ps).length)), .ref yo, .int v4, .ref yn])), (yb, .inl (cI, 600, .inl (iA B))), (yr, .inl (cI, 2000, .inl (iA w))), (yo, .inl (cI, 600, .inl (iA G))), (yn, .inl (cI, 600, .inl (iA (spl X 0 (outs B qs)))))] H → va_D A [(y, .inr (2, [.int (nI 0), .ref yb, .int (nI bs), .ref yt, .int v2, .ref yr, .int (nI ((enc ps).length)), .ref yo, .int v4, .ref yn])), (yb, .inl (cI, 600, .inl (iA B))), (yr, .inl (cI, 2000, .inl (iA w))), (yo, .inl (cI, 600, .inl (iA G))), (yn, .inl (cI, 600, .inl (iA (spl X 0 (outs B qs)))))] → va_S A s.heap H locs → ∀ ls : Array Slot, lv_has ls 5 [(2, .int (nI ((enc qs).length))), (1, .int (nI (sN qs))), (0, .ref y)] → W p l e ({ frames := 2, cells := 0, slots := 0, locals := 60 }) s m args below meth c H locs 0 0 Q (F0 m 9 ls []) := by
  intro H locs hP hD hS ls hl
  have hlen := hok.2.2
  have hsum := hok.2.1
  have helen : (enc ps).length = (enc qs).length + (eP pp).length + (enc rs).length := by rw [hps, enc_len]
  have hsm : sN qs + nP pp ≤ 600 := by
    rw [hps, sN_mid] at hsum; omega
  have h3 := eP_3 pp
  have hpm : pp ∈ ps := by rw [hps]; exact List.mem_append_right _ List.mem_cons_self
  have hpok := hok.1 pp hpm
  cases pp with
  | inl q =>
    obtain ⟨hc1, hc2, hc3⟩ := Rd_c hR hps
    obtain ⟨hk1, hk2, hk3⟩ := hpok
    have hfit : q.1 + q.2 ≤ bs := hfit
    have hnp : nP (Sum.inl q) = q.2 := rfl
    have hep := eP_c q
    have inn : ∀ (f k : Nat), k ≤ q.2 → q.2 < k + f → ∀ (H : Heap) (locs : List Loc), va_P D classes [(y, .inr (2, [.int (nI 0), .ref yb, .int (nI bs), .ref yt, .int v2, .ref yr, .int (nI ((enc ps).length)), .ref yo, .int v4, .ref yn])), (yb, .inl (cI, 600, .inl (iA B))), (yr, .inl (cI, 2000, .inl (iA w))), (yo, .inl (cI, 600, .inl (iA G))), (yn, .inl (cI, 600, .inl (iA (spl X 0 (outs B qs ++ sg B (q.1) k)))))] H → va_D A [(y, .inr (2, [.int (nI 0), .ref yb, .int (nI bs), .ref yt, .int v2, .ref yr, .int (nI ((enc ps).length)), .ref yo, .int v4, .ref yn])), (yb, .inl (cI, 600, .inl (iA B))), (yr, .inl (cI, 2000, .inl (iA w))), (yo, .inl (cI, 600, .inl (iA G))), (yn, .inl (cI, 600, .inl (iA (spl X 0 (outs B qs ++ sg B (q.1) k)))))] → va_S A s.heap H locs → ∀ ls : Array Slot, lv_has ls 5 [(3, .int (nI k)), (2, .int (nI ((enc qs).length))), (1, .int (nI (sN qs + k))), (0, .ref y)] → W p l e ({ frames := 2, cells := 0, slots := 0, locals := 60 }) s m args below meth c H locs 0 0 Q (F0 m 26 ls []) := by
      intro f
      induction f with
      | zero => intro k h1 h2; omega
      | succ f ih =>
        intro k h1 h2 H locs hP hD hS ls hl
        refine lv_iload_n hx hb d_Mo_go_26 rfl (lv_at hl 0 rfl) ?_
        refine lv_aload_n hx hb d_Mo_go_27 rfl (lv_at hl 3 rfl) ?_
        refine lv_iload_n hx hb d_Mo_go_28 rfl (lv_at hl 1 rfl) ?_
        refine ro_V (As := [.int (nI ((enc qs).length))]) (rest := [.int (nI k)]) ⟨hx, hb, hml, hown, hw⟩ (c_Mo_many l D cB cI cJ y yb yt yr yo yn (nI 0) (nI bs) v2 (nI (enc ps).length) v4 w hw256 (enc qs).length (by omega)) g_Mo_56 hd_Mo_many rfl ⟨rfl, rfl⟩ ⟨by decide, by decide⟩ hP hK [0, 2] rfl 0 2 rfl rfl rfl hl.1 rfl (Nat.le_of_ble_eq_true rfl) ⟨Nat.zero_le _, Nat.zero_le _⟩ d_Mo_go_29 ?_
        refine tv_i (y := nI q.2) (by rw [mny_at hR hps]; rfl) ?_
        refine n_icmp_ge (tgt := 140) hx hb d_Mo_go_32 (by decide) (by omega) (by omega) (fun c_32 => ?_) (fun c_32 => ?_)
        · refine lv_aload_n hx hb d_Mo_go_140 rfl (lv_at hl 3 rfl) ?_
          refine lv_iload_n hx hb d_Mo_go_141 rfl (lv_at hl 1 rfl) ?_
          refine ro_V (As := [.int (nI ((enc qs).length))]) (rest := []) ⟨hx, hb, hml, hown, hw⟩ (c_Mo_behind l D cB cI cJ y yb yt yr yo yn (nI 0) (nI bs) v2 (nI (enc ps).length) v4 w hw256 (enc qs).length (by omega)) g_Mo_59 hd_Mo_behind rfl ⟨rfl, rfl⟩ ⟨by decide, by decide⟩ hP hK [0, 2] rfl 0 2 rfl rfl rfl hl.1 rfl (Nat.le_of_ble_eq_true rfl) ⟨Nat.zero_le _, Nat.zero_le _⟩ d_Mo_go_142 ?_
          refine tv_i (y := nI ((enc (qs ++ [Sum.inl q])).length)) (by rw [nxt_at hR hps]) ?_
          refine lv_istore_n (lv' := [(2, .int (nI ((enc (qs ++ [Sum.inl q])).length))), (3, .int (nI k)), (1, .int (nI (sN qs + k))), (0, .ref y)]) hx hb d_Mo_go_145 rfl hl (by decide) rfl (fun ls hl => ?_)
          refine lv_goto (tgt := 9) hx hb d_Mo_go_146 (by decide) ?_
          obtain rfl : k = q.2 := by omega
          have e2 : sN (qs ++ [Sum.inl q]) = sN qs + q.2 := by rw [sN_snoc, hnp]
          have e3 : outs B (qs ++ [Sum.inl q]) = outs B qs ++ sg B (q.1) q.2 := by rw [outs_snoc]; rfl
          refine kk H locs ?_ ?_ hS ls ?_
          · rw [e3]; exact hP
          · rw [e3]; exact hD
          · rw [e2]; exact lv_sub hl [0, 2, 3] rfl
        · refine lv_aload_n hx hb d_Mo_go_35 rfl (lv_at hl 3 rfl) ?_
          refine va_get (D := D) (ci := 2) (v := .int (nI 0)) (C := R_Mo) (T := F_Mo) (N := 10) hx hb hw i_Mo hown hK.1 hP 0 rfl rfl 0 (by decide) (hw _ k_222) (fun _ h9 => h9) rfl d_Mo_go_36 ?_
          refine n_if_ne (tgt := 140) hx hb d_Mo_go_39 (by decide) (by omega) (fun c_39 => ?_) (fun c_39 => ?_)
          · exfalso; omega
          · refine lv_aload_n hx hb d_Mo_go_42 rfl (lv_at hl 3 rfl) ?_
            refine va_get (D := D) (ci := 2) (v := .ref yr) (C := R_Mo) (T := F_Mo) (N := 10) hx hb hw i_Mo hown hK.1 hP 0 rfl rfl 5 (by decide) (hw _ k_227) (fun _ h9 => h9) rfl d_Mo_go_43 ?_
            refine lv_iload_n hx hb d_Mo_go_46 rfl (lv_at hl 1 rfl) ?_
            refine ia_ld hx hb hK.1 hP 2 1 rfl rfl (by omega) (by decide) d_Mo_go_47 ?_
            refine lv_iconst (v := nI 1) hx hb d_Mo_go_48 (by decide +kernel) ?_
            refine n_icmp_ne (tgt := 64) hx hb d_Mo_go_49 (by decide) (Nat.lt_trans (hw256 _) (by decide)) (by omega) (fun c_49 => ?_) (fun c_49 => ?_)
            · exact absurd hc1 c_49
            · refine lv_aload_n hx hb d_Mo_go_52 rfl (lv_at hl 3 rfl) ?_
              refine lv_iload_n hx hb d_Mo_go_53 rfl (lv_at hl 1 rfl) ?_
              refine lv_iconst (v := nI 1) hx hb d_Mo_go_54 (by decide +kernel) ?_
              refine n_iadd hx hb d_Mo_go_55 ?_
              refine ro_V (As := [.int (nI (((enc qs).length) + 1))]) (rest := []) ⟨hx, hb, hml, hown, hw⟩ (c_Mo_two l D cB cI cJ y yb yt yr yo yn (nI 0) (nI bs) v2 (nI (enc ps).length) v4 w ((enc qs).length + 1) (by omega)) g_Mo_45 hd_Mo_two rfl ⟨rfl, rfl⟩ ⟨by decide, by decide⟩ hP hK [0, 2] rfl 0 2 rfl rfl rfl hl.1 rfl (Nat.le_of_ble_eq_true rfl) ⟨Nat.zero_le _, Nat.zero_le _⟩ d_Mo_go_56 ?_
              refine tv_i (y := nI q.1) (by rw [hc2]) ?_
              refine lv_iload_n hx hb d_Mo_go_59 rfl (lv_at hl 0 rfl) ?_
              refine n_iadd hx hb d_Mo_go_60 ?_
              refine lv_goto (tgt := 69) hx hb d_Mo_go_61 (by decide) ?_
              refine lv_istore (lv' := [(4, .int (nI (q.1 + k))), (3, .int (nI k)), (2, .int (nI ((enc qs).length))), (1, .int (nI (sN qs + k))), (0, .ref y)]) hx hb d_Mo_go_69 hl (by decide) rfl (fun ls hl => ?_)
              refine lv_aload_n hx hb d_Mo_go_71 rfl (lv_at hl 4 rfl) ?_
              refine va_get (D := D) (ci := 2) (v := .ref yr) (C := R_Mo) (T := F_Mo) (N := 10) hx hb hw i_Mo hown hK.1 hP 0 rfl rfl 5 (by decide) (hw _ k_227) (fun _ h9 => h9) rfl d_Mo_go_72 ?_
              refine lv_iload_n hx hb d_Mo_go_75 rfl (lv_at hl 2 rfl) ?_
              refine ia_ld hx hb hK.1 hP 2 1 rfl rfl (by omega) (by decide) d_Mo_go_76 ?_
              refine lv_iconst (v := nI 1) hx hb d_Mo_go_77 (by decide +kernel) ?_
              refine n_icmp_ne (tgt := 98) hx hb d_Mo_go_78 (by decide) (Nat.lt_trans (hw256 _) (by decide)) (by omega) (fun c_78 => ?_) (fun c_78 => ?_)
              · exact absurd hc1 c_78
              · refine lv_iload hx hb d_Mo_go_81 (lv_at hl 0 rfl) ?_
                refine lv_aload_n hx hb d_Mo_go_83 rfl (lv_at hl 4 rfl) ?_
                refine va_get (D := D) (ci := 2) (v := .int (nI bs)) (C := R_Mo) (T := F_Mo) (N := 10) hx hb hw i_Mo hown hK.1 hP 0 rfl rfl 2 (by decide) (hw _ k_224) (fun _ h9 => h9) rfl d_Mo_go_84 ?_
                refine n_icmp_lt (tgt := 98) hx hb d_Mo_go_87 (by decide) (by omega) (by omega) (fun c_87 => ?_) (fun c_87 => ?_)
                · refine lv_aload_n hx hb d_Mo_go_98 rfl (lv_at hl 4 rfl) ?_
                  refine va_get (D := D) (ci := 2) (v := .ref yn) (C := R_Mo) (T := F_Mo) (N := 10) hx hb hw i_Mo hown hK.1 hP 0 rfl rfl 9 (by decide) (hw _ k_231) (fun _ h9 => h9) rfl d_Mo_go_99 ?_
                  refine lv_iload_n hx hb d_Mo_go_102 rfl (lv_at hl 3 rfl) ?_
                  refine lv_aload_n hx hb d_Mo_go_103 rfl (lv_at hl 4 rfl) ?_
                  refine va_get (D := D) (ci := 2) (v := .ref yr) (C := R_Mo) (T := F_Mo) (N := 10) hx hb hw i_Mo hown hK.1 hP 0 rfl rfl 5 (by decide) (hw _ k_227) (fun _ h9 => h9) rfl d_Mo_go_104 ?_
                  refine lv_iload_n hx hb d_Mo_go_107 rfl (lv_at hl 2 rfl) ?_
                  refine ia_ld hx hb hK.1 hP 2 1 rfl rfl (by omega) (by decide) d_Mo_go_108 ?_
                  refine lv_iconst (v := nI 1) hx hb d_Mo_go_109 (by decide +kernel) ?_
                  refine n_icmp_ne (tgt := 123) hx hb d_Mo_go_110 (by decide) (Nat.lt_trans (hw256 _) (by decide)) (by omega) (fun c_110 => ?_) (fun c_110 => ?_)
                  · exact absurd hc1 c_110
                  · refine lv_aload_n hx hb d_Mo_go_113 rfl (lv_at hl 4 rfl) ?_
                    refine va_get (D := D) (ci := 2) (v := .ref yb) (C := R_Mo) (T := F_Mo) (N := 10) hx hb hw i_Mo hown hK.1 hP 0 rfl rfl 1 (by decide) (hw _ k_223) (fun _ h9 => h9) rfl d_Mo_go_114 ?_
                    refine lv_iload hx hb d_Mo_go_117 (lv_at hl 0 rfl) ?_
                    refine ia_ld hx hb hK.1 hP 1 1 rfl rfl (by omega) (by decide) d_Mo_go_119 ?_
                    refine lv_goto (tgt := 130) hx hb d_Mo_go_120 (by decide) ?_
                    refine ia_st hx hb hK.1 hP hD hS 4 1 rfl rfl (by omega) (by decide) d_Mo_go_130 (fun H locs hP hD hS => ?_)
                    rw [show va_up (spl X 0 (outs B qs ++ sg B (q.1) k)) (sN qs + k) (B (q.1 + k)) = spl X 0 (outs B qs ++ sg B (q.1) k ++ [B (q.1 + k)]) from spl_sn0 _ _ _ (by rw [List.length_append, outs_len, sg_len])] at hP hD
                    have hP : va_P D classes [(y, .inr (2, [.int (nI 0), .ref yb, .int (nI bs), .ref yt, .int v2, .ref yr, .int (nI ((enc ps).length)), .ref yo, .int v4, .ref yn])), (yb, .inl (cI, 600, .inl (iA B))), (yr, .inl (cI, 2000, .inl (iA w))), (yo, .inl (cI, 600, .inl (iA G))), (yn, .inl (cI, 600, .inl (iA (spl X 0 (outs B qs ++ sg B (q.1) k ++ [B (q.1 + k)])))))] H := hP
                    have hD : va_D A [(y, .inr (2, [.int (nI 0), .ref yb, .int (nI bs), .ref yt, .int v2, .ref yr, .int (nI ((enc ps).length)), .ref yo, .int v4, .ref yn])), (yb, .inl (cI, 600, .inl (iA B))), (yr, .inl (cI, 2000, .inl (iA w))), (yo, .inl (cI, 600, .inl (iA G))), (yn, .inl (cI, 600, .inl (iA (spl X 0 (outs B qs ++ sg B (q.1) k ++ [B (q.1 + k)])))))] := hD
                    refine lv_iinc (v := nI ((sN qs + k) + 1)) (lv' := [(1, .int (nI ((sN qs + k) + 1))), (4, .int (nI (q.1 + k))), (3, .int (nI k)), (2, .int (nI ((enc qs).length))), (0, .ref y)]) hx hb d_Mo_go_131 hl (k := 3) rfl (nI_inc1 _) (by decide) rfl (fun ls hl => ?_)
                    refine lv_iinc (v := nI (k + 1)) (lv' := [(3, .int (nI (k + 1))), (1, .int (nI ((sN qs + k) + 1))), (4, .int (nI (q.1 + k))), (2, .int (nI ((enc qs).length))), (0, .ref y)]) hx hb d_Mo_go_134 hl (k := 2) rfl (nI_inc1 _) (by decide) rfl (fun ls hl => ?_)
                    refine lv_goto (tgt := 26) hx hb d_Mo_go_137 (by decide) ?_
                    rw [List.append_assoc, ← sg_snoc] at hP hD
                    exact ih (k + 1) (by omega) (by omega) H locs hP hD hS ls (lv_sub hl [0, 3, 1, 4] rfl)
                · exfalso; omega
    refine lv_iload_n hx hb d_Mo_go_9 rfl (lv_at hl 0 rfl) ?_
    refine lv_aload_n hx hb d_Mo_go_10 rfl (lv_at hl 2 rfl) ?_
    refine va_get (D := D) (ci := 2) (v := .int (nI ((enc ps).length))) (C := R_Mo) (T := F_Mo) (N := 10) hx hb hw i_Mo hown hK.1 hP 0 rfl rfl 6 (by decide) (hw _ k_228) (fun _ h9 => h9) rfl d_Mo_go_11 ?_
    refine n_icmp_ge (tgt := 149) hx hb d_Mo_go_14 (by decide) (by omega) (by omega) (fun c_14 => ?_) (fun c_14 => ?_)
    · exfalso; omega
    · refine lv_aload_n hx hb d_Mo_go_17 rfl (lv_at hl 2 rfl) ?_
      refine va_get (D := D) (ci := 2) (v := .int (nI 0)) (C := R_Mo) (T := F_Mo) (N := 10) hx hb hw i_Mo hown hK.1 hP 0 rfl rfl 0 (by decide) (hw _ k_222) (fun _ h9 => h9) rfl d_Mo_go_18 ?_
      refine n_if_ne (tgt := 149) hx hb d_Mo_go_21 (by decide) (by omega) (fun c_21 => ?_) (fun c_21 => ?_)
      · exfalso; omega
      · refine lv_iconst (v := nI 0) hx hb d_Mo_go_24 (by decide +kernel) ?_
        refine lv_istore_n (lv' := [(3, .int (nI 0)), (2, .int (nI ((enc qs).length))), (1, .int (nI (sN qs))), (0, .ref y)]) hx hb d_Mo_go_25 rfl hl (by decide) rfl (fun ls hl => ?_)
        refine inn (q.2 + 1) 0 (Nat.zero_le _) (by omega) H locs ?_ ?_ hS ls (lv_sub hl [0, 1, 2, 3] rfl)
        · rw [show sg B (q.1) 0 = [] from rfl, List.append_nil]; exact hP
        · rw [show sg B (q.1) 0 = [] from rfl, List.append_nil]; exact hD
  | inr xs =>
    obtain ⟨hc1, hc2, hc3⟩ := Rd_p hR hps
    obtain ⟨hk1, hk2, hk3⟩ := hpok
    have hnp : nP (Sum.inr xs) = xs.length := rfl
    have hep := eP_p xs
    have inn : ∀ (f k : Nat), k ≤ xs.length → xs.length < k + f → ∀ (H : Heap) (locs : List Loc), va_P D classes [(y, .inr (2, [.int (nI 0), .ref yb, .int (nI bs), .ref yt, .int v2, .ref yr, .int (nI ((enc ps).length)), .ref yo, .int v4, .ref yn])), (yb, .inl (cI, 600, .inl (iA B))), (yr, .inl (cI, 2000, .inl (iA w))), (yo, .inl (cI, 600, .inl (iA G))), (yn, .inl (cI, 600, .inl (iA (spl X 0 (outs B qs ++ sg w ((enc qs).length + 3) k)))))] H → va_D A [(y, .inr (2, [.int (nI 0), .ref yb, .int (nI bs), .ref yt, .int v2, .ref yr, .int (nI ((enc ps).length)), .ref yo, .int v4, .ref yn])), (yb, .inl (cI, 600, .inl (iA B))), (yr, .inl (cI, 2000, .inl (iA w))), (yo, .inl (cI, 600, .inl (iA G))), (yn, .inl (cI, 600, .inl (iA (spl X 0 (outs B qs ++ sg w ((enc qs).length + 3) k)))))] → va_S A s.heap H locs → ∀ ls : Array Slot, lv_has ls 5 [(3, .int (nI k)), (2, .int (nI ((enc qs).length))), (1, .int (nI (sN qs + k))), (0, .ref y)] → W p l e ({ frames := 2, cells := 0, slots := 0, locals := 60 }) s m args below meth c H locs 0 0 Q (F0 m 26 ls []) := by
      intro f
      induction f with
      | zero => intro k h1 h2; omega
      | succ f ih =>
        intro k h1 h2 H locs hP hD hS ls hl
        refine lv_iload_n hx hb d_Mo_go_26 rfl (lv_at hl 0 rfl) ?_
        refine lv_aload_n hx hb d_Mo_go_27 rfl (lv_at hl 3 rfl) ?_
        refine lv_iload_n hx hb d_Mo_go_28 rfl (lv_at hl 1 rfl) ?_
        refine ro_V (As := [.int (nI ((enc qs).length))]) (rest := [.int (nI k)]) ⟨hx, hb, hml, hown, hw⟩ (c_Mo_many l D cB cI cJ y yb yt yr yo yn (nI 0) (nI bs) v2 (nI (enc ps).length) v4 w hw256 (enc qs).length (by omega)) g_Mo_56 hd_Mo_many rfl ⟨rfl, rfl⟩ ⟨by decide, by decide⟩ hP hK [0, 2] rfl 0 2 rfl rfl rfl hl.1 rfl (Nat.le_of_ble_eq_true rfl) ⟨Nat.zero_le _, Nat.zero_le _⟩ d_Mo_go_29 ?_
        refine tv_i (y := nI xs.length) (by rw [mny_at hR hps]; rfl) ?_
        refine n_icmp_ge (tgt := 140) hx hb d_Mo_go_32 (by decide) (by omega) (by omega) (fun c_32 => ?_) (fun c_32 => ?_)
        · refine lv_aload_n hx hb d_Mo_go_140 rfl (lv_at hl 3 rfl) ?_
          refine lv_iload_n hx hb d_Mo_go_141 rfl (lv_at hl 1 rfl) ?_
          refine ro_V (As := [.int (nI ((enc qs).length))]) (rest := []) ⟨hx, hb, hml, hown, hw⟩ (c_Mo_behind l D cB cI cJ y yb yt yr yo yn (nI 0) (nI bs) v2 (nI (enc ps).length) v4 w hw256 (enc qs).length (by omega)) g_Mo_59 hd_Mo_behind rfl ⟨rfl, rfl⟩ ⟨by decide, by decide⟩ hP hK [0, 2] rfl 0 2 rfl rfl rfl hl.1 rfl (Nat.le_of_ble_eq_true rfl) ⟨Nat.zero_le _, Nat.zero_le _⟩ d_Mo_go_142 ?_
          refine tv_i (y := nI ((enc (qs ++ [Sum.inr xs])).length)) (by rw [nxt_at hR hps]) ?_
          refine lv_istore_n (lv' := [(2, .int (nI ((enc (qs ++ [Sum.inr xs])).length))), (3, .int (nI k)), (1, .int (nI (sN qs + k))), (0, .ref y)]) hx hb d_Mo_go_145 rfl hl (by decide) rfl (fun ls hl => ?_)
          refine lv_goto (tgt := 9) hx hb d_Mo_go_146 (by decide) ?_
          obtain rfl : k = xs.length := by omega
          have e2 : sN (qs ++ [Sum.inr xs]) = sN qs + xs.length := by rw [sN_snoc, hnp]
          have e3 : outs B (qs ++ [Sum.inr xs]) = outs B qs ++ sg w ((enc qs).length + 3) xs.length := by rw [outs_snoc]; rw [sg_eq hc3]; rfl
          refine kk H locs ?_ ?_ hS ls ?_
          · rw [e3]; exact hP
          · rw [e3]; exact hD
          · rw [e2]; exact lv_sub hl [0, 2, 3] rfl
        · refine lv_aload_n hx hb d_Mo_go_35 rfl (lv_at hl 3 rfl) ?_
          refine va_get (D := D) (ci := 2) (v := .int (nI 0)) (C := R_Mo) (T := F_Mo) (N := 10) hx hb hw i_Mo hown hK.1 hP 0 rfl rfl 0 (by decide) (hw _ k_222) (fun _ h9 => h9) rfl d_Mo_go_36 ?_
          refine n_if_ne (tgt := 140) hx hb d_Mo_go_39 (by decide) (by omega) (fun c_39 => ?_) (fun c_39 => ?_)
          · exfalso; omega
          · refine lv_aload_n hx hb d_Mo_go_42 rfl (lv_at hl 3 rfl) ?_
            refine va_get (D := D) (ci := 2) (v := .ref yr) (C := R_Mo) (T := F_Mo) (N := 10) hx hb hw i_Mo hown hK.1 hP 0 rfl rfl 5 (by decide) (hw _ k_227) (fun _ h9 => h9) rfl d_Mo_go_43 ?_
            refine lv_iload_n hx hb d_Mo_go_46 rfl (lv_at hl 1 rfl) ?_
            refine ia_ld hx hb hK.1 hP 2 1 rfl rfl (by omega) (by decide) d_Mo_go_47 ?_
            refine lv_iconst (v := nI 1) hx hb d_Mo_go_48 (by decide +kernel) ?_
            refine n_icmp_ne (tgt := 64) hx hb d_Mo_go_49 (by decide) (Nat.lt_trans (hw256 _) (by decide)) (by omega) (fun c_49 => ?_) (fun c_49 => ?_)
            · refine lv_iload_n hx hb d_Mo_go_64 rfl (lv_at hl 1 rfl) ?_
              refine lv_iconst (v := nI 3) hx hb d_Mo_go_65 (by decide +kernel) ?_
              refine n_iadd hx hb d_Mo_go_66 ?_
              refine lv_iload_n hx hb d_Mo_go_67 rfl (lv_at hl 0 rfl) ?_
              refine n_iadd hx hb d_Mo_go_68 ?_
              refine lv_istore (lv' := [(4, .int (nI ((((enc qs).length) + 3) + k))), (3, .int (nI k)), (2, .int (nI ((enc qs).length))), (1, .int (nI (sN qs + k))), (0, .ref y)]) hx hb d_Mo_go_69 hl (by decide) rfl (fun ls hl => ?_)
              refine lv_aload_n hx hb d_Mo_go_71 rfl (lv_at hl 4 rfl) ?_
              refine va_get (D := D) (ci := 2) (v := .ref yr) (C := R_Mo) (T := F_Mo) (N := 10) hx hb hw i_Mo hown hK.1 hP 0 rfl rfl 5 (by decide) (hw _ k_227) (fun _ h9 => h9) rfl d_Mo_go_72 ?_
              refine lv_iload_n hx hb d_Mo_go_75 rfl (lv_at hl 2 rfl) ?_
              refine ia_ld hx hb hK.1 hP 2 1 rfl rfl (by omega) (by decide) d_Mo_go_76 ?_
              refine lv_iconst (v := nI 1) hx hb d_Mo_go_77 (by decide +kernel) ?_
              refine n_icmp_ne (tgt := 98) hx hb d_Mo_go_78 (by decide) (Nat.lt_trans (hw256 _) (by decide)) (by omega) (fun c_78 => ?_) (fun c_78 => ?_)
              · refine lv_aload_n hx hb d_Mo_go_98 rfl (lv_at hl 4 rfl) ?_
                refine va_get (D := D) (ci := 2) (v := .ref yn) (C := R_Mo) (T := F_Mo) (N := 10) hx hb hw i_Mo hown hK.1 hP 0 rfl rfl 9 (by decide) (hw _ k_231) (fun _ h9 => h9) rfl d_Mo_go_99 ?_
                refine lv_iload_n hx hb d_Mo_go_102 rfl (lv_at hl 3 rfl) ?_
                refine lv_aload_n hx hb d_Mo_go_103 rfl (lv_at hl 4 rfl) ?_
                refine va_get (D := D) (ci := 2) (v := .ref yr) (C := R_Mo) (T := F_Mo) (N := 10) hx hb hw i_Mo hown hK.1 hP 0 rfl rfl 5 (by decide) (hw _ k_227) (fun _ h9 => h9) rfl d_Mo_go_104 ?_
                refine lv_iload_n hx hb d_Mo_go_107 rfl (lv_at hl 2 rfl) ?_
                refine ia_ld hx hb hK.1 hP 2 1 rfl rfl (by omega) (by decide) d_Mo_go_108 ?_
                refine lv_iconst (v := nI 1) hx hb d_Mo_go_109 (by decide +kernel) ?_
                refine n_icmp_ne (tgt := 123) hx hb d_Mo_go_110 (by decide) (Nat.lt_trans (hw256 _) (by decide)) (by omega) (fun c_110 => ?_) (fun c_110 => ?_)
                · refine lv_aload_n hx hb d_Mo_go_123 rfl (lv_at hl 4 rfl) ?_
                  refine va_get (D := D) (ci := 2) (v := .ref yr) (C := R_Mo) (T := F_Mo) (N := 10) hx hb hw i_Mo hown hK.1 hP 0 rfl rfl 5 (by decide) (hw _ k_227) (fun _ h9 => h9) rfl d_Mo_go_124 ?_
                  refine lv_iload hx hb d_Mo_go_127 (lv_at hl 0 rfl) ?_
                  refine ia_ld hx hb hK.1 hP 2 1 rfl rfl (by omega) (by decide) d_Mo_go_129 ?_
                  refine ia_st hx hb hK.1 hP hD hS 4 1 rfl rfl (by omega) (by decide) d_Mo_go_130 (fun H locs hP hD hS => ?_)
                  rw [show va_up (spl X 0 (outs B qs ++ sg w ((enc qs).length + 3) k)) (sN qs + k) (w ((((enc qs).length) + 3) + k)) = spl X 0 (outs B qs ++ sg w ((enc qs).length + 3) k ++ [w ((enc qs).length + 3 + k)]) from spl_sn0 _ _ _ (by rw [List.length_append, outs_len, sg_len])] at hP hD
                  have hP : va_P D classes [(y, .inr (2, [.int (nI 0), .ref yb, .int (nI bs), .ref yt, .int v2, .ref yr, .int (nI ((enc ps).length)), .ref yo, .int v4, .ref yn])), (yb, .inl (cI, 600, .inl (iA B))), (yr, .inl (cI, 2000, .inl (iA w))), (yo, .inl (cI, 600, .inl (iA G))), (yn, .inl (cI, 600, .inl (iA (spl X 0 (outs B qs ++ sg w ((enc qs).length + 3) k ++ [w ((enc qs).length + 3 + k)])))))] H := hP
                  have hD : va_D A [(y, .inr (2, [.int (nI 0), .ref yb, .int (nI bs), .ref yt, .int v2, .ref yr, .int (nI ((enc ps).length)), .ref yo, .int v4, .ref yn])), (yb, .inl (cI, 600, .inl (iA B))), (yr, .inl (cI, 2000, .inl (iA w))), (yo, .inl (cI, 600, .inl (iA G))), (yn, .inl (cI, 600, .inl (iA (spl X 0 (outs B qs ++ sg w ((enc qs).length + 3) k ++ [w ((enc qs).length + 3 + k)])))))] := hD
                  refine lv_iinc (v := nI ((sN qs + k) + 1)) (lv' := [(1, .int (nI ((sN qs + k) + 1))), (4, .int (nI ((((enc qs).length) + 3) + k))), (3, .int (nI k)), (2, .int (nI ((enc qs).length))), (0, .ref y)]) hx hb d_Mo_go_131 hl (k := 3) rfl (nI_inc1 _) (by decide) rfl (fun ls hl => ?_)
                  refine lv_iinc (v := nI (k + 1)) (lv' := [(3, .int (nI (k + 1))), (1, .int (nI ((sN qs + k) + 1))), (4, .int (nI ((((enc qs).length) + 3) + k))), (2, .int (nI ((enc qs).length))), (0, .ref y)]) hx hb d_Mo_go_134 hl (k := 2) rfl (nI_inc1 _) (by decide) rfl (fun ls hl => ?_)
                  refine lv_goto (tgt := 26) hx hb d_Mo_go_137 (by decide) ?_
                  rw [List.append_assoc, ← sg_snoc] at hP hD
                  exact ih (k + 1) (by omega) (by omega) H locs hP hD hS ls (lv_sub hl [0, 3, 1, 4] rfl)
                · omega
              · omega
            · omega
    refine lv_iload_n hx hb d_Mo_go_9 rfl (lv_at hl 0 rfl) ?_
    refine lv_aload_n hx hb d_Mo_go_10 rfl (lv_at hl 2 rfl) ?_
    refine va_get (D := D) (ci := 2) (v := .int (nI ((enc ps).length))) (C := R_Mo) (T := F_Mo) (N := 10) hx hb hw i_Mo hown hK.1 hP 0 rfl rfl 6 (by decide) (hw _ k_228) (fun _ h9 => h9) rfl d_Mo_go_11 ?_
    refine n_icmp_ge (tgt := 149) hx hb d_Mo_go_14 (by decide) (by omega) (by omega) (fun c_14 => ?_) (fun c_14 => ?_)
    · exfalso; omega
    · refine lv_aload_n hx hb d_Mo_go_17 rfl (lv_at hl 2 rfl) ?_
      refine va_get (D := D) (ci := 2) (v := .int (nI 0)) (C := R_Mo) (T := F_Mo) (N := 10) hx hb hw i_Mo hown hK.1 hP 0 rfl rfl 0 (by decide) (hw _ k_222) (fun _ h9 => h9) rfl d_Mo_go_18 ?_
      refine n_if_ne (tgt := 149) hx hb d_Mo_go_21 (by decide) (by omega) (fun c_21 => ?_) (fun c_21 => ?_)
      · exfalso; omega
      · refine lv_iconst (v := nI 0) hx hb d_Mo_go_24 (by decide +kernel) ?_
        refine lv_istore_n (lv' := [(3, .int (nI 0)), (2, .int (nI ((enc qs).length))), (1, .int (nI (sN qs))), (0, .ref y)]) hx hb d_Mo_go_25 rfl hl (by decide) rfl (fun ls hl => ?_)
        refine inn (xs.length + 1) 0 (Nat.zero_le _) (by omega) H locs ?_ ?_ hS ls (lv_sub hl [0, 1, 2, 3] rfl)
        · rw [show sg w ((enc qs).length + 3) 0 = [] from rfl, List.append_nil]; exact hP
        · rw [show sg w ((enc qs).length + 3) 0 = [] from rfl, List.append_nil]; exact hD
set_option maxHeartbeats 4000000 in
set_option maxRecDepth 100000 in
/-- PieceWaysModel.go where every copy fits -/
theorem c_Mo_go (l : Launch) (D : va_G) (cB cI cJ : ClassId) (y yb yt yr yo yn : Nat) (th : Int32) (v2 v4 : Int32) (w B G X : Nat → Nat) (hw256 : ∀ i, w i < 256) (ps : List Pce) (hok : okW ps) (hR : Rd w ps) (bs : Nat) (hbs : bs ≤ 600) (hfit : fits_W bs ps) : Met l y_Mo_go (Wd y_Mo_go b_Mo_go 5 (some .int)) ({ frames := 2, cells := 0, slots := 0, locals := 60 }) (ip_P D cB cI cJ [.ref y] [(y, .inr (2, [.int th, .ref yb, .int (nI bs), .ref yt, .int v2, .ref yr, .int (nI ((enc ps).length)), .ref yo, .int v4, .ref yn])), (yb, .inl (cI, 600, .inl (iA B))), (yr, .inl (cI, 2000, .inl (iA w))), (yo, .inl (cI, 600, .inl (iA G))), (yn, .inl (cI, 600, .inl (iA X)))]) (ip_Q D [(y, .inr (2, [.int th, .ref yb, .int (nI bs), .ref yt, .int v2, .ref yr, .int (nI ((enc ps).length)), .ref yo, .int v4, .ref yn])), (yb, .inl (cI, 600, .inl (iA B))), (yr, .inl (cI, 2000, .inl (iA w))), (yo, .inl (cI, 600, .inl (iA G))), (yn, .inl (cI, 600, .inl (iA X)))] (fun _ : Unit => True) (fun _ : Unit => some (.int (nI (sN ps)))) (fun _ : Unit => [(y, .inr (2, [.int (nI 0), .ref yb, .int (nI bs), .ref yt, .int v2, .ref yr, .int (nI ((enc ps).length)), .ref yo, .int (nI (sN ps)), .ref yn])), (yb, .inl (cI, 600, .inl (iA B))), (yr, .inl (cI, 2000, .inl (iA w))), (yo, .inl (cI, 600, .inl (iA (spl G 0 (outs B ps))))), (yn, .inl (cI, 600, .inl (iA (spl X 0 (outs B ps)))))])) 0 0 (inW [(y, .inr (2, [.int th, .ref yb, .int (nI bs), .ref yt, .int v2, .ref yr, .int (nI ((enc ps).length)), .ref yo, .int v4, .ref yn])), (yb, .inl (cI, 600, .inl (iA B))), (yr, .inl (cI, 2000, .inl (iA w))), (yo, .inl (cI, 600, .inl (iA G))), (yn, .inl (cI, 600, .inl (iA X)))]) := by
  refine mt_ip (by decide) (Nat.le_of_ble_eq_true rfl) ?_
  intro p e s m args below meth c ls Q A hx hb hr hml hw hown hlk hP hK hD hS hl hAe hQ
  have hown : s.vm.findClass R_Mo = some m.cls := hown
  have hl : lv_has ls 5 [(0, .ref y)] := hl
  have hlen := hok.2.2
  have hsum := hok.2.1
  have loop : ∀ (rs qs : List Pce), ps = qs ++ rs → ∀ (H : Heap) (locs : List Loc), va_P D classes [(y, .inr (2, [.int (nI 0), .ref yb, .int (nI bs), .ref yt, .int v2, .ref yr, .int (nI ((enc ps).length)), .ref yo, .int v4, .ref yn])), (yb, .inl (cI, 600, .inl (iA B))), (yr, .inl (cI, 2000, .inl (iA w))), (yo, .inl (cI, 600, .inl (iA G))), (yn, .inl (cI, 600, .inl (iA (spl X 0 (outs B qs)))))] H → va_D A [(y, .inr (2, [.int (nI 0), .ref yb, .int (nI bs), .ref yt, .int v2, .ref yr, .int (nI ((enc ps).length)), .ref yo, .int v4, .ref yn])), (yb, .inl (cI, 600, .inl (iA B))), (yr, .inl (cI, 2000, .inl (iA w))), (yo, .inl (cI, 600, .inl (iA G))), (yn, .inl (cI, 600, .inl (iA (spl X 0 (outs B qs)))))] → va_S A s.heap H locs → ∀ ls : Array Slot, lv_has ls 5 [(2, .int (nI ((enc qs).length))), (1, .int (nI (sN qs))), (0, .ref y)] → W p l e ({ frames := 2, cells := 0, slots := 0, locals := 60 }) s m args below meth c H locs 0 0 Q (F0 m 9 ls []) := by
    intro rs
    induction rs with
    | cons pp rs ih =>
      intro qs hps
      exact g_Mo_step hx hb hml hw hown hK y yb yt yr yo yn v2 v4 w B G X hw256 ps hok hR bs hbs qs rs pp hps (hfit pp (by rw [hps]; exact List.mem_append_right _ List.mem_cons_self)) (ih (qs ++ [pp]) (by rw [hps, List.append_assoc]; rfl))
    | nil =>
      intro qs hps H locs hP hD hS ls hl
      rw [List.append_nil] at hps
      subst hps
      refine lv_iload_n hx hb d_Mo_go_9 rfl (lv_at hl 0 rfl) ?_
      refine lv_aload_n hx hb d_Mo_go_10 rfl (lv_at hl 2 rfl) ?_
      refine va_get (D := D) (ci := 2) (v := .int (nI ((enc ps).length))) (C := R_Mo) (T := F_Mo) (N := 10) hx hb hw i_Mo hown hK.1 hP 0 rfl rfl 6 (by decide) (hw _ k_228) (fun _ h9 => h9) rfl d_Mo_go_11 ?_
      refine n_icmp_ge (tgt := 149) hx hb d_Mo_go_14 (by decide) (by omega) (by omega) (fun c_14 => ?_) (fun c_14 => ?_)
      · refine lv_aload_n hx hb d_Mo_go_149 rfl (lv_at hl 2 rfl) ?_
        refine va_get (D := D) (ci := 2) (v := .int (nI 0)) (C := R_Mo) (T := F_Mo) (N := 10) hx hb hw i_Mo hown hK.1 hP 0 rfl rfl 0 (by decide) (hw _ k_222) (fun _ h9 => h9) rfl d_Mo_go_150 ?_
        refine n_if_eq (tgt := 158) hx hb d_Mo_go_153 (by decide) (by omega) (fun c_153 => ?_) (fun c_153 => ?_)
        · refine lv_iconst (v := nI 0) hx hb d_Mo_go_158 (by decide +kernel) ?_
          refine lv_istore_n (lv' := [(2, .int (nI 0)), (1, .int (nI (sN ps))), (0, .ref y)]) hx hb d_Mo_go_159 rfl hl (by decide) rfl (fun ls hl => ?_)
          have lp2 : ∀ (f k : Nat), k ≤ sN ps → sN ps < k + f → ∀ (H : Heap) (locs : List Loc), va_P D classes [(y, .inr (2, [.int (nI 0), .ref yb, .int (nI bs), .ref yt, .int v2, .ref yr, .int (nI ((enc ps).length)), .ref yo, .int v4, .ref yn])), (yb, .inl (cI, 600, .inl (iA B))), (yr, .inl (cI, 2000, .inl (iA w))), (yo, .inl (cI, 600, .inl (iA (spl G 0 (sg (spl X 0 (outs B ps)) 0 k))))), (yn, .inl (cI, 600, .inl (iA (spl X 0 (outs B ps)))))] H → va_D A [(y, .inr (2, [.int (nI 0), .ref yb, .int (nI bs), .ref yt, .int v2, .ref yr, .int (nI ((enc ps).length)), .ref yo, .int v4, .ref yn])), (yb, .inl (cI, 600, .inl (iA B))), (yr, .inl (cI, 2000, .inl (iA w))), (yo, .inl (cI, 600, .inl (iA (spl G 0 (sg (spl X 0 (outs B ps)) 0 k))))), (yn, .inl (cI, 600, .inl (iA (spl X 0 (outs B ps)))))] → va_S A s.heap H locs → ∀ ls : Array Slot, lv_has ls 5 [(2, .int (nI k)), (1, .int (nI (sN ps))), (0, .ref y)] → W p l e ({ frames := 2, cells := 0, slots := 0, locals := 60 }) s m args below meth c H locs 0 0 Q (F0 m 160 ls []) := by
            intro f
            induction f with
            | zero => intro k h1 h2; omega
            | succ f ih =>
              intro k h1 h2 H locs hP hD hS ls hl
              refine lv_iload_n hx hb d_Mo_go_160 rfl (lv_at hl 0 rfl) ?_
              refine lv_iload_n hx hb d_Mo_go_161 rfl (lv_at hl 1 rfl) ?_
              refine n_icmp_ge (tgt := 183) hx hb d_Mo_go_162 (by decide) (by omega) (by omega) (fun c_162 => ?_) (fun c_162 => ?_)
              · obtain rfl : k = sN ps := by omega
                have e1 : sg (spl X 0 (outs B ps)) 0 (sN ps) = outs B ps := by
                  have := sg_eq (w := (spl X 0 (outs B ps))) (a := 0) (l := outs B ps) (fun j hj => by rw [Nat.zero_add, spl_0 hj])
                  rwa [outs_len] at this
                rw [e1] at hP hD
                refine lv_aload_n hx hb d_Mo_go_183 rfl (lv_at hl 2 rfl) ?_
                refine lv_iload_n hx hb d_Mo_go_184 rfl (lv_at hl 1 rfl) ?_
                refine va_put (D := D) (ci := 2) (v := .int (nI (sN ps))) (ty := .int) (C := R_Mo) (T := F_Mo) (N := 10) hx hb hw i_Mo t_Mo t_Mo_ok n_Mo hown hK.1 hP hD hS 0 rfl rfl 8 (by decide) (hw _ k_230) (fun _ h9 => h9) rfl (by decide +kernel) rfl rfl (Nat.le_of_ble_eq_true rfl) d_Mo_go_185 (fun H locs hP hD hS => ?_)
                have hP : va_P D classes [(y, .inr (2, [.int (nI 0), .ref yb, .int (nI bs), .ref yt, .int v2, .ref yr, .int (nI ((enc ps).length)), .ref yo, .int (nI (sN ps)), .ref yn])), (yb, .inl (cI, 600, .inl (iA B))), (yr, .inl (cI, 2000, .inl (iA w))), (yo, .inl (cI, 600, .inl (iA (spl G 0 (outs B ps))))), (yn, .inl (cI, 600, .inl (iA (spl X 0 (outs B ps)))))] H := hP
                have hD : va_D A [(y, .inr (2, [.int (nI 0), .ref yb, .int (nI bs), .ref yt, .int v2, .ref yr, .int (nI ((enc ps).length)), .ref yo, .int (nI (sN ps)), .ref yn])), (yb, .inl (cI, 600, .inl (iA B))), (yr, .inl (cI, 2000, .inl (iA w))), (yo, .inl (cI, 600, .inl (iA (spl G 0 (outs B ps))))), (yn, .inl (cI, 600, .inl (iA (spl X 0 (outs B ps)))))] := hD
                refine lv_iload_n hx hb d_Mo_go_188 rfl (lv_at hl 1 rfl) ?_
                exact ip_iret hx hb hr hlk hAe hS () rfl trivial hP hQ d_Mo_go_189
              · refine lv_aload_n hx hb d_Mo_go_165 rfl (lv_at hl 2 rfl) ?_
                refine va_get (D := D) (ci := 2) (v := .ref yo) (C := R_Mo) (T := F_Mo) (N := 10) hx hb hw i_Mo hown hK.1 hP 0 rfl rfl 7 (by decide) (hw _ k_229) (fun _ h9 => h9) rfl d_Mo_go_166 ?_
                refine lv_iload_n hx hb d_Mo_go_169 rfl (lv_at hl 0 rfl) ?_
                refine lv_aload_n hx hb d_Mo_go_170 rfl (lv_at hl 2 rfl) ?_
                refine va_get (D := D) (ci := 2) (v := .ref yn) (C := R_Mo) (T := F_Mo) (N := 10) hx hb hw i_Mo hown hK.1 hP 0 rfl rfl 9 (by decide) (hw _ k_231) (fun _ h9 => h9) rfl d_Mo_go_171 ?_
                refine lv_iload_n hx hb d_Mo_go_174 rfl (lv_at hl 0 rfl) ?_
                refine ia_ld hx hb hK.1 hP 4 1 rfl rfl (by omega) (by decide) d_Mo_go_175 ?_
                refine ia_st hx hb hK.1 hP hD hS 3 1 rfl rfl (by omega) (by decide) d_Mo_go_176 (fun H locs hP hD hS => ?_)
                rw [show va_up (spl G 0 (sg (spl X 0 (outs B ps)) 0 k)) k ((spl X 0 (outs B ps)) k) = spl G 0 (sg (spl X 0 (outs B ps)) 0 (k + 1)) from by rw [spl_sn0 G (sg (spl X 0 (outs B ps)) 0 k) _ (by rw [sg_len]), sg_snoc, Nat.zero_add]] at hP hD
                have hP : va_P D classes [(y, .inr (2, [.int (nI 0), .ref yb, .int (nI bs), .ref yt, .int v2, .ref yr, .int (nI ((enc ps).length)), .ref yo, .int v4, .ref yn])), (yb, .inl (cI, 600, .inl (iA B))), (yr, .inl (cI, 2000, .inl (iA w))), (yo, .inl (cI, 600, .inl (iA (spl G 0 (sg (spl X 0 (outs B ps)) 0 (k + 1)))))), (yn, .inl (cI, 600, .inl (iA (spl X 0 (outs B ps)))))] H := hP
                have hD : va_D A [(y, .inr (2, [.int (nI 0), .ref yb, .int (nI bs), .ref yt, .int v2, .ref yr, .int (nI ((enc ps).length)), .ref yo, .int v4, .ref yn])), (yb, .inl (cI, 600, .inl (iA B))), (yr, .inl (cI, 2000, .inl (iA w))), (yo, .inl (cI, 600, .inl (iA (spl G 0 (sg (spl X 0 (outs B ps)) 0 (k + 1)))))), (yn, .inl (cI, 600, .inl (iA (spl X 0 (outs B ps)))))] := hD
                refine lv_iinc (v := nI (k + 1)) (lv' := [(2, .int (nI (k + 1))), (1, .int (nI (sN ps))), (0, .ref y)]) hx hb d_Mo_go_177 hl (k := 0) rfl (nI_inc1 _) (by decide) rfl (fun ls hl => ?_)
                refine lv_goto (tgt := 160) hx hb d_Mo_go_180 (by decide) ?_
                exact ih (k + 1) (by omega) (by omega) H locs hP hD hS ls (lv_sub hl [0, 1, 2] rfl)
          refine lp2 (sN ps + 1) 0 (Nat.zero_le _) (by omega) H locs ?_ ?_ hS ls (lv_sub hl [0, 1, 2] rfl)
          · show va_P D classes [(y, .inr (2, [.int (nI 0), .ref yb, .int (nI bs), .ref yt, .int v2, .ref yr, .int (nI ((enc ps).length)), .ref yo, .int v4, .ref yn])), (yb, .inl (cI, 600, .inl (iA B))), (yr, .inl (cI, 2000, .inl (iA w))), (yo, .inl (cI, 600, .inl (iA (spl G 0 [])))), (yn, .inl (cI, 600, .inl (iA (spl X 0 (outs B ps)))))] H
            rw [spl_nil]; exact hP
          · show va_D A [(y, .inr (2, [.int (nI 0), .ref yb, .int (nI bs), .ref yt, .int v2, .ref yr, .int (nI ((enc ps).length)), .ref yo, .int v4, .ref yn])), (yb, .inl (cI, 600, .inl (iA B))), (yr, .inl (cI, 2000, .inl (iA w))), (yo, .inl (cI, 600, .inl (iA (spl G 0 [])))), (yn, .inl (cI, 600, .inl (iA (spl X 0 (outs B ps)))))]
            rw [spl_nil]; exact hD
        · exfalso; omega
      · exfalso; omega
  refine lv_iconst (v := nI 0) hx hb d_Mo_go_0 (by decide +kernel) ?_
  refine lv_istore_n (lv' := [(1, .int (nI 0)), (0, .ref y)]) hx hb d_Mo_go_1 rfl hl (by decide) rfl (fun ls hl => ?_)
  refine lv_aload_n hx hb d_Mo_go_2 rfl (lv_at hl 1 rfl) ?_
  refine lv_iconst (v := nI 0) hx hb d_Mo_go_3 (by decide +kernel) ?_
  refine va_put (D := D) (ci := 2) (v := .int (nI 0)) (ty := .int) (C := R_Mo) (T := F_Mo) (N := 10) hx hb hw i_Mo t_Mo t_Mo_ok n_Mo hown hK.1 hP hD hS 0 rfl rfl 0 (by decide) (hw _ k_222) (fun _ h9 => h9) rfl (by decide +kernel) rfl rfl (Nat.le_of_ble_eq_true rfl) d_Mo_go_4 (fun H locs hP hD hS => ?_)
  have hP : va_P D classes [(y, .inr (2, [.int (nI 0), .ref yb, .int (nI bs), .ref yt, .int v2, .ref yr, .int (nI ((enc ps).length)), .ref yo, .int v4, .ref yn])), (yb, .inl (cI, 600, .inl (iA B))), (yr, .inl (cI, 2000, .inl (iA w))), (yo, .inl (cI, 600, .inl (iA G))), (yn, .inl (cI, 600, .inl (iA X)))] H := hP
  have hD : va_D A [(y, .inr (2, [.int (nI 0), .ref yb, .int (nI bs), .ref yt, .int v2, .ref yr, .int (nI ((enc ps).length)), .ref yo, .int v4, .ref yn])), (yb, .inl (cI, 600, .inl (iA B))), (yr, .inl (cI, 2000, .inl (iA w))), (yo, .inl (cI, 600, .inl (iA G))), (yn, .inl (cI, 600, .inl (iA X)))] := hD
  refine lv_iconst (v := nI 0) hx hb d_Mo_go_7 (by decide +kernel) ?_
  refine lv_istore_n (lv' := [(2, .int (nI 0)), (1, .int (nI 0)), (0, .ref y)]) hx hb d_Mo_go_8 rfl hl (by decide) rfl (fun ls hl => ?_)
  refine loop ps [] rfl H locs ?_ ?_ hS ls (lv_sub hl [0, 1, 2] rfl)
  · show va_P D classes [(y, .inr (2, [.int (nI 0), .ref yb, .int (nI bs), .ref yt, .int v2, .ref yr, .int (nI ((enc ps).length)), .ref yo, .int v4, .ref yn])), (yb, .inl (cI, 600, .inl (iA B))), (yr, .inl (cI, 2000, .inl (iA w))), (yo, .inl (cI, 600, .inl (iA G))), (yn, .inl (cI, 600, .inl (iA (spl X 0 []))))] H
    rw [spl_nil]; exact hP
  · show va_D A [(y, .inr (2, [.int (nI 0), .ref yb, .int (nI bs), .ref yt, .int v2, .ref yr, .int (nI ((enc ps).length)), .ref yo, .int v4, .ref yn])), (yb, .inl (cI, 600, .inl (iA B))), (yr, .inl (cI, 2000, .inl (iA w))), (yo, .inl (cI, 600, .inl (iA G))), (yn, .inl (cI, 600, .inl (iA (spl X 0 []))))]
    rw [spl_nil]; exact hD
set_option maxHeartbeats 4000000 in
set_option maxRecDepth 100000 in
/-- PieceWaysModel.go where a copy does not fit -/
theorem c_Mo_goX (l : Launch) (D : va_G) (cB cI cJ : ClassId) (y yb yt yr yo yn : Nat) (th : Int32) (v2 v4 : Int32) (w B G X : Nat → Nat) (hw256 : ∀ i, w i < 256) (ps : List Pce) (hok : okW ps) (hR : Rd w ps) (bs : Nat) (hbs : bs ≤ 600) (qs rs : List Pce) (q : Nat × Nat) (hps : ps = qs ++ Sum.inl q :: rs) (hfit : fits_W bs qs) (hbad : bs < q.1 + q.2) : Met l y_Mo_go (Wd y_Mo_go b_Mo_go 5 (some .int)) ({ frames := 2, cells := 0, slots := 0, locals := 60 }) (ip_P D cB cI cJ [.ref y] [(y, .inr (2, [.int th, .ref yb, .int (nI bs), .ref yt, .int v2, .ref yr, .int (nI ((enc ps).length)), .ref yo, .int v4, .ref yn])), (yb, .inl (cI, 600, .inl (iA B))), (yr, .inl (cI, 2000, .inl (iA w))), (yo, .inl (cI, 600, .inl (iA G))), (yn, .inl (cI, 600, .inl (iA X)))]) (ip_Q D [(y, .inr (2, [.int th, .ref yb, .int (nI bs), .ref yt, .int v2, .ref yr, .int (nI ((enc ps).length)), .ref yo, .int v4, .ref yn])), (yb, .inl (cI, 600, .inl (iA B))), (yr, .inl (cI, 2000, .inl (iA w))), (yo, .inl (cI, 600, .inl (iA G))), (yn, .inl (cI, 600, .inl (iA X)))] (fun u : Nat → Nat => True) (fun u : Nat → Nat => some (.int (nI 0))) (fun u : Nat → Nat => [(y, .inr (2, [.int (nI 1), .ref yb, .int (nI bs), .ref yt, .int v2, .ref yr, .int (nI ((enc ps).length)), .ref yo, .int v4, .ref yn])), (yb, .inl (cI, 600, .inl (iA B))), (yr, .inl (cI, 2000, .inl (iA w))), (yo, .inl (cI, 600, .inl (iA G))), (yn, .inl (cI, 600, .inl (iA u)))])) 0 0 (inW [(y, .inr (2, [.int th, .ref yb, .int (nI bs), .ref yt, .int v2, .ref yr, .int (nI ((enc ps).length)), .ref yo, .int v4, .ref yn])), (yb, .inl (cI, 600, .inl (iA B))), (yr, .inl (cI, 2000, .inl (iA w))), (yo, .inl (cI, 600, .inl (iA G))), (yn, .inl (cI, 600, .inl (iA X)))]) := by
  refine mt_ip (by decide) (Nat.le_of_ble_eq_true rfl) ?_
  intro p e s m args below meth c ls Q A hx hb hr hml hw hown hlk hP hK hD hS hl hAe hQ
  have hown : s.vm.findClass R_Mo = some m.cls := hown
  have hl : lv_has ls 5 [(0, .ref y)] := hl
  have hlen := hok.2.2
  have hsum := hok.2.1
  have helen : (enc ps).length = (enc qs).length + (eP (Sum.inl q)).length + (enc rs).length := by rw [hps, enc_len]
  have hsm : sN qs + nP (Sum.inl q) ≤ 600 := by
    rw [hps, sN_mid] at hsum; omega
  have h3 := eP_3 (Sum.inl q)
  have hpm : (Sum.inl q) ∈ ps := by rw [hps]; exact List.mem_append_right _ List.mem_cons_self
  have hpok := hok.1 (Sum.inl q) hpm
  have hnp : nP (Sum.inl q) = q.2 := rfl
  have hep := eP_c q
  obtain ⟨hc1, hc2, hc3⟩ := Rd_c hR hps
  obtain ⟨hk1, hk2, hk3⟩ := hpok
  have last : ∀ (f k : Nat), k ≤ q.2 → q.1 + k ≤ bs ∨ k = 0 → q.2 < k + f → ∀ (H : Heap) (locs : List Loc), va_P D classes [(y, .inr (2, [.int (nI 0), .ref yb, .int (nI bs), .ref yt, .int v2, .ref yr, .int (nI ((enc ps).length)), .ref yo, .int v4, .ref yn])), (yb, .inl (cI, 600, .inl (iA B))), (yr, .inl (cI, 2000, .inl (iA w))), (yo, .inl (cI, 600, .inl (iA G))), (yn, .inl (cI, 600, .inl (iA (spl X 0 (outs B qs ++ sg B q.1 k)))))] H → va_D A [(y, .inr (2, [.int (nI 0), .ref yb, .int (nI bs), .ref yt, .int v2, .ref yr, .int (nI ((enc ps).length)), .ref yo, .int v4, .ref yn])), (yb, .inl (cI, 600, .inl (iA B))), (yr, .inl (cI, 2000, .inl (iA w))), (yo, .inl (cI, 600, .inl (iA G))), (yn, .inl (cI, 600, .inl (iA (spl X 0 (outs B qs ++ sg B q.1 k)))))] → va_S A s.heap H locs → ∀ ls : Array Slot, lv_has ls 5 [(3, .int (nI k)), (2, .int (nI ((enc qs).length))), (1, .int (nI (sN qs + k))), (0, .ref y)] → W p l e ({ frames := 2, cells := 0, slots := 0, locals := 60 }) s m args below meth c H locs 0 0 Q (F0 m 26 ls []) := by
    intro f
    induction f with
    | zero => intro k h1 h0 h2; omega
    | succ f ih =>
      intro k h1 h0 h2 H locs hP hD hS ls hl
      refine lv_iload_n hx hb d_Mo_go_26 rfl (lv_at hl 0 rfl) ?_
      refine lv_aload_n hx hb d_Mo_go_27 rfl (lv_at hl 3 rfl) ?_
      refine lv_iload_n hx hb d_Mo_go_28 rfl (lv_at hl 1 rfl) ?_
      refine ro_V (As := [.int (nI ((enc qs).length))]) (rest := [.int (nI k)]) ⟨hx, hb, hml, hown, hw⟩ (c_Mo_many l D cB cI cJ y yb yt yr yo yn (nI 0) (nI bs) v2 (nI (enc ps).length) v4 w hw256 (enc qs).length (by omega)) g_Mo_56 hd_Mo_many rfl ⟨rfl, rfl⟩ ⟨by decide, by decide⟩ hP hK [0, 2] rfl 0 2 rfl rfl rfl hl.1 rfl (Nat.le_of_ble_eq_true rfl) ⟨Nat.zero_le _, Nat.zero_le _⟩ d_Mo_go_29 ?_
      refine tv_i (y := nI q.2) (by rw [mny_at hR hps]; rfl) ?_
      refine n_icmp_ge (tgt := 140) hx hb d_Mo_go_32 (by decide) (by omega) (by omega) (fun c_32 => ?_) (fun c_32 => ?_)
      · exfalso; omega
      · refine lv_aload_n hx hb d_Mo_go_35 rfl (lv_at hl 3 rfl) ?_
        refine va_get (D := D) (ci := 2) (v := .int (nI 0)) (C := R_Mo) (T := F_Mo) (N := 10) hx hb hw i_Mo hown hK.1 hP 0 rfl rfl 0 (by decide) (hw _ k_222) (fun _ h9 => h9) rfl d_Mo_go_36 ?_
        refine n_if_ne (tgt := 140) hx hb d_Mo_go_39 (by decide) (by omega) (fun c_39 => ?_) (fun c_39 => ?_)
        · exfalso; omega
        · refine lv_aload_n hx hb d_Mo_go_42 rfl (lv_at hl 3 rfl) ?_
          refine va_get (D := D) (ci := 2) (v := .ref yr) (C := R_Mo) (T := F_Mo) (N := 10) hx hb hw i_Mo hown hK.1 hP 0 rfl rfl 5 (by decide) (hw _ k_227) (fun _ h9 => h9) rfl d_Mo_go_43 ?_
          refine lv_iload_n hx hb d_Mo_go_46 rfl (lv_at hl 1 rfl) ?_
          refine ia_ld hx hb hK.1 hP 2 1 rfl rfl (by omega) (by decide) d_Mo_go_47 ?_
          refine lv_iconst (v := nI 1) hx hb d_Mo_go_48 (by decide +kernel) ?_
          refine n_icmp_ne (tgt := 64) hx hb d_Mo_go_49 (by decide) (Nat.lt_trans (hw256 _) (by decide)) (by omega) (fun c_49 => ?_) (fun c_49 => ?_)
          · exact absurd hc1 c_49
          · refine lv_aload_n hx hb d_Mo_go_52 rfl (lv_at hl 3 rfl) ?_
            refine lv_iload_n hx hb d_Mo_go_53 rfl (lv_at hl 1 rfl) ?_
            refine lv_iconst (v := nI 1) hx hb d_Mo_go_54 (by decide +kernel) ?_
            refine n_iadd hx hb d_Mo_go_55 ?_
            refine ro_V (As := [.int (nI (((enc qs).length) + 1))]) (rest := []) ⟨hx, hb, hml, hown, hw⟩ (c_Mo_two l D cB cI cJ y yb yt yr yo yn (nI 0) (nI bs) v2 (nI (enc ps).length) v4 w ((enc qs).length + 1) (by omega)) g_Mo_45 hd_Mo_two rfl ⟨rfl, rfl⟩ ⟨by decide, by decide⟩ hP hK [0, 2] rfl 0 2 rfl rfl rfl hl.1 rfl (Nat.le_of_ble_eq_true rfl) ⟨Nat.zero_le _, Nat.zero_le _⟩ d_Mo_go_56 ?_
            refine tv_i (y := nI q.1) (by rw [hc2]) ?_
            refine lv_iload_n hx hb d_Mo_go_59 rfl (lv_at hl 0 rfl) ?_
            refine n_iadd hx hb d_Mo_go_60 ?_
            refine lv_goto (tgt := 69) hx hb d_Mo_go_61 (by decide) ?_
            refine lv_istore (lv' := [(4, .int (nI (q.1 + k))), (3, .int (nI k)), (2, .int (nI ((enc qs).length))), (1, .int (nI (sN qs + k))), (0, .ref y)]) hx hb d_Mo_go_69 hl (by decide) rfl (fun ls hl => ?_)
            refine lv_aload_n hx hb d_Mo_go_71 rfl (lv_at hl 4 rfl) ?_
            refine va_get (D := D) (ci := 2) (v := .ref yr) (C := R_Mo) (T := F_Mo) (N := 10) hx hb hw i_Mo hown hK.1 hP 0 rfl rfl 5 (by decide) (hw _ k_227) (fun _ h9 => h9) rfl d_Mo_go_72 ?_
            refine lv_iload_n hx hb d_Mo_go_75 rfl (lv_at hl 2 rfl) ?_
            refine ia_ld hx hb hK.1 hP 2 1 rfl rfl (by omega) (by decide) d_Mo_go_76 ?_
            refine lv_iconst (v := nI 1) hx hb d_Mo_go_77 (by decide +kernel) ?_
            refine n_icmp_ne (tgt := 98) hx hb d_Mo_go_78 (by decide) (Nat.lt_trans (hw256 _) (by decide)) (by omega) (fun c_78 => ?_) (fun c_78 => ?_)
            · exact absurd hc1 c_78
            · refine lv_iload hx hb d_Mo_go_81 (lv_at hl 0 rfl) ?_
              refine lv_aload_n hx hb d_Mo_go_83 rfl (lv_at hl 4 rfl) ?_
              refine va_get (D := D) (ci := 2) (v := .int (nI bs)) (C := R_Mo) (T := F_Mo) (N := 10) hx hb hw i_Mo hown hK.1 hP 0 rfl rfl 2 (by decide) (hw _ k_224) (fun _ h9 => h9) rfl d_Mo_go_84 ?_
              refine n_icmp_lt (tgt := 98) hx hb d_Mo_go_87 (by decide) (by omega) (by omega) (fun c_87 => ?_) (fun c_87 => ?_)
              · refine lv_aload_n hx hb d_Mo_go_98 rfl (lv_at hl 4 rfl) ?_
                refine va_get (D := D) (ci := 2) (v := .ref yn) (C := R_Mo) (T := F_Mo) (N := 10) hx hb hw i_Mo hown hK.1 hP 0 rfl rfl 9 (by decide) (hw _ k_231) (fun _ h9 => h9) rfl d_Mo_go_99 ?_
                refine lv_iload_n hx hb d_Mo_go_102 rfl (lv_at hl 3 rfl) ?_
                refine lv_aload_n hx hb d_Mo_go_103 rfl (lv_at hl 4 rfl) ?_
                refine va_get (D := D) (ci := 2) (v := .ref yr) (C := R_Mo) (T := F_Mo) (N := 10) hx hb hw i_Mo hown hK.1 hP 0 rfl rfl 5 (by decide) (hw _ k_227) (fun _ h9 => h9) rfl d_Mo_go_104 ?_
                refine lv_iload_n hx hb d_Mo_go_107 rfl (lv_at hl 2 rfl) ?_
                refine ia_ld hx hb hK.1 hP 2 1 rfl rfl (by omega) (by decide) d_Mo_go_108 ?_
                refine lv_iconst (v := nI 1) hx hb d_Mo_go_109 (by decide +kernel) ?_
                refine n_icmp_ne (tgt := 123) hx hb d_Mo_go_110 (by decide) (Nat.lt_trans (hw256 _) (by decide)) (by omega) (fun c_110 => ?_) (fun c_110 => ?_)
                · exact absurd hc1 c_110
                · refine lv_aload_n hx hb d_Mo_go_113 rfl (lv_at hl 4 rfl) ?_
                  refine va_get (D := D) (ci := 2) (v := .ref yb) (C := R_Mo) (T := F_Mo) (N := 10) hx hb hw i_Mo hown hK.1 hP 0 rfl rfl 1 (by decide) (hw _ k_223) (fun _ h9 => h9) rfl d_Mo_go_114 ?_
                  refine lv_iload hx hb d_Mo_go_117 (lv_at hl 0 rfl) ?_
                  refine ia_ld hx hb hK.1 hP 1 1 rfl rfl (by omega) (by decide) d_Mo_go_119 ?_
                  refine lv_goto (tgt := 130) hx hb d_Mo_go_120 (by decide) ?_
                  refine ia_st hx hb hK.1 hP hD hS 4 1 rfl rfl (by omega) (by decide) d_Mo_go_130 (fun H locs hP hD hS => ?_)
                  rw [show va_up (spl X 0 (outs B qs ++ sg B q.1 k)) (sN qs + k) (B (q.1 + k)) = spl X 0 (outs B qs ++ sg B q.1 k ++ [B (q.1 + k)]) from spl_sn0 _ _ _ (by rw [List.length_append, outs_len, sg_len])] at hP hD
                  have hP : va_P D classes [(y, .inr (2, [.int (nI 0), .ref yb, .int (nI bs), .ref yt, .int v2, .ref yr, .int (nI ((enc ps).length)), .ref yo, .int v4, .ref yn])), (yb, .inl (cI, 600, .inl (iA B))), (yr, .inl (cI, 2000, .inl (iA w))), (yo, .inl (cI, 600, .inl (iA G))), (yn, .inl (cI, 600, .inl (iA (spl X 0 (outs B qs ++ sg B q.1 k ++ [B (q.1 + k)])))))] H := hP
                  have hD : va_D A [(y, .inr (2, [.int (nI 0), .ref yb, .int (nI bs), .ref yt, .int v2, .ref yr, .int (nI ((enc ps).length)), .ref yo, .int v4, .ref yn])), (yb, .inl (cI, 600, .inl (iA B))), (yr, .inl (cI, 2000, .inl (iA w))), (yo, .inl (cI, 600, .inl (iA G))), (yn, .inl (cI, 600, .inl (iA (spl X 0 (outs B qs ++ sg B q.1 k ++ [B (q.1 + k)])))))] := hD
                  refine lv_iinc (v := nI ((sN qs + k) + 1)) (lv' := [(1, .int (nI ((sN qs + k) + 1))), (4, .int (nI (q.1 + k))), (3, .int (nI k)), (2, .int (nI ((enc qs).length))), (0, .ref y)]) hx hb d_Mo_go_131 hl (k := 3) rfl (nI_inc1 _) (by decide) rfl (fun ls hl => ?_)
                  refine lv_iinc (v := nI (k + 1)) (lv' := [(3, .int (nI (k + 1))), (1, .int (nI ((sN qs + k) + 1))), (4, .int (nI (q.1 + k))), (2, .int (nI ((enc qs).length))), (0, .ref y)]) hx hb d_Mo_go_134 hl (k := 2) rfl (nI_inc1 _) (by decide) rfl (fun ls hl => ?_)
                  refine lv_goto (tgt := 26) hx hb d_Mo_go_137 (by decide) ?_
                  rw [List.append_assoc, ← sg_snoc] at hP hD
                  exact ih (k + 1) (by omega) (by omega) (by omega) H locs hP hD hS ls (lv_sub hl [0, 3, 1, 4] rfl)
              · refine lv_aload_n hx hb d_Mo_go_90 rfl (lv_at hl 4 rfl) ?_
                refine lv_iconst (v := nI 1) hx hb d_Mo_go_91 (by decide +kernel) ?_
                refine va_put (D := D) (ci := 2) (v := .int (nI 1)) (ty := .int) (C := R_Mo) (T := F_Mo) (N := 10) hx hb hw i_Mo t_Mo t_Mo_ok n_Mo hown hK.1 hP hD hS 0 rfl rfl 0 (by decide) (hw _ k_222) (fun _ h9 => h9) rfl (by decide +kernel) rfl rfl (Nat.le_of_ble_eq_true rfl) d_Mo_go_92 (fun H locs hP hD hS => ?_)
                have hP : va_P D classes [(y, .inr (2, [.int (nI 1), .ref yb, .int (nI bs), .ref yt, .int v2, .ref yr, .int (nI ((enc ps).length)), .ref yo, .int v4, .ref yn])), (yb, .inl (cI, 600, .inl (iA B))), (yr, .inl (cI, 2000, .inl (iA w))), (yo, .inl (cI, 600, .inl (iA G))), (yn, .inl (cI, 600, .inl (iA (spl X 0 (outs B qs ++ sg B q.1 k)))))] H := hP
                have hD : va_D A [(y, .inr (2, [.int (nI 1), .ref yb, .int (nI bs), .ref yt, .int v2, .ref yr, .int (nI ((enc ps).length)), .ref yo, .int v4, .ref yn])), (yb, .inl (cI, 600, .inl (iA B))), (yr, .inl (cI, 2000, .inl (iA w))), (yo, .inl (cI, 600, .inl (iA G))), (yn, .inl (cI, 600, .inl (iA (spl X 0 (outs B qs ++ sg B q.1 k)))))] := hD
                refine lv_goto (tgt := 134) hx hb d_Mo_go_95 (by decide) ?_
                refine lv_iinc (v := nI (k + 1)) (lv' := [(3, .int (nI (k + 1))), (4, .int (nI (q.1 + k))), (2, .int (nI ((enc qs).length))), (1, .int (nI (sN qs + k))), (0, .ref y)]) hx hb d_Mo_go_134 hl (k := 1) rfl (nI_inc1 _) (by decide) rfl (fun ls hl => ?_)
                refine lv_goto (tgt := 26) hx hb d_Mo_go_137 (by decide) ?_
                refine lv_iload_n hx hb d_Mo_go_26 rfl (lv_at hl 0 rfl) ?_
                refine lv_aload_n hx hb d_Mo_go_27 rfl (lv_at hl 4 rfl) ?_
                refine lv_iload_n hx hb d_Mo_go_28 rfl (lv_at hl 2 rfl) ?_
                refine ro_V (As := [.int (nI ((enc qs).length))]) (rest := [.int (nI (k + 1))]) ⟨hx, hb, hml, hown, hw⟩ (c_Mo_many l D cB cI cJ y yb yt yr yo yn (nI 1) (nI bs) v2 (nI (enc ps).length) v4 w hw256 (enc qs).length (by omega)) g_Mo_56 hd_Mo_many rfl ⟨rfl, rfl⟩ ⟨by decide, by decide⟩ hP hK [0, 2] rfl 0 2 rfl rfl rfl hl.1 rfl (Nat.le_of_ble_eq_true rfl) ⟨Nat.zero_le _, Nat.zero_le _⟩ d_Mo_go_29 ?_
                refine tv_i (y := nI q.2) (by rw [mny_at hR hps]; rfl) ?_
                refine n_icmp_ge (tgt := 140) hx hb d_Mo_go_32 (by decide) (by omega) (by omega) (fun c_32 => ?_) (fun c_32 => ?_)
                · refine lv_aload_n hx hb d_Mo_go_140 rfl (lv_at hl 4 rfl) ?_
                  refine lv_iload_n hx hb d_Mo_go_141 rfl (lv_at hl 2 rfl) ?_
                  refine ro_V (As := [.int (nI ((enc qs).length))]) (rest := []) ⟨hx, hb, hml, hown, hw⟩ (c_Mo_behind l D cB cI cJ y yb yt yr yo yn (nI 1) (nI bs) v2 (nI (enc ps).length) v4 w hw256 (enc qs).length (by omega)) g_Mo_59 hd_Mo_behind rfl ⟨rfl, rfl⟩ ⟨by decide, by decide⟩ hP hK [0, 2] rfl 0 2 rfl rfl rfl hl.1 rfl (Nat.le_of_ble_eq_true rfl) ⟨Nat.zero_le _, Nat.zero_le _⟩ d_Mo_go_142 ?_
                  refine tv_i (y := nI ((enc (qs ++ [Sum.inl q])).length)) (by rw [nxt_at hR hps]) ?_
                  refine lv_istore_n (lv' := [(2, .int (nI ((enc (qs ++ [Sum.inl q])).length))), (3, .int (nI (k + 1))), (4, .int (nI (q.1 + k))), (1, .int (nI (sN qs + k))), (0, .ref y)]) hx hb d_Mo_go_145 rfl hl (by decide) rfl (fun ls hl => ?_)
                  refine lv_goto (tgt := 9) hx hb d_Mo_go_146 (by decide) ?_
                  refine lv_iload_n hx hb d_Mo_go_9 rfl (lv_at hl 0 rfl) ?_
                  refine lv_aload_n hx hb d_Mo_go_10 rfl (lv_at hl 4 rfl) ?_
                  refine va_get (D := D) (ci := 2) (v := .int (nI ((enc ps).length))) (C := R_Mo) (T := F_Mo) (N := 10) hx hb hw i_Mo hown hK.1 hP 0 rfl rfl 6 (by decide) (hw _ k_228) (fun _ h9 => h9) rfl d_Mo_go_11 ?_
                  refine n_icmp_ge (tgt := 149) hx hb d_Mo_go_14 (by decide) (by rw [enc_snoc]; omega) (by omega) (fun c_14 => ?_) (fun c_14 => ?_)
                  · refine lv_aload_n hx hb d_Mo_go_149 rfl (lv_at hl 4 rfl) ?_
                    refine va_get (D := D) (ci := 2) (v := .int (nI 1)) (C := R_Mo) (T := F_Mo) (N := 10) hx hb hw i_Mo hown hK.1 hP 0 rfl rfl 0 (by decide) (hw _ k_222) (fun _ h9 => h9) rfl d_Mo_go_150 ?_
                    refine n_if_eq (tgt := 158) hx hb d_Mo_go_153 (by decide) (by omega) (fun c_153 => ?_) (fun c_153 => ?_)
                    · exfalso; omega
                    · refine lv_iconst (v := nI 0) hx hb d_Mo_go_156 (by decide +kernel) ?_
                      exact ip_iret hx hb hr hlk hAe hS (spl X 0 (outs B qs ++ sg B q.1 k)) rfl trivial hP hQ d_Mo_go_157
                  · refine lv_aload_n hx hb d_Mo_go_17 rfl (lv_at hl 4 rfl) ?_
                    refine va_get (D := D) (ci := 2) (v := .int (nI 1)) (C := R_Mo) (T := F_Mo) (N := 10) hx hb hw i_Mo hown hK.1 hP 0 rfl rfl 0 (by decide) (hw _ k_222) (fun _ h9 => h9) rfl d_Mo_go_18 ?_
                    refine n_if_ne (tgt := 149) hx hb d_Mo_go_21 (by decide) (by omega) (fun c_21 => ?_) (fun c_21 => ?_)
                    · refine lv_aload_n hx hb d_Mo_go_149 rfl (lv_at hl 4 rfl) ?_
                      refine va_get (D := D) (ci := 2) (v := .int (nI 1)) (C := R_Mo) (T := F_Mo) (N := 10) hx hb hw i_Mo hown hK.1 hP 0 rfl rfl 0 (by decide) (hw _ k_222) (fun _ h9 => h9) rfl d_Mo_go_150 ?_
                      refine n_if_eq (tgt := 158) hx hb d_Mo_go_153 (by decide) (by omega) (fun c_153 => ?_) (fun c_153 => ?_)
                      · exfalso; omega
                      · refine lv_iconst (v := nI 0) hx hb d_Mo_go_156 (by decide +kernel) ?_
                        exact ip_iret hx hb hr hlk hAe hS (spl X 0 (outs B qs ++ sg B q.1 k)) rfl trivial hP hQ d_Mo_go_157
                    · exfalso; omega
                · refine lv_aload_n hx hb d_Mo_go_35 rfl (lv_at hl 4 rfl) ?_
                  refine va_get (D := D) (ci := 2) (v := .int (nI 1)) (C := R_Mo) (T := F_Mo) (N := 10) hx hb hw i_Mo hown hK.1 hP 0 rfl rfl 0 (by decide) (hw _ k_222) (fun _ h9 => h9) rfl d_Mo_go_36 ?_
                  refine n_if_ne (tgt := 140) hx hb d_Mo_go_39 (by decide) (by omega) (fun c_39 => ?_) (fun c_39 => ?_)
                  · refine lv_aload_n hx hb d_Mo_go_140 rfl (lv_at hl 4 rfl) ?_
                    refine lv_iload_n hx hb d_Mo_go_141 rfl (lv_at hl 2 rfl) ?_
                    refine ro_V (As := [.int (nI ((enc qs).length))]) (rest := []) ⟨hx, hb, hml, hown, hw⟩ (c_Mo_behind l D cB cI cJ y yb yt yr yo yn (nI 1) (nI bs) v2 (nI (enc ps).length) v4 w hw256 (enc qs).length (by omega)) g_Mo_59 hd_Mo_behind rfl ⟨rfl, rfl⟩ ⟨by decide, by decide⟩ hP hK [0, 2] rfl 0 2 rfl rfl rfl hl.1 rfl (Nat.le_of_ble_eq_true rfl) ⟨Nat.zero_le _, Nat.zero_le _⟩ d_Mo_go_142 ?_
                    refine tv_i (y := nI ((enc (qs ++ [Sum.inl q])).length)) (by rw [nxt_at hR hps]) ?_
                    refine lv_istore_n (lv' := [(2, .int (nI ((enc (qs ++ [Sum.inl q])).length))), (3, .int (nI (k + 1))), (4, .int (nI (q.1 + k))), (1, .int (nI (sN qs + k))), (0, .ref y)]) hx hb d_Mo_go_145 rfl hl (by decide) rfl (fun ls hl => ?_)
                    refine lv_goto (tgt := 9) hx hb d_Mo_go_146 (by decide) ?_
                    refine lv_iload_n hx hb d_Mo_go_9 rfl (lv_at hl 0 rfl) ?_
                    refine lv_aload_n hx hb d_Mo_go_10 rfl (lv_at hl 4 rfl) ?_
                    refine va_get (D := D) (ci := 2) (v := .int (nI ((enc ps).length))) (C := R_Mo) (T := F_Mo) (N := 10) hx hb hw i_Mo hown hK.1 hP 0 rfl rfl 6 (by decide) (hw _ k_228) (fun _ h9 => h9) rfl d_Mo_go_11 ?_
                    refine n_icmp_ge (tgt := 149) hx hb d_Mo_go_14 (by decide) (by rw [enc_snoc]; omega) (by omega) (fun c_14 => ?_) (fun c_14 => ?_)
                    · refine lv_aload_n hx hb d_Mo_go_149 rfl (lv_at hl 4 rfl) ?_
                      refine va_get (D := D) (ci := 2) (v := .int (nI 1)) (C := R_Mo) (T := F_Mo) (N := 10) hx hb hw i_Mo hown hK.1 hP 0 rfl rfl 0 (by decide) (hw _ k_222) (fun _ h9 => h9) rfl d_Mo_go_150 ?_
                      refine n_if_eq (tgt := 158) hx hb d_Mo_go_153 (by decide) (by omega) (fun c_153 => ?_) (fun c_153 => ?_)
                      · exfalso; omega
                      · refine lv_iconst (v := nI 0) hx hb d_Mo_go_156 (by decide +kernel) ?_
                        exact ip_iret hx hb hr hlk hAe hS (spl X 0 (outs B qs ++ sg B q.1 k)) rfl trivial hP hQ d_Mo_go_157
                    · refine lv_aload_n hx hb d_Mo_go_17 rfl (lv_at hl 4 rfl) ?_
                      refine va_get (D := D) (ci := 2) (v := .int (nI 1)) (C := R_Mo) (T := F_Mo) (N := 10) hx hb hw i_Mo hown hK.1 hP 0 rfl rfl 0 (by decide) (hw _ k_222) (fun _ h9 => h9) rfl d_Mo_go_18 ?_
                      refine n_if_ne (tgt := 149) hx hb d_Mo_go_21 (by decide) (by omega) (fun c_21 => ?_) (fun c_21 => ?_)
                      · refine lv_aload_n hx hb d_Mo_go_149 rfl (lv_at hl 4 rfl) ?_
                        refine va_get (D := D) (ci := 2) (v := .int (nI 1)) (C := R_Mo) (T := F_Mo) (N := 10) hx hb hw i_Mo hown hK.1 hP 0 rfl rfl 0 (by decide) (hw _ k_222) (fun _ h9 => h9) rfl d_Mo_go_150 ?_
                        refine n_if_eq (tgt := 158) hx hb d_Mo_go_153 (by decide) (by omega) (fun c_153 => ?_) (fun c_153 => ?_)
                        · exfalso; omega
                        · refine lv_iconst (v := nI 0) hx hb d_Mo_go_156 (by decide +kernel) ?_
                          exact ip_iret hx hb hr hlk hAe hS (spl X 0 (outs B qs ++ sg B q.1 k)) rfl trivial hP hQ d_Mo_go_157
                      · exfalso; omega
                  · exfalso; omega
  have loop : ∀ (r1 q1 : List Pce), qs = q1 ++ r1 → ∀ (H : Heap) (locs : List Loc), va_P D classes [(y, .inr (2, [.int (nI 0), .ref yb, .int (nI bs), .ref yt, .int v2, .ref yr, .int (nI ((enc ps).length)), .ref yo, .int v4, .ref yn])), (yb, .inl (cI, 600, .inl (iA B))), (yr, .inl (cI, 2000, .inl (iA w))), (yo, .inl (cI, 600, .inl (iA G))), (yn, .inl (cI, 600, .inl (iA (spl X 0 (outs B q1)))))] H → va_D A [(y, .inr (2, [.int (nI 0), .ref yb, .int (nI bs), .ref yt, .int v2, .ref yr, .int (nI ((enc ps).length)), .ref yo, .int v4, .ref yn])), (yb, .inl (cI, 600, .inl (iA B))), (yr, .inl (cI, 2000, .inl (iA w))), (yo, .inl (cI, 600, .inl (iA G))), (yn, .inl (cI, 600, .inl (iA (spl X 0 (outs B q1)))))] → va_S A s.heap H locs → ∀ ls : Array Slot, lv_has ls 5 [(2, .int (nI ((enc q1).length))), (1, .int (nI (sN q1))), (0, .ref y)] → W p l e ({ frames := 2, cells := 0, slots := 0, locals := 60 }) s m args below meth c H locs 0 0 Q (F0 m 9 ls []) := by
    intro r1
    induction r1 with
    | cons pp r1 ih =>
      intro q1 hq1
      have hps1 : ps = q1 ++ pp :: (r1 ++ Sum.inl q :: rs) := by rw [hps, hq1, List.append_assoc]; rfl
      exact g_Mo_step hx hb hml hw hown hK y yb yt yr yo yn v2 v4 w B G X hw256 ps hok hR bs hbs q1 _ pp hps1 (hfit pp (by rw [hq1]; exact List.mem_append_right _ List.mem_cons_self)) (ih (q1 ++ [pp]) (by rw [hq1, List.append_assoc]; rfl))
    | nil =>
      intro q1 hq1 H locs hP hD hS ls hl
      rw [List.append_nil] at hq1
      subst hq1
      refine lv_iload_n hx hb d_Mo_go_9 rfl (lv_at hl 0 rfl) ?_
      refine lv_aload_n hx hb d_Mo_go_10 rfl (lv_at hl 2 rfl) ?_
      refine va_get (D := D) (ci := 2) (v := .int (nI ((enc ps).length))) (C := R_Mo) (T := F_Mo) (N := 10) hx hb hw i_Mo hown hK.1 hP 0 rfl rfl 6 (by decide) (hw _ k_228) (fun _ h9 => h9) rfl d_Mo_go_11 ?_
      refine n_icmp_ge (tgt := 149) hx hb d_Mo_go_14 (by decide) (by omega) (by omega) (fun c_14 => ?_) (fun c_14 => ?_)
      · exfalso; omega
      · refine lv_aload_n hx hb d_Mo_go_17 rfl (lv_at hl 2 rfl) ?_
        refine va_get (D := D) (ci := 2) (v := .int (nI 0)) (C := R_Mo) (T := F_Mo) (N := 10) hx hb hw i_Mo hown hK.1 hP 0 rfl rfl 0 (by decide) (hw _ k_222) (fun _ h9 => h9) rfl d_Mo_go_18 ?_
        refine n_if_ne (tgt := 149) hx hb d_Mo_go_21 (by decide) (by omega) (fun c_21 => ?_) (fun c_21 => ?_)
        · exfalso; omega
        · refine lv_iconst (v := nI 0) hx hb d_Mo_go_24 (by decide +kernel) ?_
          refine lv_istore_n (lv' := [(3, .int (nI 0)), (2, .int (nI ((enc qs).length))), (1, .int (nI (sN qs))), (0, .ref y)]) hx hb d_Mo_go_25 rfl hl (by decide) rfl (fun ls hl => ?_)
          refine last (q.2 + 1) 0 (Nat.zero_le _) (Or.inr rfl) (by omega) H locs ?_ ?_ hS ls (lv_sub hl [0, 1, 2, 3] rfl)
          · rw [show sg B q.1 0 = [] from rfl, List.append_nil]; exact hP
          · rw [show sg B q.1 0 = [] from rfl, List.append_nil]; exact hD
  refine lv_iconst (v := nI 0) hx hb d_Mo_go_0 (by decide +kernel) ?_
  refine lv_istore_n (lv' := [(1, .int (nI 0)), (0, .ref y)]) hx hb d_Mo_go_1 rfl hl (by decide) rfl (fun ls hl => ?_)
  refine lv_aload_n hx hb d_Mo_go_2 rfl (lv_at hl 1 rfl) ?_
  refine lv_iconst (v := nI 0) hx hb d_Mo_go_3 (by decide +kernel) ?_
  refine va_put (D := D) (ci := 2) (v := .int (nI 0)) (ty := .int) (C := R_Mo) (T := F_Mo) (N := 10) hx hb hw i_Mo t_Mo t_Mo_ok n_Mo hown hK.1 hP hD hS 0 rfl rfl 0 (by decide) (hw _ k_222) (fun _ h9 => h9) rfl (by decide +kernel) rfl rfl (Nat.le_of_ble_eq_true rfl) d_Mo_go_4 (fun H locs hP hD hS => ?_)
  have hP : va_P D classes [(y, .inr (2, [.int (nI 0), .ref yb, .int (nI bs), .ref yt, .int v2, .ref yr, .int (nI ((enc ps).length)), .ref yo, .int v4, .ref yn])), (yb, .inl (cI, 600, .inl (iA B))), (yr, .inl (cI, 2000, .inl (iA w))), (yo, .inl (cI, 600, .inl (iA G))), (yn, .inl (cI, 600, .inl (iA X)))] H := hP
  have hD : va_D A [(y, .inr (2, [.int (nI 0), .ref yb, .int (nI bs), .ref yt, .int v2, .ref yr, .int (nI ((enc ps).length)), .ref yo, .int v4, .ref yn])), (yb, .inl (cI, 600, .inl (iA B))), (yr, .inl (cI, 2000, .inl (iA w))), (yo, .inl (cI, 600, .inl (iA G))), (yn, .inl (cI, 600, .inl (iA X)))] := hD
  refine lv_iconst (v := nI 0) hx hb d_Mo_go_7 (by decide +kernel) ?_
  refine lv_istore_n (lv' := [(2, .int (nI 0)), (1, .int (nI 0)), (0, .ref y)]) hx hb d_Mo_go_8 rfl hl (by decide) rfl (fun ls hl => ?_)
  refine loop qs [] rfl H locs ?_ ?_ hS ls (lv_sub hl [0, 1, 2] rfl)
  · show va_P D classes [(y, .inr (2, [.int (nI 0), .ref yb, .int (nI bs), .ref yt, .int v2, .ref yr, .int (nI ((enc ps).length)), .ref yo, .int v4, .ref yn])), (yb, .inl (cI, 600, .inl (iA B))), (yr, .inl (cI, 2000, .inl (iA w))), (yo, .inl (cI, 600, .inl (iA G))), (yn, .inl (cI, 600, .inl (iA (spl X 0 []))))] H
    rw [spl_nil]; exact hP
  · show va_D A [(y, .inr (2, [.int (nI 0), .ref yb, .int (nI bs), .ref yt, .int v2, .ref yr, .int (nI ((enc ps).length)), .ref yo, .int v4, .ref yn])), (yb, .inl (cI, 600, .inl (iA B))), (yr, .inl (cI, 2000, .inl (iA w))), (yo, .inl (cI, 600, .inl (iA G))), (yn, .inl (cI, 600, .inl (iA (spl X 0 []))))]
    rw [spl_nil]; exact hD
end
section
/-! methods that make cells: contracts 'al' -/
def al_P (D : va_G) (cB cI cJ : ClassId) (av : List Value) (w : va_W) (sz : Nat) : Array Value → State → Prop := fun v U => v = av.toArray ∧ U.heap.size = sz ∧ va_P D classes w U.heap ∧ KX D cB cI cJ U ∧ va_D (fun _ => True) w
def al_Q {S : Type} (D : va_G) (w : va_W) (sz : Nat) (w' : S → va_W) : Array Value → State → Outcome → State → Prop := fun _ st oc t => ∃ u : S, oc = .returned none ∧ va_P D classes (w' u) t.heap ∧ va_D (va_A w sz) (w' u) ∧ va_F (va_A w sz) st t
theorem al_blind {D : va_G} {cB cI cJ : ClassId} {av : List Value} {w : va_W} {sz : Nat} : FrameBlind (al_P D cB cI cJ av w sz) := fun _ _ _ _ q => ⟨q.1, q.2.1, q.2.2.1, KX.vm rfl q.2.2.2.1, q.2.2.2.2⟩
theorem mt_al {S : Type} {l : Launch} {D : va_G} {cB cI cJ : ClassId} {y : MethodName} {cc : ByteArray} {maxL mc ms sz : Nat} {rm : Room} {av : List Value} {w : va_W} {w' : S → va_W} (hy : plainName y.cls = true) (hin : y.name = "<init>") (hle : (lg_sl av).length ≤ maxL)
    (body : ∀ (p : Program) (e : Env) (s : State) (m : MethodId) (args : Array Value) (below : List Frame) (meth : Method) (c : Code) (ls : Array Slot) (Q : State → Prop) (A : Nat → Prop), p.tables.exec = Jvm.exec → c.code = cc → meth.sig.returnType = none → c.maxLocals = maxL → (∀ w ∈ gw, w.before args s = true) → s.vm.findClass y.cls = some m.cls → meth.locks = false → meth.name = "<init>" → va_P D classes w s.heap → KX D cB cI cJ s → va_D A w → va_S A s.heap s.heap [] → (∀ q, s.heap.size ≤ q → A q) → lv_has ls maxL (lv_args 0 av) → s.heap.size = sz → A = va_A w sz → Q = MQ below (al_Q D w sz w') args s mc ms (va_A w sz) →
      W p l e rm s m args below meth c s.heap [] 0 0 Q (F0 m 0 ls [])) : Met l y (Wd y cc maxL none) rm (al_P D cB cI cJ av w sz) (al_Q D w sz w') mc ms (va_A w sz) := by
  refine Met.ofW (cc := cc) (maxL := maxL) (ret := none) hy rfl ?_
  intro p e s m args below meth c s₁ B hml hv
  obtain ⟨rfl, hsz, hP, hK, hD⟩ := hv
  have hts := atoms_spec (ws := Wd y cc maxL none) B.pre
  rw [lg_entry_eq]
  exact body p e s m _ below meth c _ _ _ B.exec B.bytes B.returns hml (fun w hw => hts w (List.mem_cons_of_mem _ hw)) (findClass_of_methodNamed B.named) B.notSynchronized ((name_of_methodNamed B.named B.method).1.trans hin) hP hK hD.self va_S.rf (fun q h => Or.inr (by rw [← hsz]; exact h)) (lv_entry av hle) hsz rfl rfl
theorem na_i (n : Nat) (cA : ClassId) : vp_cell cA (n, .inl (iA (fun _ => 0))) = arrV cA n (fun _ => defaultValue .int) := by
  rw [vp_cell_i]; rfl
theorem na_b (n : Nat) (cA : ClassId) : vp_cell cA (n, .inl (bA (fun _ => 0))) = arrV cA n (fun _ => defaultValue .byte) := by
  rw [vp_cell_i]
  have : (fun j => Value.int (bA (fun _ => 0) j)) = (fun _ : Nat => defaultValue .byte) := by
    funext j
    show Value.int (bI 0) = Value.int 0
    rw [show bI 0 = 0 by decide +kernel]
  rw [this]
theorem na_raw (n : Nat) (cA : ClassId) : vp_cell cA (n, .inl (fun _ => 0)) = arrV cA n (fun _ => defaultValue .int) := rfl
theorem na_l (n : Nat) (cA : ClassId) : vp_cell cA (n, .inr (.inl (fun _ => 0))) = arrV cA n (fun _ => defaultValue .long) := rfl
section Alloc
variable {p : Program} {l : Launch} {e : Env} {R : Room} {s : State} {m : MethodId} {args : Array Value} {below : List Frame} {meth : Method} {c : Code} {H : Heap} {locs : List Loc} {cells slots : Nat} {Q : State → Prop} {cc bytes : ByteArray} {pc nL maxL index n mc ms : Nat} {ls : Array Slot} {st0 rest As : List Value} {own C : String} {y : MethodName} {rm : Room} {D : va_G} {cB cI cJ : ClassId} {wc wr ws : va_W} {b : Nat} {A : Nat → Prop} {H0 : Heap} {S : Type} {w' : S → va_W}
theorem al_newa (hx : p.tables.exec = Jvm.exec) (hb : c.code = cc) {atype : ArrayType} {ty : FieldType} (hty : newarray.typeOf atype = ty) (harr : (Cond.arrayClass ty).before args s = true) (hK : KX D cB cI cJ s) (hP : va_P D classes ws H) (hD : va_D A ws) (hS : va_S A H0 H locs) (hA : ∀ q, H0.size ≤ q → A q) (t0 : Nat) {cA0 : ClassId} (ht0 : (TYs cB cI cJ)[t0]? = some (cA0, ty)) (hp : ∀ cA, va_RA s cA ty → s.vm.findClass ("[" ++ ty.toString) = some cA)
    {N N' : Nat} {a0 : vp_A} (ha : ∀ cA : ClassId, vp_cell cA a0 = arrV cA N' (fun _ => defaultValue ty)) (hN : N = N') (hN31 : N < 2 ^ 31) (hbytes : N' * componentBytes ty ≤ 536870912) (hcells : cells + 1 ≤ R.cells) (hslots : slots + N' ≤ R.slots) (hdg : decode cc pc = .ok (.newarray atype, 2))
    (kk : ∀ (q : Nat) (H1 : Heap), va_P D classes (ws ++ [(q, .inl (cA0, a0))]) H1 → va_D A (ws ++ [(q, .inl (cA0, a0))]) → va_S A H0 H1 locs → W p l e R s m args below meth c H1 locs (cells + 1) (slots + N') Q (F0 m (pc + 2) ls (.ref q :: rest))) : W p l e R s m args below meth c H locs cells slots Q (F0 m pc ls (.int (nI N) :: rest)) := by
  refine va_newa hx hb (by rw [hty]; exact harr) hty hK.1 hP hD hS hA ha (nI_pos hN31) ((nI_clamp hN31).trans hN) hbytes hcells hslots hdg (fun q cA H1 hK1 hP1 hD1 hS1 => ?_)
  have e1 := hp cA (hK1.2 3 (cA, ty) rfl).2
  have e2 := hp cA0 (hK.1.2 t0 _ ht0).2
  obtain rfl : cA = cA0 := Option.some.inj (e1.symm.trans e2)
  exact kk q H1 hP1 hD1 hS1
theorem al_vret (hx : p.tables.exec = Jvm.exec) (hb : c.code = cc) (hr : meth.sig.returnType = none) (hlk : meth.locks = false) {w : va_W} {sz : Nat} (hAe : A = va_A w sz) (hS : va_S A s.heap H locs) (u : S) (hP : va_P D classes (w' u) H) (hD : va_D A (w' u)) (hQ : Q = MQ below (al_Q D w sz w') args s cells slots (va_A w sz)) (hdg : decode cc pc = .ok (.return_, 1)) : W p l e R s m args below meth c H locs cells slots Q (F0 m pc ls []) := by
  rw [hQ]
  subst hAe
  exact W.vret hx hb hr (fun t ht _ => ⟨u, rfl, by rw [ht]; exact hP, hD, hS.F ht⟩) hS.2.2 hdg (hlocks := hlk)
theorem al_end {a : Array Value} (hr : va_Run p l e R s m args below meth c H locs cells slots mc ms (F0 m pc ls st0) rest (al_Q D wc H.size w' a) (va_A wc H.size)) (hP : va_P D classes ws H) (hD : va_D A ws) (hS : va_S A H0 H locs) (hA : ∀ q, H0.size ≤ q → A q) (isC isR : List Nat) (hC : isC.map (fun i => ws[i]?) = wc.map some) (hR : isR.map (fun i => ws[i]?) = wr.map some) (hn : va_nd isR = true) (hdis : ∀ i ∈ isR, i ∉ isC)
    (kk : ∀ (u : S) (H1 : Heap) (locs1 : List Loc), va_P D classes (wr ++ w' u) H1 → va_D A (wr ++ w' u) → va_S A H0 H1 locs1 → W p l e R s m args below meth c H1 locs1 (cells + mc) (slots + ms) Q (F0 m (pc + 3) ls rest)) : W p l e R s m args below meth c H locs cells slots Q (F0 m pc ls st0) := by
  have hF := va_free hD hS hA isC hC
  intro T hT X
  obtain ⟨v', st₀, t, T', L, h0, X', hL, e1, e2, ⟨u, hv, hB, hDB, hz, hk⟩, st⟩ := hr T hT X
  cases hv
  rw [h0] at hz hk
  obtain ⟨hP1, hD1⟩ := va_join (H1 := T'.heap) hP hD isC isR hC hR hn hdis (fun q h1 h2 => by rw [e1]; exact hk q h1 h2) hF (by rw [e1]; exact hB) hDB
  obtain ⟨t2, a1, b1⟩ := kk u T'.heap (locs ++ L) hP1 hD1 ⟨Nat.le_trans hS.1 (by rw [e1]; exact hz), fun q h1 h2 => by rw [e1, hk q (Nat.lt_of_lt_of_le h1 hS.1) (fun z => h2 (hF q z))]; exact hS.2.1 q h1 h2, fun q hq => by
    rcases List.mem_append.mp hq with h | h
    · exact hS.2.2 q h
    · exact hF _ (hL q h)⟩ T' rfl X'
  exact ⟨t2, st t2 a1, b1⟩
theorem al_fm {ws wc : va_W} {is : List Nat} (hC : is.map (fun i => ws[i]?) = wc.map some) : is.filterMap (fun i => ws[i]?) = wc := by
  have h1 : is.filterMap (fun i => ws[i]?) = (is.map (fun i => ws[i]?)).filterMap id := by rw [List.filterMap_map]; rfl
  rw [h1, hC, List.filterMap_map]
  simp
/-- a constructor of an own class -/
theorem al_I (F : CallFix p m c cc nL s args gw own) (hM : Met l y (Wd y bytes maxL none) rm (al_P D cB cI cJ (.ref b :: As) wc H.size) (al_Q D wc H.size w') mc ms (va_A wc H.size)) (hG : GoodIn gw (Wd y bytes maxL none)) (hd : y.cls ≠ "java/lang/invoke/MethodHandle" ∧ y.cls ≠ "java/lang/invoke/VarHandle" ∧ (parseMethodDescriptor y.desc).map (fun d => d.parameters.length) = some n) (hini : Cond.initialized y.cls ∈ gw) (hl : Cond.methodLink own index y ∈ gw) (hin : Cond.instanceMethod y ∈ gw) (hy1 : y.name = "<init>") (hr : rm.cells = mc ∧ rm.slots = ms) (hR0 : rm.frames + 1 ≤ R.frames ∧ 8 + (maxL + 11) + rm.locals ≤ R.locals)
    (hP : va_P D classes ws H) (hK : KX D cB cI cJ s) (hD : va_D A ws) (hS : va_S A H0 H locs) (hA : ∀ q, H0.size ≤ q → A q) (isC isR : List Nat) (hnd : va_nd isC = true) (hC : isC.map (fun i => ws[i]?) = wc.map some) (hR : isR.map (fun i => ws[i]?) = wr.map some) (hndR : va_nd isR = true) (hdis : ∀ i ∈ isR, i ∉ isC) (hn : As.length = n) (hsz : ls.size = nL) (hst : st0 = As.reverse ++ .ref b :: rest) (hrm : (rest.map fun v => v.category).sum ≤ 8) (hf : cells + mc ≤ R.cells ∧ slots + ms ≤ R.slots) (hdg : decode cc pc = .ok (.invokespecial index, 3))
    (kk : ∀ (u : S) (H1 : Heap) (locs1 : List Loc), va_P D classes (wr ++ w' u) H1 → va_D A (wr ++ w' u) → va_S A H0 H1 locs1 → W p l e R s m args below meth c H1 locs1 (cells + mc) (slots + ms) Q (F0 m (pc + 3) ls rest)) : W p l e R s m args below meth c H locs cells slots Q (F0 m pc ls st0) :=
  al_end (va_runI (n := n) F hM (cwI n F.2.2.2.2 hG rfl hr.1 hr.2 (F.2.2.2.2 _ hini) (F.2.2.2.2 _ hl) (F.2.2.2.2 _ hin) hy1 hd hR0) ⟨al_blind, fun U hU hW => ⟨rfl, by rw [hU], by rw [hU]; exact hP.sub isC (al_fm hC), hK.warm hW, (hD.sub isC hnd hC).weaken (fun _ _ _ _ => trivial)⟩⟩ rfl hn hsz hst (lv_room hrm) hdg hf) hP hD hS hA isC isR hC hR hndR hdis kk
/-- Delta's constructor out of PieceWays: a nest mate's private method -/
theorem al_Dinit (F : CallFix p m c cc nL s args gw R_PW) (hM : Met l y_De_init (Wd y_De_init b_De_init 1 none) rm (al_P D cB cI cJ (.ref b :: As) wc H.size) (al_Q D wc H.size w') mc ms (va_A wc H.size)) (hr : rm.cells = mc ∧ rm.slots = ms) (hR0 : rm.frames + 1 ≤ R.frames ∧ 8 + (1 + 11) + rm.locals ≤ R.locals)
    (hP : va_P D classes ws H) (hK : KX D cB cI cJ s) (hD : va_D A ws) (hS : va_S A H0 H locs) (hA : ∀ q, H0.size ≤ q → A q) (isC isR : List Nat) (hnd : va_nd isC = true) (hC : isC.map (fun i => ws[i]?) = wc.map some) (hR : isR.map (fun i => ws[i]?) = wr.map some) (hndR : va_nd isR = true) (hdis : ∀ i ∈ isR, i ∉ isC) (hn : As.length = 0) (hsz : ls.size = nL) (hst : st0 = As.reverse ++ .ref b :: rest) (hrm : (rest.map fun v => v.category).sum ≤ 8) (hf : cells + mc ≤ R.cells ∧ slots + ms ≤ R.slots) (hdg : decode cc pc = .ok (.invokespecial 21, 3))
    (kk : ∀ (u : S) (H1 : Heap) (locs1 : List Loc), va_P D classes (wr ++ w' u) H1 → va_D A (wr ++ w' u) → va_S A H0 H1 locs1 → W p l e R s m args below meth c H1 locs1 (cells + mc) (slots + ms) Q (F0 m (pc + 3) ls rest)) : W p l e R s m args below meth c H locs cells slots Q (F0 m pc ls st0) :=
  al_end (va_runIN (n := 0) F hM ⟨va_cnB 0 F.2.2.2.2 g_PW_21 rfl hr.1 hr.2 hK.2.2.1 (F.2.2.2.2 _ k_2) hd_De_init hR0, rfl, F.2.2.2.2 _ k_19⟩ ⟨al_blind, fun U hU hW => ⟨rfl, by rw [hU], by rw [hU]; exact hP.sub isC (al_fm hC), hK.warm hW, (hD.sub isC hnd hC).weaken (fun _ _ _ _ => trivial)⟩⟩ rfl hn hsz hst (lv_room hrm) hdg hf) hP hD hS hA isC isR hC hR hndR hdis kk
end Alloc
end
section
set_option maxHeartbeats 1000000 in
set_option maxRecDepth 100000 in
theorem c_De_init (l : Launch) (D : va_G) (cB cI cJ : ClassId) (d : Nat) (z : Int32) (sz : Nat) : Met l y_De_init (Wd y_De_init b_De_init 1 none) ({ frames := 1, cells := 3, slots := 3508, locals := 30 }) (al_P D cB cI cJ [.ref d] [(d, .inr (1, [.null, .null, .null, .int z]))] sz) (al_Q D [(d, .inr (1, [.null, .null, .null, .int z]))] sz (fun u : Nat × Nat × Nat => [(d, .inr (1, [.ref u.1, .ref u.2.1, .ref u.2.2, .int z])), (u.1, .inl (cI, 256, .inl (fun _ => 0))), (u.2.1, .inl (cI, 188, .inl (fun _ => 0))), (u.2.2, .inl (cB, 3064, .inl (bA (fun _ => 0))))])) 3 3508 (va_A [(d, .inr (1, [.null, .null, .null, .int z]))] sz) := by
  refine mt_al (by decide) rfl (Nat.le_of_ble_eq_true rfl) ?_
  intro p e s m args below meth c ls Q A hx hb hr hml hw hown hlk hin hP hK hD hS hA hl hsz hAe hQ
  have hown : s.vm.findClass R_De = some m.cls := hown
  have hl : lv_has ls 1 [(0, .ref d)] := hl
  refine lv_aload_n hx hb d_De_init_0 rfl (lv_at hl 0 rfl) ?_
  refine W.objInit hx hb hown (hw _ k_21) (hw _ k_14) (hw _ k_15) rfl (by rw [hml]; exact hl.1) rfl d_De_init_1 (by decide) (Nat.le_of_ble_eq_true rfl) ?_
  refine W.eq (g2 := F0 m 4 ls []) rfl ?_
  refine lv_aload_n hx hb d_De_init_4 rfl (lv_at hl 0 rfl) ?_
  refine lv_sipush (v := nI 256) hx hb d_De_init_5 (by decide +kernel) ?_
  refine al_newa (atype := .int) (ty := .int) (a0 := (256, .inl (fun _ => 0))) (N := 256) (N' := 256) hx hb rfl (hw _ k_36) hK hP hD hS hA 1 rfl (fun _ h9 => h9) (na_raw _) rfl (by decide) (by decide +kernel) (by decide) (by decide) d_De_init_8 (fun q_8 H hP hD hS => ?_)
  refine W.widen (k := 1) (n := 256) (by decide) (by decide) ?_
  have hP : va_P D classes [(d, .inr (1, [.null, .null, .null, .int z])), (q_8, .inl (cI, 256, .inl (fun _ => 0)))] H := hP
  have hD : va_D A [(d, .inr (1, [.null, .null, .null, .int z])), (q_8, .inl (cI, 256, .inl (fun _ => 0)))] := hD
  refine va_putF (D := D) (ci := 1) (v := .ref q_8) (ty := .array .int) (C := R_De) (T := F_De) (N := 4) hx hb hw i_De t_De t_De_ok n_De hown hK.1 hP hD hS 0 rfl rfl 0 (by decide) (hw _ k_22) (fun _ h9 => h9) rfl hin rfl (by decide +kernel) rfl rfl (Nat.le_of_ble_eq_true rfl) d_De_init_10 (fun H locs hP hD hS => ?_)
  have hP : va_P D classes [(d, .inr (1, [.ref q_8, .null, .null, .int z])), (q_8, .inl (cI, 256, .inl (fun _ => 0)))] H := hP
  have hD : va_D A [(d, .inr (1, [.ref q_8, .null, .null, .int z])), (q_8, .inl (cI, 256, .inl (fun _ => 0)))] := hD
  refine lv_aload_n hx hb d_De_init_13 rfl (lv_at hl 0 rfl) ?_
  refine lv_sipush (v := nI 188) hx hb d_De_init_14 (by decide +kernel) ?_
  refine al_newa (atype := .int) (ty := .int) (a0 := (188, .inl (fun _ => 0))) (N := 188) (N' := 188) hx hb rfl (hw _ k_36) hK hP hD hS hA 1 rfl (fun _ h9 => h9) (na_raw _) rfl (by decide) (by decide +kernel) (by decide) (by decide) d_De_init_17 (fun q_17 H hP hD hS => ?_)
  refine W.widen (k := 2) (n := 444) (by decide) (by decide) ?_
  have hP : va_P D classes [(d, .inr (1, [.ref q_8, .null, .null, .int z])), (q_8, .inl (cI, 256, .inl (fun _ => 0))), (q_17, .inl (cI, 188, .inl (fun _ => 0)))] H := hP
  have hD : va_D A [(d, .inr (1, [.ref q_8, .null, .null, .int z])), (q_8, .inl (cI, 256, .inl (fun _ => 0))), (q_17, .inl (cI, 188, .inl (fun _ => 0)))] := hD
  refine va_putF (D := D) (ci := 1) (v := .ref q_17) (ty := .array .int) (C := R_De) (T := F_De) (N := 4) hx hb hw i_De t_De t_De_ok n_De hown hK.1 hP hD hS 0 rfl rfl 1 (by decide) (hw _ k_23) (fun _ h9 => h9) rfl hin rfl (by decide +kernel) rfl rfl (Nat.le_of_ble_eq_true rfl) d_De_init_19 (fun H locs hP hD hS => ?_)
  have hP : va_P D classes [(d, .inr (1, [.ref q_8, .ref q_17, .null, .int z])), (q_8, .inl (cI, 256, .inl (fun _ => 0))), (q_17, .inl (cI, 188, .inl (fun _ => 0)))] H := hP
  have hD : va_D A [(d, .inr (1, [.ref q_8, .ref q_17, .null, .int z])), (q_8, .inl (cI, 256, .inl (fun _ => 0))), (q_17, .inl (cI, 188, .inl (fun _ => 0)))] := hD
  refine lv_aload_n hx hb d_De_init_22 rfl (lv_at hl 0 rfl) ?_
  refine lv_sipush (v := nI 3064) hx hb d_De_init_23 (by decide +kernel) ?_
  refine al_newa (atype := .byte) (ty := .byte) (a0 := (3064, .inl (bA (fun _ => 0)))) (N := 3064) (N' := 3064) hx hb rfl (hw _ k_35) hK hP hD hS hA 0 rfl (fun _ h9 => h9) (na_b _) rfl (by decide) (by decide +kernel) (by decide) (by decide) d_De_init_26 (fun q_26 H hP hD hS => ?_)
  refine W.widen (k := 3) (n := 3508) (by decide) (by decide) ?_
  have hP : va_P D classes [(d, .inr (1, [.ref q_8, .ref q_17, .null, .int z])), (q_8, .inl (cI, 256, .inl (fun _ => 0))), (q_17, .inl (cI, 188, .inl (fun _ => 0))), (q_26, .inl (cB, 3064, .inl (bA (fun _ => 0))))] H := hP
  have hD : va_D A [(d, .inr (1, [.ref q_8, .ref q_17, .null, .int z])), (q_8, .inl (cI, 256, .inl (fun _ => 0))), (q_17, .inl (cI, 188, .inl (fun _ => 0))), (q_26, .inl (cB, 3064, .inl (bA (fun _ => 0))))] := hD
  refine va_putF (D := D) (ci := 1) (v := .ref q_26) (ty := .array .byte) (C := R_De) (T := F_De) (N := 4) hx hb hw i_De t_De t_De_ok n_De hown hK.1 hP hD hS 0 rfl rfl 2 (by decide) (hw _ k_24) (fun _ h9 => h9) rfl hin rfl (by decide +kernel) rfl rfl (Nat.le_of_ble_eq_true rfl) d_De_init_28 (fun H locs hP hD hS => ?_)
  have hP : va_P D classes [(d, .inr (1, [.ref q_8, .ref q_17, .ref q_26, .int z])), (q_8, .inl (cI, 256, .inl (fun _ => 0))), (q_17, .inl (cI, 188, .inl (fun _ => 0))), (q_26, .inl (cB, 3064, .inl (bA (fun _ => 0))))] H := hP
  have hD : va_D A [(d, .inr (1, [.ref q_8, .ref q_17, .ref q_26, .int z])), (q_8, .inl (cI, 256, .inl (fun _ => 0))), (q_17, .inl (cI, 188, .inl (fun _ => 0))), (q_26, .inl (cB, 3064, .inl (bA (fun _ => 0))))] := hD
  exact al_vret hx hb hr hlk hAe hS (q_8, q_17, q_26) hP hD hQ d_De_init_31
set_option maxHeartbeats 1000000 in
set_option maxRecDepth 100000 in
theorem c_PW_init (l : Launch) (D : va_G) (cB cI cJ : ClassId) (x : Nat) (v1 v2 v3 v4 : Int32) (sz : Nat) : Met l y_PW_init (Wd y_PW_init b_PW_init 1 none) ({ frames := 2, cells := 7, slots := 5312, locals := 60 }) (al_P D cB cI cJ [.ref x] [(x, .inr (0, [.null, .null, .null, .int v1, .int v2, .int v3, .int v4, .null]))] sz) (al_Q D [(x, .inr (0, [.null, .null, .null, .int v1, .int v2, .int v3, .int v4, .null]))] sz (fun u : Nat × Nat × Nat × Nat × Nat × Nat × Nat => [(x, .inr (0, [.ref u.1, .ref u.2.1, .ref u.2.2.1, .int v1, .int v2, .int v3, .int v4, .ref u.2.2.2.1])), (u.1, .inl (cB, 600, .inl (bA (fun _ => 0)))), (u.2.1, .inl (cB, 600, .inl (bA (fun _ => 0)))), (u.2.2.1, .inl (cB, 600, .inl (bA (fun _ => 0)))), (u.2.2.2.1, .inr (1, [.ref u.2.2.2.2.1, .ref u.2.2.2.2.2.1, .ref u.2.2.2.2.2.2, .int 0])), (u.2.2.2.2.1, .inl (cI, 256, .inl (fun _ => 0))), (u.2.2.2.2.2.1, .inl (cI, 188, .inl (fun _ => 0))), (u.2.2.2.2.2.2, .inl (cB, 3064, .inl (bA (fun _ => 0))))])) 7 5312 (va_A [(x, .inr (0, [.null, .null, .null, .int v1, .int v2, .int v3, .int v4, .null]))] sz) := by
  refine mt_al (by decide) rfl (Nat.le_of_ble_eq_true rfl) ?_
  intro p e s m args below meth c ls Q A hx hb hr hml hw hown hlk hin hP hK hD hS hA hl hsz hAe hQ
  have hown : s.vm.findClass R_PW = some m.cls := hown
  have hl : lv_has ls 1 [(0, .ref x)] := hl
  refine lv_aload_n hx hb d_PW_init_0 rfl (lv_at hl 0 rfl) ?_
  refine W.objInit hx hb hown (hw _ k_13) (hw _ k_14) (hw _ k_15) rfl (by rw [hml]; exact hl.1) rfl d_PW_init_1 (by decide) (Nat.le_of_ble_eq_true rfl) ?_
  refine W.eq (g2 := F0 m 4 ls []) rfl ?_
  refine lv_aload_n hx hb d_PW_init_4 rfl (lv_at hl 0 rfl) ?_
  refine lv_sipush (v := nI 600) hx hb d_PW_init_5 (by decide +kernel) ?_
  refine al_newa (atype := .byte) (ty := .byte) (a0 := (600, .inl (bA (fun _ => 0)))) (N := 600) (N' := 600) hx hb rfl (hw _ k_35) hK hP hD hS hA 0 rfl (fun _ h9 => h9) (na_b _) rfl (by decide) (by decide +kernel) (by decide) (by decide) d_PW_init_8 (fun q_8 H hP hD hS => ?_)
  refine W.widen (k := 1) (n := 600) (by decide) (by decide) ?_
  have hP : va_P D classes [(x, .inr (0, [.null, .null, .null, .int v1, .int v2, .int v3, .int v4, .null])), (q_8, .inl (cB, 600, .inl (bA (fun _ => 0))))] H := hP
  have hD : va_D A [(x, .inr (0, [.null, .null, .null, .int v1, .int v2, .int v3, .int v4, .null])), (q_8, .inl (cB, 600, .inl (bA (fun _ => 0))))] := hD
  refine va_putF (D := D) (ci := 0) (v := .ref q_8) (ty := .array .byte) (C := R_PW) (T := F_PW) (N := 8) hx hb hw i_PW t_PW t_PW_ok n_PW hown hK.1 hP hD hS 0 rfl rfl 0 (by decide) (hw _ k_37) (fun _ h9 => h9) rfl hin rfl (by decide +kernel) rfl rfl (Nat.le_of_ble_eq_true rfl) d_PW_init_10 (fun H locs hP hD hS => ?_)
  have hP : va_P D classes [(x, .inr (0, [.ref q_8, .null, .null, .int v1, .int v2, .int v3, .int v4, .null])), (q_8, .inl (cB, 600, .inl (bA (fun _ => 0))))] H := hP
  have hD : va_D A [(x, .inr (0, [.ref q_8, .null, .null, .int v1, .int v2, .int v3, .int v4, .null])), (q_8, .inl (cB, 600, .inl (bA (fun _ => 0))))] := hD
  refine lv_aload_n hx hb d_PW_init_13 rfl (lv_at hl 0 rfl) ?_
  refine lv_sipush (v := nI 600) hx hb d_PW_init_14 (by decide +kernel) ?_
  refine al_newa (atype := .byte) (ty := .byte) (a0 := (600, .inl (bA (fun _ => 0)))) (N := 600) (N' := 600) hx hb rfl (hw _ k_35) hK hP hD hS hA 0 rfl (fun _ h9 => h9) (na_b _) rfl (by decide) (by decide +kernel) (by decide) (by decide) d_PW_init_17 (fun q_17 H hP hD hS => ?_)
  refine W.widen (k := 2) (n := 1200) (by decide) (by decide) ?_
  have hP : va_P D classes [(x, .inr (0, [.ref q_8, .null, .null, .int v1, .int v2, .int v3, .int v4, .null])), (q_8, .inl (cB, 600, .inl (bA (fun _ => 0)))), (q_17, .inl (cB, 600, .inl (bA (fun _ => 0))))] H := hP
  have hD : va_D A [(x, .inr (0, [.ref q_8, .null, .null, .int v1, .int v2, .int v3, .int v4, .null])), (q_8, .inl (cB, 600, .inl (bA (fun _ => 0)))), (q_17, .inl (cB, 600, .inl (bA (fun _ => 0))))] := hD
  refine va_putF (D := D) (ci := 0) (v := .ref q_17) (ty := .array .byte) (C := R_PW) (T := F_PW) (N := 8) hx hb hw i_PW t_PW t_PW_ok n_PW hown hK.1 hP hD hS 0 rfl rfl 1 (by decide) (hw _ k_38) (fun _ h9 => h9) rfl hin rfl (by decide +kernel) rfl rfl (Nat.le_of_ble_eq_true rfl) d_PW_init_19 (fun H locs hP hD hS => ?_)
  have hP : va_P D classes [(x, .inr (0, [.ref q_8, .ref q_17, .null, .int v1, .int v2, .int v3, .int v4, .null])), (q_8, .inl (cB, 600, .inl (bA (fun _ => 0)))), (q_17, .inl (cB, 600, .inl (bA (fun _ => 0))))] H := hP
  have hD : va_D A [(x, .inr (0, [.ref q_8, .ref q_17, .null, .int v1, .int v2, .int v3, .int v4, .null])), (q_8, .inl (cB, 600, .inl (bA (fun _ => 0)))), (q_17, .inl (cB, 600, .inl (bA (fun _ => 0))))] := hD
  refine lv_aload_n hx hb d_PW_init_22 rfl (lv_at hl 0 rfl) ?_
  refine lv_sipush (v := nI 600) hx hb d_PW_init_23 (by decide +kernel) ?_
  refine al_newa (atype := .byte) (ty := .byte) (a0 := (600, .inl (bA (fun _ => 0)))) (N := 600) (N' := 600) hx hb rfl (hw _ k_35) hK hP hD hS hA 0 rfl (fun _ h9 => h9) (na_b _) rfl (by decide) (by decide +kernel) (by decide) (by decide) d_PW_init_26 (fun q_26 H hP hD hS => ?_)
  refine W.widen (k := 3) (n := 1800) (by decide) (by decide) ?_
  have hP : va_P D classes [(x, .inr (0, [.ref q_8, .ref q_17, .null, .int v1, .int v2, .int v3, .int v4, .null])), (q_8, .inl (cB, 600, .inl (bA (fun _ => 0)))), (q_17, .inl (cB, 600, .inl (bA (fun _ => 0)))), (q_26, .inl (cB, 600, .inl (bA (fun _ => 0))))] H := hP
  have hD : va_D A [(x, .inr (0, [.ref q_8, .ref q_17, .null, .int v1, .int v2, .int v3, .int v4, .null])), (q_8, .inl (cB, 600, .inl (bA (fun _ => 0)))), (q_17, .inl (cB, 600, .inl (bA (fun _ => 0)))), (q_26, .inl (cB, 600, .inl (bA (fun _ => 0))))] := hD
  refine va_putF (D := D) (ci := 0) (v := .ref q_26) (ty := .array .byte) (C := R_PW) (T := F_PW) (N := 8) hx hb hw i_PW t_PW t_PW_ok n_PW hown hK.1 hP hD hS 0 rfl rfl 2 (by decide) (hw _ k_39) (fun _ h9 => h9) rfl hin rfl (by decide +kernel) rfl rfl (Nat.le_of_ble_eq_true rfl) d_PW_init_28 (fun H locs hP hD hS => ?_)
  have hP : va_P D classes [(x, .inr (0, [.ref q_8, .ref q_17, .ref q_26, .int v1, .int v2, .int v3, .int v4, .null])), (q_8, .inl (cB, 600, .inl (bA (fun _ => 0)))), (q_17, .inl (cB, 600, .inl (bA (fun _ => 0)))), (q_26, .inl (cB, 600, .inl (bA (fun _ => 0))))] H := hP
  have hD : va_D A [(x, .inr (0, [.ref q_8, .ref q_17, .ref q_26, .int v1, .int v2, .int v3, .int v4, .null])), (q_8, .inl (cB, 600, .inl (bA (fun _ => 0)))), (q_17, .inl (cB, 600, .inl (bA (fun _ => 0)))), (q_26, .inl (cB, 600, .inl (bA (fun _ => 0))))] := hD
  refine lv_aload_n hx hb d_PW_init_31 rfl (lv_at hl 0 rfl) ?_
  refine va_new (D := D) (ci := 1) (fs := [.null, .null, .null, .int 0]) (C := R_De) (T := F_De) (N := 4) hx hb hw i_De t_De t_De_ok hown (hw _ k_16) (hw _ k_17) (hw _ k_2) hK.1 hP hD hS hA rfl (fun j hj => by rcases (show j = 0 ∨ j = 1 ∨ j = 2 ∨ j = 3 by omega) with rfl | rfl | rfl | rfl <;> rfl) (by decide) (by decide) d_PW_init_32 (fun q_32 H hP hD hS => ?_)
  refine W.widen (k := 4) (n := 1804) (by decide) (by decide) ?_
  have hP : va_P D classes [(x, .inr (0, [.ref q_8, .ref q_17, .ref q_26, .int v1, .int v2, .int v3, .int v4, .null])), (q_8, .inl (cB, 600, .inl (bA (fun _ => 0)))), (q_17, .inl (cB, 600, .inl (bA (fun _ => 0)))), (q_26, .inl (cB, 600, .inl (bA (fun _ => 0)))), (q_32, .inr (1, [.null, .null, .null, .int 0]))] H := hP
  have hD : va_D A [(x, .inr (0, [.ref q_8, .ref q_17, .ref q_26, .int v1, .int v2, .int v3, .int v4, .null])), (q_8, .inl (cB, 600, .inl (bA (fun _ => 0)))), (q_17, .inl (cB, 600, .inl (bA (fun _ => 0)))), (q_26, .inl (cB, 600, .inl (bA (fun _ => 0)))), (q_32, .inr (1, [.null, .null, .null, .int 0]))] := hD
  refine lv_dup hx hb d_PW_init_35 rfl ?_
  refine al_Dinit (As := []) (rest := [.ref q_32, .ref x]) (wr := [(x, .inr (0, [.ref q_8, .ref q_17, .ref q_26, .int v1, .int v2, .int v3, .int v4, .null])), (q_8, .inl (cB, 600, .inl (bA (fun _ => 0)))), (q_17, .inl (cB, 600, .inl (bA (fun _ => 0)))), (q_26, .inl (cB, 600, .inl (bA (fun _ => 0))))]) ⟨hx, hb, hml, hown, hw⟩ (c_De_init l D cB cI cJ q_32 0 H.size) ⟨rfl, rfl⟩ ⟨by decide, by decide⟩ hP hK hD hS hA [4] [0, 1, 2, 3] (by decide) rfl rfl (by decide) (by decide) rfl hl.1 rfl (Nat.le_of_ble_eq_true rfl) ⟨by decide, by decide⟩ d_PW_init_36 (fun u_36 H locs hP hD hS => ?_)
  refine W.widen (k := 7) (n := 5312) (by decide) (by decide) ?_
  have hP : va_P D classes [(x, .inr (0, [.ref q_8, .ref q_17, .ref q_26, .int v1, .int v2, .int v3, .int v4, .null])), (q_8, .inl (cB, 600, .inl (bA (fun _ => 0)))), (q_17, .inl (cB, 600, .inl (bA (fun _ => 0)))), (q_26, .inl (cB, 600, .inl (bA (fun _ => 0)))), (q_32, .inr (1, [.ref u_36.1, .ref u_36.2.1, .ref u_36.2.2, .int 0])), (u_36.1, .inl (cI, 256, .inl (fun _ => 0))), (u_36.2.1, .inl (cI, 188, .inl (fun _ => 0))), (u_36.2.2, .inl (cB, 3064, .inl (bA (fun _ => 0))))] H := hP
  have hD : va_D A [(x, .inr (0, [.ref q_8, .ref q_17, .ref q_26, .int v1, .int v2, .int v3, .int v4, .null])), (q_8, .inl (cB, 600, .inl (bA (fun _ => 0)))), (q_17, .inl (cB, 600, .inl (bA (fun _ => 0)))), (q_26, .inl (cB, 600, .inl (bA (fun _ => 0)))), (q_32, .inr (1, [.ref u_36.1, .ref u_36.2.1, .ref u_36.2.2, .int 0])), (u_36.1, .inl (cI, 256, .inl (fun _ => 0))), (u_36.2.1, .inl (cI, 188, .inl (fun _ => 0))), (u_36.2.2, .inl (cB, 3064, .inl (bA (fun _ => 0))))] := hD
  refine va_putF (D := D) (ci := 0) (v := .ref q_32) (ty := .object "PieceWays$Delta") (C := R_PW) (T := F_PW) (N := 8) hx hb hw i_PW t_PW t_PW_ok n_PW hown hK.1 hP hD hS 0 rfl rfl 7 (by decide) (hw _ k_44) (fun _ h9 => h9) rfl hin rfl (by decide +kernel) rfl rfl (Nat.le_of_ble_eq_true rfl) d_PW_init_39 (fun H locs hP hD hS => ?_)
  have hP : va_P D classes [(x, .inr (0, [.ref q_8, .ref q_17, .ref q_26, .int v1, .int v2, .int v3, .int v4, .ref q_32])), (q_8, .inl (cB, 600, .inl (bA (fun _ => 0)))), (q_17, .inl (cB, 600, .inl (bA (fun _ => 0)))), (q_26, .inl (cB, 600, .inl (bA (fun _ => 0)))), (q_32, .inr (1, [.ref u_36.1, .ref u_36.2.1, .ref u_36.2.2, .int 0])), (u_36.1, .inl (cI, 256, .inl (fun _ => 0))), (u_36.2.1, .inl (cI, 188, .inl (fun _ => 0))), (u_36.2.2, .inl (cB, 3064, .inl (bA (fun _ => 0))))] H := hP
  have hD : va_D A [(x, .inr (0, [.ref q_8, .ref q_17, .ref q_26, .int v1, .int v2, .int v3, .int v4, .ref q_32])), (q_8, .inl (cB, 600, .inl (bA (fun _ => 0)))), (q_17, .inl (cB, 600, .inl (bA (fun _ => 0)))), (q_26, .inl (cB, 600, .inl (bA (fun _ => 0)))), (q_32, .inr (1, [.ref u_36.1, .ref u_36.2.1, .ref u_36.2.2, .int 0])), (u_36.1, .inl (cI, 256, .inl (fun _ => 0))), (u_36.2.1, .inl (cI, 188, .inl (fun _ => 0))), (u_36.2.2, .inl (cB, 3064, .inl (bA (fun _ => 0))))] := hD
  exact al_vret hx hb hr hlk hAe hS (q_8, q_17, q_26, q_32, u_36.1, u_36.2.1, u_36.2.2) hP hD hQ d_PW_init_42
set_option maxHeartbeats 1000000 in
set_option maxRecDepth 100000 in
theorem c_Mo_init (l : Launch) (D : va_G) (cB cI cJ : ClassId) (y : Nat) (v1 v2 v3 v4 v5 : Int32) (sz : Nat) : Met l y_Mo_init (Wd y_Mo_init b_Mo_init 1 none) ({ frames := 1, cells := 5, slots := 4400, locals := 30 }) (al_P D cB cI cJ [.ref y] [(y, .inr (2, [.int v1, .null, .int v2, .null, .int v3, .null, .int v4, .null, .int v5, .null]))] sz) (al_Q D [(y, .inr (2, [.int v1, .null, .int v2, .null, .int v3, .null, .int v4, .null, .int v5, .null]))] sz (fun u : Nat × Nat × Nat × Nat × Nat => [(y, .inr (2, [.int (nI 0), .ref u.1, .int (nI 0), .ref u.2.1, .int (nI 0), .ref u.2.2.1, .int (nI 0), .ref u.2.2.2.1, .int (nI 0), .ref u.2.2.2.2])), (u.1, .inl (cI, 600, .inl (iA (fun _ => 0)))), (u.2.1, .inl (cI, 600, .inl (iA (fun _ => 0)))), (u.2.2.1, .inl (cI, 2000, .inl (iA (fun _ => 0)))), (u.2.2.2.1, .inl (cI, 600, .inl (iA (fun _ => 0)))), (u.2.2.2.2, .inl (cI, 600, .inl (iA (fun _ => 0))))])) 5 4400 (va_A [(y, .inr (2, [.int v1, .null, .int v2, .null, .int v3, .null, .int v4, .null, .int v5, .null]))] sz) := by
  refine mt_al (by decide) rfl (Nat.le_of_ble_eq_true rfl) ?_
  intro p e s m args below meth c ls Q A hx hb hr hml hw hown hlk hin hP hK hD hS hA hl hsz hAe hQ
  have hown : s.vm.findClass R_Mo = some m.cls := hown
  have hl : lv_has ls 1 [(0, .ref y)] := hl
  refine lv_aload_n hx hb d_Mo_init_0 rfl (lv_at hl 0 rfl) ?_
  refine W.objInit hx hb hown (hw _ k_221) (hw _ k_14) (hw _ k_15) rfl (by rw [hml]; exact hl.1) rfl d_Mo_init_1 (by decide) (Nat.le_of_ble_eq_true rfl) ?_
  refine W.eq (g2 := F0 m 4 ls []) rfl ?_
  refine lv_aload_n hx hb d_Mo_init_4 rfl (lv_at hl 0 rfl) ?_
  refine lv_iconst (v := nI 0) hx hb d_Mo_init_5 (by decide +kernel) ?_
  refine va_put (D := D) (ci := 2) (v := .int (nI 0)) (ty := .int) (C := R_Mo) (T := F_Mo) (N := 10) hx hb hw i_Mo t_Mo t_Mo_ok n_Mo hown hK.1 hP hD hS 0 rfl rfl 0 (by decide) (hw _ k_222) (fun _ h9 => h9) rfl (by decide +kernel) rfl rfl (Nat.le_of_ble_eq_true rfl) d_Mo_init_6 (fun H locs hP hD hS => ?_)
  have hP : va_P D classes [(y, .inr (2, [.int (nI 0), .null, .int v2, .null, .int v3, .null, .int v4, .null, .int v5, .null]))] H := hP
  have hD : va_D A [(y, .inr (2, [.int (nI 0), .null, .int v2, .null, .int v3, .null, .int v4, .null, .int v5, .null]))] := hD
  refine lv_aload_n hx hb d_Mo_init_9 rfl (lv_at hl 0 rfl) ?_
  refine lv_sipush (v := nI 600) hx hb d_Mo_init_10 (by decide +kernel) ?_
  refine al_newa (atype := .int) (ty := .int) (a0 := (600, .inl (iA (fun _ => 0)))) (N := 600) (N' := 600) hx hb rfl (hw _ k_36) hK hP hD hS hA 1 rfl (fun _ h9 => h9) (na_i _) rfl (by decide) (by decide +kernel) (by decide) (by decide) d_Mo_init_13 (fun q_13 H hP hD hS => ?_)
  refine W.widen (k := 1) (n := 600) (by decide) (by decide) ?_
  have hP : va_P D classes [(y, .inr (2, [.int (nI 0), .null, .int v2, .null, .int v3, .null, .int v4, .null, .int v5, .null])), (q_13, .inl (cI, 600, .inl (iA (fun _ => 0))))] H := hP
  have hD : va_D A [(y, .inr (2, [.int (nI 0), .null, .int v2, .null, .int v3, .null, .int v4, .null, .int v5, .null])), (q_13, .inl (cI, 600, .inl (iA (fun _ => 0))))] := hD
  refine va_putF (D := D) (ci := 2) (v := .ref q_13) (ty := .array .int) (C := R_Mo) (T := F_Mo) (N := 10) hx hb hw i_Mo t_Mo t_Mo_ok n_Mo hown hK.1 hP hD hS 0 rfl rfl 1 (by decide) (hw _ k_223) (fun _ h9 => h9) rfl hin rfl (by decide +kernel) rfl rfl (Nat.le_of_ble_eq_true rfl) d_Mo_init_15 (fun H locs hP hD hS => ?_)
  have hP : va_P D classes [(y, .inr (2, [.int (nI 0), .ref q_13, .int v2, .null, .int v3, .null, .int v4, .null, .int v5, .null])), (q_13, .inl (cI, 600, .inl (iA (fun _ => 0))))] H := hP
  have hD : va_D A [(y, .inr (2, [.int (nI 0), .ref q_13, .int v2, .null, .int v3, .null, .int v4, .null, .int v5, .null])), (q_13, .inl (cI, 600, .inl (iA (fun _ => 0))))] := hD
  refine lv_aload_n hx hb d_Mo_init_18 rfl (lv_at hl 0 rfl) ?_
  refine lv_iconst (v := nI 0) hx hb d_Mo_init_19 (by decide +kernel) ?_
  refine va_put (D := D) (ci := 2) (v := .int (nI 0)) (ty := .int) (C := R_Mo) (T := F_Mo) (N := 10) hx hb hw i_Mo t_Mo t_Mo_ok n_Mo hown hK.1 hP hD hS 0 rfl rfl 2 (by decide) (hw _ k_224) (fun _ h9 => h9) rfl (by decide +kernel) rfl rfl (Nat.le_of_ble_eq_true rfl) d_Mo_init_20 (fun H locs hP hD hS => ?_)
  have hP : va_P D classes [(y, .inr (2, [.int (nI 0), .ref q_13, .int (nI 0), .null, .int v3, .null, .int v4, .null, .int v5, .null])), (q_13, .inl (cI, 600, .inl (iA (fun _ => 0))))] H := hP
  have hD : va_D A [(y, .inr (2, [.int (nI 0), .ref q_13, .int (nI 0), .null, .int v3, .null, .int v4, .null, .int v5, .null])), (q_13, .inl (cI, 600, .inl (iA (fun _ => 0))))] := hD
  refine lv_aload_n hx hb d_Mo_init_23 rfl (lv_at hl 0 rfl) ?_
  refine lv_sipush (v := nI 600) hx hb d_Mo_init_24 (by decide +kernel) ?_
  refine al_newa (atype := .int) (ty := .int) (a0 := (600, .inl (iA (fun _ => 0)))) (N := 600) (N' := 600) hx hb rfl (hw _ k_36) hK hP hD hS hA 1 rfl (fun _ h9 => h9) (na_i _) rfl (by decide) (by decide +kernel) (by decide) (by decide) d_Mo_init_27 (fun q_27 H hP hD hS => ?_)
  refine W.widen (k := 2) (n := 1200) (by decide) (by decide) ?_
  have hP : va_P D classes [(y, .inr (2, [.int (nI 0), .ref q_13, .int (nI 0), .null, .int v3, .null, .int v4, .null, .int v5, .null])), (q_13, .inl (cI, 600, .inl (iA (fun _ => 0)))), (q_27, .inl (cI, 600, .inl (iA (fun _ => 0))))] H := hP
  have hD : va_D A [(y, .inr (2, [.int (nI 0), .ref q_13, .int (nI 0), .null, .int v3, .null, .int v4, .null, .int v5, .null])), (q_13, .inl (cI, 600, .inl (iA (fun _ => 0)))), (q_27, .inl (cI, 600, .inl (iA (fun _ => 0))))] := hD
  refine va_putF (D := D) (ci := 2) (v := .ref q_27) (ty := .array .int) (C := R_Mo) (T := F_Mo) (N := 10) hx hb hw i_Mo t_Mo t_Mo_ok n_Mo hown hK.1 hP hD hS 0 rfl rfl 3 (by decide) (hw _ k_225) (fun _ h9 => h9) rfl hin rfl (by decide +kernel) rfl rfl (Nat.le_of_ble_eq_true rfl) d_Mo_init_29 (fun H locs hP hD hS => ?_)
  have hP : va_P D classes [(y, .inr (2, [.int (nI 0), .ref q_13, .int (nI 0), .ref q_27, .int v3, .null, .int v4, .null, .int v5, .null])), (q_13, .inl (cI, 600, .inl (iA (fun _ => 0)))), (q_27, .inl (cI, 600, .inl (iA (fun _ => 0))))] H := hP
  have hD : va_D A [(y, .inr (2, [.int (nI 0), .ref q_13, .int (nI 0), .ref q_27, .int v3, .null, .int v4, .null, .int v5, .null])), (q_13, .inl (cI, 600, .inl (iA (fun _ => 0)))), (q_27, .inl (cI, 600, .inl (iA (fun _ => 0))))] := hD
  refine lv_aload_n hx hb d_Mo_init_32 rfl (lv_at hl 0 rfl) ?_
  refine lv_iconst (v := nI 0) hx hb d_Mo_init_33 (by decide +kernel) ?_
  refine va_put (D := D) (ci := 2) (v := .int (nI 0)) (ty := .int) (C := R_Mo) (T := F_Mo) (N := 10) hx hb hw i_Mo t_Mo t_Mo_ok n_Mo hown hK.1 hP hD hS 0 rfl rfl 4 (by decide) (hw _ k_226) (fun _ h9 => h9) rfl (by decide +kernel) rfl rfl (Nat.le_of_ble_eq_true rfl) d_Mo_init_34 (fun H locs hP hD hS => ?_)
  have hP : va_P D classes [(y, .inr (2, [.int (nI 0), .ref q_13, .int (nI 0), .ref q_27, .int (nI 0), .null, .int v4, .null, .int v5, .null])), (q_13, .inl (cI, 600, .inl (iA (fun _ => 0)))), (q_27, .inl (cI, 600, .inl (iA (fun _ => 0))))] H := hP
  have hD : va_D A [(y, .inr (2, [.int (nI 0), .ref q_13, .int (nI 0), .ref q_27, .int (nI 0), .null, .int v4, .null, .int v5, .null])), (q_13, .inl (cI, 600, .inl (iA (fun _ => 0)))), (q_27, .inl (cI, 600, .inl (iA (fun _ => 0))))] := hD
  refine lv_aload_n hx hb d_Mo_init_37 rfl (lv_at hl 0 rfl) ?_
  refine lv_sipush (v := nI 2000) hx hb d_Mo_init_38 (by decide +kernel) ?_
  refine al_newa (atype := .int) (ty := .int) (a0 := (2000, .inl (iA (fun _ => 0)))) (N := 2000) (N' := 2000) hx hb rfl (hw _ k_36) hK hP hD hS hA 1 rfl (fun _ h9 => h9) (na_i _) rfl (by decide) (by decide +kernel) (by decide) (by decide) d_Mo_init_41 (fun q_41 H hP hD hS => ?_)
  refine W.widen (k := 3) (n := 3200) (by decide) (by decide) ?_
  have hP : va_P D classes [(y, .inr (2, [.int (nI 0), .ref q_13, .int (nI 0), .ref q_27, .int (nI 0), .null, .int v4, .null, .int v5, .null])), (q_13, .inl (cI, 600, .inl (iA (fun _ => 0)))), (q_27, .inl (cI, 600, .inl (iA (fun _ => 0)))), (q_41, .inl (cI, 2000, .inl (iA (fun _ => 0))))] H := hP
  have hD : va_D A [(y, .inr (2, [.int (nI 0), .ref q_13, .int (nI 0), .ref q_27, .int (nI 0), .null, .int v4, .null, .int v5, .null])), (q_13, .inl (cI, 600, .inl (iA (fun _ => 0)))), (q_27, .inl (cI, 600, .inl (iA (fun _ => 0)))), (q_41, .inl (cI, 2000, .inl (iA (fun _ => 0))))] := hD
  refine va_putF (D := D) (ci := 2) (v := .ref q_41) (ty := .array .int) (C := R_Mo) (T := F_Mo) (N := 10) hx hb hw i_Mo t_Mo t_Mo_ok n_Mo hown hK.1 hP hD hS 0 rfl rfl 5 (by decide) (hw _ k_227) (fun _ h9 => h9) rfl hin rfl (by decide +kernel) rfl rfl (Nat.le_of_ble_eq_true rfl) d_Mo_init_43 (fun H locs hP hD hS => ?_)
  have hP : va_P D classes [(y, .inr (2, [.int (nI 0), .ref q_13, .int (nI 0), .ref q_27, .int (nI 0), .ref q_41, .int v4, .null, .int v5, .null])), (q_13, .inl (cI, 600, .inl (iA (fun _ => 0)))), (q_27, .inl (cI, 600, .inl (iA (fun _ => 0)))), (q_41, .inl (cI, 2000, .inl (iA (fun _ => 0))))] H := hP
  have hD : va_D A [(y, .inr (2, [.int (nI 0), .ref q_13, .int (nI 0), .ref q_27, .int (nI 0), .ref q_41, .int v4, .null, .int v5, .null])), (q_13, .inl (cI, 600, .inl (iA (fun _ => 0)))), (q_27, .inl (cI, 600, .inl (iA (fun _ => 0)))), (q_41, .inl (cI, 2000, .inl (iA (fun _ => 0))))] := hD
  refine lv_aload_n hx hb d_Mo_init_46 rfl (lv_at hl 0 rfl) ?_
  refine lv_iconst (v := nI 0) hx hb d_Mo_init_47 (by decide +kernel) ?_
  refine va_put (D := D) (ci := 2) (v := .int (nI 0)) (ty := .int) (C := R_Mo) (T := F_Mo) (N := 10) hx hb hw i_Mo t_Mo t_Mo_ok n_Mo hown hK.1 hP hD hS 0 rfl rfl 6 (by decide) (hw _ k_228) (fun _ h9 => h9) rfl (by decide +kernel) rfl rfl (Nat.le_of_ble_eq_true rfl) d_Mo_init_48 (fun H locs hP hD hS => ?_)
  have hP : va_P D classes [(y, .inr (2, [.int (nI 0), .ref q_13, .int (nI 0), .ref q_27, .int (nI 0), .ref q_41, .int (nI 0), .null, .int v5, .null])), (q_13, .inl (cI, 600, .inl (iA (fun _ => 0)))), (q_27, .inl (cI, 600, .inl (iA (fun _ => 0)))), (q_41, .inl (cI, 2000, .inl (iA (fun _ => 0))))] H := hP
  have hD : va_D A [(y, .inr (2, [.int (nI 0), .ref q_13, .int (nI 0), .ref q_27, .int (nI 0), .ref q_41, .int (nI 0), .null, .int v5, .null])), (q_13, .inl (cI, 600, .inl (iA (fun _ => 0)))), (q_27, .inl (cI, 600, .inl (iA (fun _ => 0)))), (q_41, .inl (cI, 2000, .inl (iA (fun _ => 0))))] := hD
  refine lv_aload_n hx hb d_Mo_init_51 rfl (lv_at hl 0 rfl) ?_
  refine lv_sipush (v := nI 600) hx hb d_Mo_init_52 (by decide +kernel) ?_
  refine al_newa (atype := .int) (ty := .int) (a0 := (600, .inl (iA (fun _ => 0)))) (N := 600) (N' := 600) hx hb rfl (hw _ k_36) hK hP hD hS hA 1 rfl (fun _ h9 => h9) (na_i _) rfl (by decide) (by decide +kernel) (by decide) (by decide) d_Mo_init_55 (fun q_55 H hP hD hS => ?_)
  refine W.widen (k := 4) (n := 3800) (by decide) (by decide) ?_
  have hP : va_P D classes [(y, .inr (2, [.int (nI 0), .ref q_13, .int (nI 0), .ref q_27, .int (nI 0), .ref q_41, .int (nI 0), .null, .int v5, .null])), (q_13, .inl (cI, 600, .inl (iA (fun _ => 0)))), (q_27, .inl (cI, 600, .inl (iA (fun _ => 0)))), (q_41, .inl (cI, 2000, .inl (iA (fun _ => 0)))), (q_55, .inl (cI, 600, .inl (iA (fun _ => 0))))] H := hP
  have hD : va_D A [(y, .inr (2, [.int (nI 0), .ref q_13, .int (nI 0), .ref q_27, .int (nI 0), .ref q_41, .int (nI 0), .null, .int v5, .null])), (q_13, .inl (cI, 600, .inl (iA (fun _ => 0)))), (q_27, .inl (cI, 600, .inl (iA (fun _ => 0)))), (q_41, .inl (cI, 2000, .inl (iA (fun _ => 0)))), (q_55, .inl (cI, 600, .inl (iA (fun _ => 0))))] := hD
  refine va_putF (D := D) (ci := 2) (v := .ref q_55) (ty := .array .int) (C := R_Mo) (T := F_Mo) (N := 10) hx hb hw i_Mo t_Mo t_Mo_ok n_Mo hown hK.1 hP hD hS 0 rfl rfl 7 (by decide) (hw _ k_229) (fun _ h9 => h9) rfl hin rfl (by decide +kernel) rfl rfl (Nat.le_of_ble_eq_true rfl) d_Mo_init_57 (fun H locs hP hD hS => ?_)
  have hP : va_P D classes [(y, .inr (2, [.int (nI 0), .ref q_13, .int (nI 0), .ref q_27, .int (nI 0), .ref q_41, .int (nI 0), .ref q_55, .int v5, .null])), (q_13, .inl (cI, 600, .inl (iA (fun _ => 0)))), (q_27, .inl (cI, 600, .inl (iA (fun _ => 0)))), (q_41, .inl (cI, 2000, .inl (iA (fun _ => 0)))), (q_55, .inl (cI, 600, .inl (iA (fun _ => 0))))] H := hP
  have hD : va_D A [(y, .inr (2, [.int (nI 0), .ref q_13, .int (nI 0), .ref q_27, .int (nI 0), .ref q_41, .int (nI 0), .ref q_55, .int v5, .null])), (q_13, .inl (cI, 600, .inl (iA (fun _ => 0)))), (q_27, .inl (cI, 600, .inl (iA (fun _ => 0)))), (q_41, .inl (cI, 2000, .inl (iA (fun _ => 0)))), (q_55, .inl (cI, 600, .inl (iA (fun _ => 0))))] := hD
  refine lv_aload_n hx hb d_Mo_init_60 rfl (lv_at hl 0 rfl) ?_
  refine lv_iconst (v := nI 0) hx hb d_Mo_init_61 (by decide +kernel) ?_
  refine va_put (D := D) (ci := 2) (v := .int (nI 0)) (ty := .int) (C := R_Mo) (T := F_Mo) (N := 10) hx hb hw i_Mo t_Mo t_Mo_ok n_Mo hown hK.1 hP hD hS 0 rfl rfl 8 (by decide) (hw _ k_230) (fun _ h9 => h9) rfl (by decide +kernel) rfl rfl (Nat.le_of_ble_eq_true rfl) d_Mo_init_62 (fun H locs hP hD hS => ?_)
  have hP : va_P D classes [(y, .inr (2, [.int (nI 0), .ref q_13, .int (nI 0), .ref q_27, .int (nI 0), .ref q_41, .int (nI 0), .ref q_55, .int (nI 0), .null])), (q_13, .inl (cI, 600, .inl (iA (fun _ => 0)))), (q_27, .inl (cI, 600, .inl (iA (fun _ => 0)))), (q_41, .inl (cI, 2000, .inl (iA (fun _ => 0)))), (q_55, .inl (cI, 600, .inl (iA (fun _ => 0))))] H := hP
  have hD : va_D A [(y, .inr (2, [.int (nI 0), .ref q_13, .int (nI 0), .ref q_27, .int (nI 0), .ref q_41, .int (nI 0), .ref q_55, .int (nI 0), .null])), (q_13, .inl (cI, 600, .inl (iA (fun _ => 0)))), (q_27, .inl (cI, 600, .inl (iA (fun _ => 0)))), (q_41, .inl (cI, 2000, .inl (iA (fun _ => 0)))), (q_55, .inl (cI, 600, .inl (iA (fun _ => 0))))] := hD
  refine lv_aload_n hx hb d_Mo_init_65 rfl (lv_at hl 0 rfl) ?_
  refine lv_sipush (v := nI 600) hx hb d_Mo_init_66 (by decide +kernel) ?_
  refine al_newa (atype := .int) (ty := .int) (a0 := (600, .inl (iA (fun _ => 0)))) (N := 600) (N' := 600) hx hb rfl (hw _ k_36) hK hP hD hS hA 1 rfl (fun _ h9 => h9) (na_i _) rfl (by decide) (by decide +kernel) (by decide) (by decide) d_Mo_init_69 (fun q_69 H hP hD hS => ?_)
  refine W.widen (k := 5) (n := 4400) (by decide) (by decide) ?_
  have hP : va_P D classes [(y, .inr (2, [.int (nI 0), .ref q_13, .int (nI 0), .ref q_27, .int (nI 0), .ref q_41, .int (nI 0), .ref q_55, .int (nI 0), .null])), (q_13, .inl (cI, 600, .inl (iA (fun _ => 0)))), (q_27, .inl (cI, 600, .inl (iA (fun _ => 0)))), (q_41, .inl (cI, 2000, .inl (iA (fun _ => 0)))), (q_55, .inl (cI, 600, .inl (iA (fun _ => 0)))), (q_69, .inl (cI, 600, .inl (iA (fun _ => 0))))] H := hP
  have hD : va_D A [(y, .inr (2, [.int (nI 0), .ref q_13, .int (nI 0), .ref q_27, .int (nI 0), .ref q_41, .int (nI 0), .ref q_55, .int (nI 0), .null])), (q_13, .inl (cI, 600, .inl (iA (fun _ => 0)))), (q_27, .inl (cI, 600, .inl (iA (fun _ => 0)))), (q_41, .inl (cI, 2000, .inl (iA (fun _ => 0)))), (q_55, .inl (cI, 600, .inl (iA (fun _ => 0)))), (q_69, .inl (cI, 600, .inl (iA (fun _ => 0))))] := hD
  refine va_putF (D := D) (ci := 2) (v := .ref q_69) (ty := .array .int) (C := R_Mo) (T := F_Mo) (N := 10) hx hb hw i_Mo t_Mo t_Mo_ok n_Mo hown hK.1 hP hD hS 0 rfl rfl 9 (by decide) (hw _ k_231) (fun _ h9 => h9) rfl hin rfl (by decide +kernel) rfl rfl (Nat.le_of_ble_eq_true rfl) d_Mo_init_71 (fun H locs hP hD hS => ?_)
  have hP : va_P D classes [(y, .inr (2, [.int (nI 0), .ref q_13, .int (nI 0), .ref q_27, .int (nI 0), .ref q_41, .int (nI 0), .ref q_55, .int (nI 0), .ref q_69])), (q_13, .inl (cI, 600, .inl (iA (fun _ => 0)))), (q_27, .inl (cI, 600, .inl (iA (fun _ => 0)))), (q_41, .inl (cI, 2000, .inl (iA (fun _ => 0)))), (q_55, .inl (cI, 600, .inl (iA (fun _ => 0)))), (q_69, .inl (cI, 600, .inl (iA (fun _ => 0))))] H := hP
  have hD : va_D A [(y, .inr (2, [.int (nI 0), .ref q_13, .int (nI 0), .ref q_27, .int (nI 0), .ref q_41, .int (nI 0), .ref q_55, .int (nI 0), .ref q_69])), (q_13, .inl (cI, 600, .inl (iA (fun _ => 0)))), (q_27, .inl (cI, 600, .inl (iA (fun _ => 0)))), (q_41, .inl (cI, 2000, .inl (iA (fun _ => 0)))), (q_55, .inl (cI, 600, .inl (iA (fun _ => 0)))), (q_69, .inl (cI, 600, .inl (iA (fun _ => 0))))] := hD
  exact al_vret hx hb hr hlk hAe hS (q_13, q_27, q_41, q_55, q_69) hP hD hQ d_Mo_init_74
end
section
set_option maxHeartbeats 1000000 in
set_option maxRecDepth 100000 in
/-- PieceWays.go: one piece that fits is passed -/
theorem g_PW_step {p : Program} {l : Launch} {e : Env} {R : Room} {s : State} {m : MethodId} {args : Array Value} {below : List Frame} {meth : Method} {c : Code} {Q : State → Prop} {D : va_G} {cB cI cJ : ClassId} (hx : p.tables.exec = Jvm.exec) (hb : c.code = b_PW_go) (hml : c.maxLocals = 2) (hw : ∀ w ∈ gw, w.before args s = true) (hown : s.vm.findClass R_PW = some m.cls) (hK : KX D cB cI cJ s) (hRf : 4 ≤ R.frames) (hRl : 120 ≤ R.locals) (x ba ta ra d ah an ao : Nat) (v2 v3 v4 : Int32) (w B G : Nat → Nat) (hw256 : ∀ i, w i < 256) (ps : List Pce) (hok : okW ps) (hR : Rd w ps) (bs : Nat) (hbs : bs ≤ 600) {H : Heap} {locs : List Loc} (hP : va_P D classes [(x, .inr (0, [.ref ba, .ref ta, .ref ra, .int (nI bs), .int v2, .int v3, .int v4, .ref d])), (ba, .inl (cB, 600, .inl (bA B))), (ra, .inl (cB, 600, .inl (bA G))), (d, .inr (1, [.ref ah, .ref an, .ref ao, .int (nI ((enc ps).length))])), (ao, .inl (cB, 3064, .inl (bA w)))] H) (qs rs : List Pce) (pp : Pce) (hps : ps = qs ++ pp :: rs) (hfit : fitP bs pp) (kk : ∀ ls : Array Slot, lv_has ls 2 [(1, .int (nI ((enc (qs ++ [pp])).length))), (0, .ref x)] → W p l e R s m args below meth c H locs 0 0 Q (F0 m 2 ls [])) : ∀ ls : Array Slot, lv_has ls 2 [(1, .int (nI ((enc qs).length))), (0, .ref x)] → W p l e R s m args below meth c H locs 0 0 Q (F0 m 2 ls []) := by
  intro ls hl
  have hlen := hok.2.2
  have helen : (enc ps).length = (enc qs).length + (eP pp).length + (enc rs).length := by rw [hps, enc_len]
  have h3 := eP_3 pp
  have hpm : pp ∈ ps := by rw [hps]; exact List.mem_append_right _ List.mem_cons_self
  have hpok := hok.1 pp hpm
  cases pp with
  | inl q =>
    obtain ⟨hc1, hc2, hc3⟩ := Rd_c hR hps
    obtain ⟨hk1, hk2, hk3⟩ := hpok
    have hfit : q.1 + q.2 ≤ bs := hfit
    have hep := eP_c q
    refine lv_iload_n hx hb d_PW_go_2 rfl (lv_at hl 0 rfl) ?_
    refine lv_aload_n hx hb d_PW_go_3 rfl (lv_at hl 1 rfl) ?_
    refine va_get (D := D) (ci := 0) (v := .ref d) (C := R_PW) (T := F_PW) (N := 8) hx hb hw i_PW hown hK.1 hP 0 rfl rfl 7 (by decide) (hw _ k_44) (fun _ h9 => h9) rfl d_PW_go_4 ?_
    refine ro_V (As := []) (rest := [.int (nI ((enc qs).length))]) ⟨hx, hb, hml, hown, hw⟩ (c_De_size l D cB cI cJ d ah an ao (nI (enc ps).length)) g_PW_56 hd_De_size rfl ⟨rfl, rfl⟩ ⟨Nat.le_trans (by decide) hRf, Nat.le_trans (by decide) hRl⟩ hP hK [3] rfl 3 1 rfl rfl rfl hl.1 rfl (Nat.le_of_ble_eq_true rfl) ⟨Nat.zero_le _, Nat.zero_le _⟩ d_PW_go_7 ?_
    refine n_icmp_ge (tgt := 64) hx hb d_PW_go_10 (by decide) (by omega) (by omega) (fun c_10 => ?_) (fun c_10 => ?_)
    · exfalso; omega
    · refine lv_aload_n hx hb d_PW_go_13 rfl (lv_at hl 1 rfl) ?_
      refine lv_iload_n hx hb d_PW_go_14 rfl (lv_at hl 0 rfl) ?_
      refine ro_V (As := [.int (nI ((enc qs).length))]) (rest := []) ⟨hx, hb, hml, hown, hw⟩ (c_PW_isCopy l D cB cI cJ x ba ta ra d ah an ao (nI bs) v2 v3 v4 (nI (enc ps).length) w hw256 (enc qs).length (by omega)) g_PW_37 hd_PW_isCopy rfl ⟨rfl, rfl⟩ ⟨Nat.le_trans (by decide) hRf, Nat.le_trans (by decide) hRl⟩ hP hK [0, 3, 4] rfl 0 0 rfl rfl rfl hl.1 rfl (Nat.le_of_ble_eq_true rfl) ⟨Nat.zero_le _, Nat.zero_le _⟩ d_PW_go_15 ?_
      refine tv_i (y := nI 1) (by rw [if_pos hc1]) ?_
      refine n_if_eq (tgt := 55) hx hb d_PW_go_18 (by decide) (by omega) (fun c_18 => ?_) (fun c_18 => ?_)
      · exfalso; omega
      · refine lv_aload_n hx hb d_PW_go_21 rfl (lv_at hl 1 rfl) ?_
        refine va_get (D := D) (ci := 0) (v := .ref d) (C := R_PW) (T := F_PW) (N := 8) hx hb hw i_PW hown hK.1 hP 0 rfl rfl 7 (by decide) (hw _ k_44) (fun _ h9 => h9) rfl d_PW_go_22 ?_
        refine ro_V (As := []) (rest := []) ⟨hx, hb, hml, hown, hw⟩ (c_De_out l D cB cI cJ d ah an ao (nI (enc ps).length)) g_PW_33 hd_De_out rfl ⟨rfl, rfl⟩ ⟨Nat.le_trans (by decide) hRf, Nat.le_trans (by decide) hRl⟩ hP hK [3] rfl 3 1 rfl rfl rfl hl.1 rfl (Nat.le_of_ble_eq_true rfl) ⟨Nat.zero_le _, Nat.zero_le _⟩ d_PW_go_25 ?_
        refine lv_iload_n hx hb d_PW_go_28 rfl (lv_at hl 0 rfl) ?_
        refine lv_iconst (v := nI 1) hx hb d_PW_go_29 (by decide +kernel) ?_
        refine n_iadd hx hb d_PW_go_30 ?_
        refine ro_two (As := [.ref ao, .int (nI (((enc qs).length) + 1))]) (rest := []) ⟨hx, hb, hml, hown, hw⟩ (c_De_two l D cB cI cJ ao w ((enc qs).length + 1) hw256 (by omega)) ⟨rfl, rfl⟩ ⟨Nat.le_trans (by decide) hRf, Nat.le_trans (by decide) hRl⟩ hP hK [4] rfl rfl hl.1 rfl (Nat.le_of_ble_eq_true rfl) ⟨Nat.zero_le _, Nat.zero_le _⟩ d_PW_go_31 ?_
        refine tv_i (y := nI q.1) (by rw [hc2]) ?_
        refine lv_aload_n hx hb d_PW_go_34 rfl (lv_at hl 1 rfl) ?_
        refine lv_iload_n hx hb d_PW_go_35 rfl (lv_at hl 0 rfl) ?_
        refine ro_V (As := [.int (nI ((enc qs).length))]) (rest := [.int (nI q.1)]) ⟨hx, hb, hml, hown, hw⟩ (c_PW_many l D cB cI cJ x ba ta ra d ah an ao (nI bs) v2 v3 v4 (nI (enc ps).length) w hw256 (enc qs).length (by omega)) g_PW_45 hd_PW_many rfl ⟨rfl, rfl⟩ ⟨Nat.le_trans (by decide) hRf, Nat.le_trans (by decide) hRl⟩ hP hK [0, 3, 4] rfl 0 0 rfl rfl rfl hl.1 rfl (Nat.le_of_ble_eq_true rfl) ⟨Nat.zero_le _, Nat.zero_le _⟩ d_PW_go_36 ?_
        refine tv_i (y := nI q.2) (by rw [mny_at hR hps]; rfl) ?_
        refine n_iadd hx hb d_PW_go_39 ?_
        refine lv_aload_n hx hb d_PW_go_40 rfl (lv_at hl 1 rfl) ?_
        refine va_get (D := D) (ci := 0) (v := .int (nI bs)) (C := R_PW) (T := F_PW) (N := 8) hx hb hw i_PW hown hK.1 hP 0 rfl rfl 3 (by decide) (hw _ k_40) (fun _ h9 => h9) rfl d_PW_go_41 ?_
        refine n_icmp_le (tgt := 55) hx hb d_PW_go_44 (by decide) (by omega) (by omega) (fun c_44 => ?_) (fun c_44 => ?_)
        · refine lv_aload_n hx hb d_PW_go_55 rfl (lv_at hl 1 rfl) ?_
          refine lv_iload_n hx hb d_PW_go_56 rfl (lv_at hl 0 rfl) ?_
          refine ro_V (As := [.int (nI ((enc qs).length))]) (rest := []) ⟨hx, hb, hml, hown, hw⟩ (c_PW_next l D cB cI cJ x ba ta ra d ah an ao (nI bs) v2 v3 v4 (nI (enc ps).length) w hw256 (enc qs).length (by omega)) g_PW_60 hd_PW_next rfl ⟨rfl, rfl⟩ ⟨Nat.le_trans (by decide) hRf, Nat.le_trans (by decide) hRl⟩ hP hK [0, 3, 4] rfl 0 0 rfl rfl rfl hl.1 rfl (Nat.le_of_ble_eq_true rfl) ⟨Nat.zero_le _, Nat.zero_le _⟩ d_PW_go_57 ?_
          refine tv_i (y := nI ((enc (qs ++ [Sum.inl q])).length)) (by rw [nxt_at hR hps]) ?_
          refine lv_istore_n (lv' := [(1, .int (nI ((enc (qs ++ [Sum.inl q])).length))), (0, .ref x)]) hx hb d_PW_go_60 rfl hl (by decide) rfl (fun ls hl => ?_)
          refine lv_goto (tgt := 2) hx hb d_PW_go_61 (by decide) ?_
          exact kk ls (lv_sub hl [0, 1] rfl)
        · exfalso; omega
  | inr xs =>
    obtain ⟨hc1, hc2, hc3⟩ := Rd_p hR hps
    have hep := eP_p xs
    refine lv_iload_n hx hb d_PW_go_2 rfl (lv_at hl 0 rfl) ?_
    refine lv_aload_n hx hb d_PW_go_3 rfl (lv_at hl 1 rfl) ?_
    refine va_get (D := D) (ci := 0) (v := .ref d) (C := R_PW) (T := F_PW) (N := 8) hx hb hw i_PW hown hK.1 hP 0 rfl rfl 7 (by decide) (hw _ k_44) (fun _ h9 => h9) rfl d_PW_go_4 ?_
    refine ro_V (As := []) (rest := [.int (nI ((enc qs).length))]) ⟨hx, hb, hml, hown, hw⟩ (c_De_size l D cB cI cJ d ah an ao (nI (enc ps).length)) g_PW_56 hd_De_size rfl ⟨rfl, rfl⟩ ⟨Nat.le_trans (by decide) hRf, Nat.le_trans (by decide) hRl⟩ hP hK [3] rfl 3 1 rfl rfl rfl hl.1 rfl (Nat.le_of_ble_eq_true rfl) ⟨Nat.zero_le _, Nat.zero_le _⟩ d_PW_go_7 ?_
    refine n_icmp_ge (tgt := 64) hx hb d_PW_go_10 (by decide) (by omega) (by omega) (fun c_10 => ?_) (fun c_10 => ?_)
    · exfalso; omega
    · refine lv_aload_n hx hb d_PW_go_13 rfl (lv_at hl 1 rfl) ?_
      refine lv_iload_n hx hb d_PW_go_14 rfl (lv_at hl 0 rfl) ?_
      refine ro_V (As := [.int (nI ((enc qs).length))]) (rest := []) ⟨hx, hb, hml, hown, hw⟩ (c_PW_isCopy l D cB cI cJ x ba ta ra d ah an ao (nI bs) v2 v3 v4 (nI (enc ps).length) w hw256 (enc qs).length (by omega)) g_PW_37 hd_PW_isCopy rfl ⟨rfl, rfl⟩ ⟨Nat.le_trans (by decide) hRf, Nat.le_trans (by decide) hRl⟩ hP hK [0, 3, 4] rfl 0 0 rfl rfl rfl hl.1 rfl (Nat.le_of_ble_eq_true rfl) ⟨Nat.zero_le _, Nat.zero_le _⟩ d_PW_go_15 ?_
      refine tv_i (y := nI 0) (by rw [if_neg (by omega)]) ?_
      refine n_if_eq (tgt := 55) hx hb d_PW_go_18 (by decide) (by omega) (fun c_18 => ?_) (fun c_18 => ?_)
      · refine lv_aload_n hx hb d_PW_go_55 rfl (lv_at hl 1 rfl) ?_
        refine lv_iload_n hx hb d_PW_go_56 rfl (lv_at hl 0 rfl) ?_
        refine ro_V (As := [.int (nI ((enc qs).length))]) (rest := []) ⟨hx, hb, hml, hown, hw⟩ (c_PW_next l D cB cI cJ x ba ta ra d ah an ao (nI bs) v2 v3 v4 (nI (enc ps).length) w hw256 (enc qs).length (by omega)) g_PW_60 hd_PW_next rfl ⟨rfl, rfl⟩ ⟨Nat.le_trans (by decide) hRf, Nat.le_trans (by decide) hRl⟩ hP hK [0, 3, 4] rfl 0 0 rfl rfl rfl hl.1 rfl (Nat.le_of_ble_eq_true rfl) ⟨Nat.zero_le _, Nat.zero_le _⟩ d_PW_go_57 ?_
        refine tv_i (y := nI ((enc (qs ++ [Sum.inr xs])).length)) (by rw [nxt_at hR hps]) ?_
        refine lv_istore_n (lv' := [(1, .int (nI ((enc (qs ++ [Sum.inr xs])).length))), (0, .ref x)]) hx hb d_PW_go_60 rfl hl (by decide) rfl (fun ls hl => ?_)
        refine lv_goto (tgt := 2) hx hb d_PW_go_61 (by decide) ?_
        exact kk ls (lv_sub hl [0, 1] rfl)
      · exfalso; omega
theorem fits_mono {a b : Nat} {ps : List Pce} (h : fits_W a ps) (hab : a ≤ b) : fits_W b ps := by
  intro p hp
  have h1 := h p hp
  cases p with
  | inl q => exact Nat.le_trans h1 hab
  | inr xs => trivial
set_option maxHeartbeats 4000000 in
set_option maxRecDepth 100000 in
/-- PieceWays.go where every copy fits -/
theorem c_PW_go (l : Launch) (D : va_G) (cB cI cJ : ClassId) (x ba ta ra d ah an ao : Nat) (v2 v3 v4 : Int32) (w B G : Nat → Nat) (hw256 : ∀ i, w i < 256) (ps : List Pce) (hok : okW ps) (hR : Rd w ps) (bs : Nat) (hbs : bs ≤ 600) (hfit : fits_W bs ps) : Met l y_PW_go (Wd y_PW_go b_PW_go 2 (some .int)) ({ frames := 4, cells := 0, slots := 0, locals := 120 }) (ip_P D cB cI cJ [.ref x] [(x, .inr (0, [.ref ba, .ref ta, .ref ra, .int (nI bs), .int v2, .int v3, .int v4, .ref d])), (ba, .inl (cB, 600, .inl (bA B))), (ra, .inl (cB, 600, .inl (bA G))), (d, .inr (1, [.ref ah, .ref an, .ref ao, .int (nI ((enc ps).length))])), (ao, .inl (cB, 3064, .inl (bA w)))]) (ip_Q D [(x, .inr (0, [.ref ba, .ref ta, .ref ra, .int (nI bs), .int v2, .int v3, .int v4, .ref d])), (ba, .inl (cB, 600, .inl (bA B))), (ra, .inl (cB, 600, .inl (bA G))), (d, .inr (1, [.ref ah, .ref an, .ref ao, .int (nI ((enc ps).length))])), (ao, .inl (cB, 3064, .inl (bA w)))] (fun _ : Unit => True) (fun _ : Unit => some (.int (nI (sN ps)))) (fun _ : Unit => [(x, .inr (0, [.ref ba, .ref ta, .ref ra, .int (nI bs), .int v2, .int (nI (sN ps)), .int v4, .ref d])), (ba, .inl (cB, 600, .inl (bA B))), (ra, .inl (cB, 600, .inl (bA (spl G 0 (outs B ps))))), (d, .inr (1, [.ref ah, .ref an, .ref ao, .int (nI ((enc ps).length))])), (ao, .inl (cB, 3064, .inl (bA w)))])) 0 0 (inW [(x, .inr (0, [.ref ba, .ref ta, .ref ra, .int (nI bs), .int v2, .int v3, .int v4, .ref d])), (ba, .inl (cB, 600, .inl (bA B))), (ra, .inl (cB, 600, .inl (bA G))), (d, .inr (1, [.ref ah, .ref an, .ref ao, .int (nI ((enc ps).length))])), (ao, .inl (cB, 3064, .inl (bA w)))]) := by
  refine mt_ip (by decide) (Nat.le_of_ble_eq_true rfl) ?_
  intro p e s m args below meth c ls Q A hx hb hr hml hw hown hlk hP hK hD hS hl hAe hQ
  have hown : s.vm.findClass R_PW = some m.cls := hown
  have hl : lv_has ls 2 [(0, .ref x)] := hl
  have hlen := hok.2.2
  have loop : ∀ (rs qs : List Pce), ps = qs ++ rs → ∀ ls : Array Slot, lv_has ls 2 [(1, .int (nI ((enc qs).length))), (0, .ref x)] → W p l e ({ frames := 4, cells := 0, slots := 0, locals := 120 }) s m args below meth c s.heap [] 0 0 Q (F0 m 2 ls []) := by
    intro rs
    induction rs with
    | cons pp rs ih =>
      intro qs hps
      exact g_PW_step hx hb hml hw hown hK (by decide) (by decide) x ba ta ra d ah an ao v2 v3 v4 w B G hw256 ps hok hR bs hbs hP qs rs pp hps (hfit pp (by rw [hps]; exact List.mem_append_right _ List.mem_cons_self)) (ih (qs ++ [pp]) (by rw [hps, List.append_assoc]; rfl))
    | nil =>
      intro qs hps ls hl
      rw [List.append_nil] at hps
      subst hps
      refine lv_iload_n hx hb d_PW_go_2 rfl (lv_at hl 0 rfl) ?_
      refine lv_aload_n hx hb d_PW_go_3 rfl (lv_at hl 1 rfl) ?_
      refine va_get (D := D) (ci := 0) (v := .ref d) (C := R_PW) (T := F_PW) (N := 8) hx hb hw i_PW hown hK.1 hP 0 rfl rfl 7 (by decide) (hw _ k_44) (fun _ h9 => h9) rfl d_PW_go_4 ?_
      refine ro_V (As := []) (rest := [.int (nI ((enc ps).length))]) ⟨hx, hb, hml, hown, hw⟩ (c_De_size l D cB cI cJ d ah an ao (nI (enc ps).length)) g_PW_56 hd_De_size rfl ⟨rfl, rfl⟩ ⟨by decide, by decide⟩ hP hK [3] rfl 3 1 rfl rfl rfl hl.1 rfl (Nat.le_of_ble_eq_true rfl) ⟨Nat.zero_le _, Nat.zero_le _⟩ d_PW_go_7 ?_
      refine n_icmp_ge (tgt := 64) hx hb d_PW_go_10 (by decide) (by omega) (by omega) (fun c_10 => ?_) (fun c_10 => ?_)
      · refine lv_aload_n hx hb d_PW_go_64 rfl (lv_at hl 1 rfl) ?_
        refine lv_aload_n hx hb d_PW_go_65 rfl (lv_at hl 1 rfl) ?_
        refine va_get (D := D) (ci := 0) (v := .ref d) (C := R_PW) (T := F_PW) (N := 8) hx hb hw i_PW hown hK.1 hP 0 rfl rfl 7 (by decide) (hw _ k_44) (fun _ h9 => h9) rfl d_PW_go_66 ?_
        refine ro_V (As := []) (rest := [.ref x]) ⟨hx, hb, hml, hown, hw⟩ (c_De_out l D cB cI cJ d ah an ao (nI (enc ps).length)) g_PW_33 hd_De_out rfl ⟨rfl, rfl⟩ ⟨by decide, by decide⟩ hP hK [3] rfl 3 1 rfl rfl rfl hl.1 rfl (Nat.le_of_ble_eq_true rfl) ⟨Nat.zero_le _, Nat.zero_le _⟩ d_PW_go_69 ?_
        refine lv_iconst (v := nI 0) hx hb d_PW_go_72 (by decide +kernel) ?_
        refine lv_aload_n hx hb d_PW_go_73 rfl (lv_at hl 1 rfl) ?_
        refine va_get (D := D) (ci := 0) (v := .ref d) (C := R_PW) (T := F_PW) (N := 8) hx hb hw i_PW hown hK.1 hP 0 rfl rfl 7 (by decide) (hw _ k_44) (fun _ h9 => h9) rfl d_PW_go_74 ?_
        refine ro_V (As := []) (rest := [.int (nI 0), .ref ao, .ref x]) ⟨hx, hb, hml, hown, hw⟩ (c_De_size l D cB cI cJ d ah an ao (nI (enc ps).length)) g_PW_56 hd_De_size rfl ⟨rfl, rfl⟩ ⟨by decide, by decide⟩ hP hK [3] rfl 3 1 rfl rfl rfl hl.1 rfl (Nat.le_of_ble_eq_true rfl) ⟨Nat.zero_le _, Nat.zero_le _⟩ d_PW_go_77 ?_
        refine lv_aload_n hx hb d_PW_go_80 rfl (lv_at hl 1 rfl) ?_
        refine va_get (D := D) (ci := 0) (v := .ref ba) (C := R_PW) (T := F_PW) (N := 8) hx hb hw i_PW hown hK.1 hP 0 rfl rfl 0 (by decide) (hw _ k_37) (fun _ h9 => h9) rfl d_PW_go_81 ?_
        refine lv_aload_n hx hb d_PW_go_84 rfl (lv_at hl 1 rfl) ?_
        refine va_get (D := D) (ci := 0) (v := .ref ra) (C := R_PW) (T := F_PW) (N := 8) hx hb hw i_PW hown hK.1 hP 0 rfl rfl 2 (by decide) (hw _ k_39) (fun _ h9 => h9) rfl d_PW_go_85 ?_
        refine ip_S (As := [.ref ao, .int (nI 0), .int (nI ((enc ps).length)), .ref ba, .ref ra]) (rest := [.ref x]) ⟨hx, hb, hml, hown, hw⟩ (c_De_apply l D cB cI cJ ao ba ra w B G ps hw256 hR hok (fits_mono hfit hbs)) g_PW_66 hd_De_apply ⟨rfl, rfl⟩ ⟨by decide, by decide⟩ hP hK hD hS [4, 1, 2] (by decide) rfl [ao, ba, ra] rfl (fun _ => rfl) rfl hl.1 rfl (Nat.le_of_ble_eq_true rfl) ⟨Nat.zero_le _, Nat.zero_le _⟩ d_PW_go_88 (fun u_88 H locs hu_88 hP hD hS => ?_)
        refine W.eq (g2 := F0 m 91 ls [.int (nI (sN ps)), .ref x]) rfl ?_
        have hP : va_P D classes [(x, .inr (0, [.ref ba, .ref ta, .ref ra, .int (nI bs), .int v2, .int v3, .int v4, .ref d])), (ba, .inl (cB, 600, .inl (bA B))), (ra, .inl (cB, 600, .inl (bA (spl G 0 (outs B ps))))), (d, .inr (1, [.ref ah, .ref an, .ref ao, .int (nI ((enc ps).length))])), (ao, .inl (cB, 3064, .inl (bA w)))] H := hP
        have hD : va_D A [(x, .inr (0, [.ref ba, .ref ta, .ref ra, .int (nI bs), .int v2, .int v3, .int v4, .ref d])), (ba, .inl (cB, 600, .inl (bA B))), (ra, .inl (cB, 600, .inl (bA (spl G 0 (outs B ps))))), (d, .inr (1, [.ref ah, .ref an, .ref ao, .int (nI ((enc ps).length))])), (ao, .inl (cB, 3064, .inl (bA w)))] := hD
        refine va_put (D := D) (ci := 0) (v := .int (nI (sN ps))) (ty := .int) (C := R_PW) (T := F_PW) (N := 8) hx hb hw i_PW t_PW t_PW_ok n_PW hown hK.1 hP hD hS 0 rfl rfl 5 (by decide) (hw _ k_42) (fun _ h9 => h9) rfl (by decide +kernel) rfl rfl (Nat.le_of_ble_eq_true rfl) d_PW_go_91 (fun H locs hP hD hS => ?_)
        have hP : va_P D classes [(x, .inr (0, [.ref ba, .ref ta, .ref ra, .int (nI bs), .int v2, .int (nI (sN ps)), .int v4, .ref d])), (ba, .inl (cB, 600, .inl (bA B))), (ra, .inl (cB, 600, .inl (bA (spl G 0 (outs B ps))))), (d, .inr (1, [.ref ah, .ref an, .ref ao, .int (nI ((enc ps).length))])), (ao, .inl (cB, 3064, .inl (bA w)))] H := hP
        have hD : va_D A [(x, .inr (0, [.ref ba, .ref ta, .ref ra, .int (nI bs), .int v2, .int (nI (sN ps)), .int v4, .ref d])), (ba, .inl (cB, 600, .inl (bA B))), (ra, .inl (cB, 600, .inl (bA (spl G 0 (outs B ps))))), (d, .inr (1, [.ref ah, .ref an, .ref ao, .int (nI ((enc ps).length))])), (ao, .inl (cB, 3064, .inl (bA w)))] := hD
        refine lv_aload_n hx hb d_PW_go_94 rfl (lv_at hl 1 rfl) ?_
        refine va_get (D := D) (ci := 0) (v := .int (nI (sN ps))) (C := R_PW) (T := F_PW) (N := 8) hx hb hw i_PW hown hK.1 hP 0 rfl rfl 5 (by decide) (hw _ k_42) (fun _ h9 => h9) rfl d_PW_go_95 ?_
        exact ip_iret hx hb hr hlk hAe hS () rfl trivial hP hQ d_PW_go_98
      · exfalso; omega
  refine lv_iconst (v := nI 0) hx hb d_PW_go_0 (by decide +kernel) ?_
  refine lv_istore_n (lv' := [(1, .int (nI 0)), (0, .ref x)]) hx hb d_PW_go_1 rfl hl (by decide) rfl (fun ls hl => ?_)
  exact loop ps [] rfl ls (lv_sub hl [0, 1] rfl)
end
section
/-! exceptions: what a throw of IllegalStateException needs; a method that throws; a handler whose class entry may still be cold -/
abbrev cISE : String := "java/lang/IllegalStateException"
abbrev exN : List String := ["java/lang/RuntimeException", "java/lang/Exception"]
/-- a static field that holds a reference or null, as the tables and the heap hold it -/
def SZ (C n d : String) (U : State) (H : Heap) : Prop := ∃ (c : ClassId) (k : Class) (i : Nat) (f : Field) (a : Nat) (cell : Cell) (v : Value), U.vm.findClass C = some c ∧ U.fieldFound? C n d = some (c, k, i, f) ∧ f.isStatic = true ∧ k.statics = some a ∧ H[a]? = some cell ∧ cell.vm.isStatics = true ∧ cell.cls = c ∧ f.slot < cell.slots.size ∧ k.staticTypes[f.slot]? = some f.type ∧ cell.slots[f.slot]? = some v ∧ (v = .null ∨ ∃ r, v = .ref r)
theorem SZ.of {args : Array Value} {s : State} {C n d : String} (h1 : (Cond.laysStatic C n d).before args s = true) (h2 : (Cond.isRef (.static C n d)).before args s = true) : SZ C n d s s.heap := by
  obtain ⟨c, k, i, f, a, cell, q1, q2, q3, q4, q5, q6, q7, q8, q9⟩ := Cond.laysStatic_spec h1
  obtain ⟨u, hu⟩ := Cond.staticRefV q2 q3 q4 q5 q6 h2
  refine ⟨c, k, i, f, a, cell, u.v, q1, q2, q3, q4, q5, q6, q7, q8, q9, hu, ?_⟩
  obtain ⟨v, hv⟩ := u
  cases v <;> simp [Value.isRef] at hv ⊢
theorem SZ.lays {args : Array Value} {U : State} {C n d : String} (h : SZ C n d U U.heap) : (Cond.laysStatic C n d).before args U = true := by
  obtain ⟨c, k, i, f, a, cell, v, q1, q2, q3, q4, q5, q6, q7, q8, q9, q10, q11⟩ := h
  simp [Cond.before, Cond.holds, Cond.value, q1, q2, q3, q4, q5, q6, q7, q8, q9]
theorem SZ.isR {args : Array Value} {U : State} {C n d : String} (h : SZ C n d U U.heap) : (Cond.isRef (.static C n d)).before args U = true := by
  obtain ⟨c, k, i, f, a, cell, v, q1, q2, q3, q4, q5, q6, q7, q8, q9, q10, q11⟩ := h
  rcases q11 with rfl | ⟨r, rfl⟩ <;> simp [Cond.before, Cond.holds, Cond.value, Term.eval, State.fieldNamed?, q2, q3, q4, q5, q6, q10]
theorem SZ.moved {u U : State} {H : Heap} {C n d : String} (hvm : u.vm.Alike U.vm) (h : SZ C n d u H) : SZ C n d U H := by
  obtain ⟨c, k, i, f, a, cell, v, q1, q2, q3, q4, q5, q6, q7, q8, q9, q10, q11⟩ := h
  obtain ⟨k', hi', he⟩ := State.fieldFound?_setVm hvm q2
  exact ⟨c, k', i, f, a, cell, v, by rw [hvm.findClass]; exact q1, hi', q3, by rw [he]; exact q4, q5, q6, q7, q8, by rw [he]; exact q9, q10, q11⟩
theorem SZ.kept {U : State} {H H1 : Heap} {C n d : String} (hq : ∀ a, a < H.size → H1[a]? = H[a]?) (h : SZ C n d U H) : SZ C n d U H1 := by
  obtain ⟨c, k, i, f, a, cell, v, q1, q2, q3, q4, q5, q⟩ := h
  exact ⟨c, k, i, f, a, cell, v, q1, q2, q3, q4, by rw [hq a (Array.getElem?_eq_some_iff.mp q5).1]; exact q5, q⟩
def EX (U : State) : Prop := SZ Bundle.tN "UNASSIGNED_STACK" Bundle.steD U U.heap ∧ SZ Bundle.tN "SUPPRESSED_SENTINEL" Bundle.listD U U.heap ∧ va_Nw (.declares (Bundle.init0 "java/lang/RuntimeException")) U ∧ va_Nw (.declares (Bundle.init0 "java/lang/Exception")) U ∧ va_Nw (.declares (Bundle.init0 Bundle.tN)) U
theorem EX.warm {s U : State} (hW : s.WarmedH U.vm) (hh : ∀ a, a < s.heap.size → U.heap[a]? = s.heap[a]?) (h : EX s) : EX U := ⟨SZ.moved hW.alike (SZ.kept hh h.1), SZ.moved hW.alike (SZ.kept hh h.2.1), va_Nw.warmD hW h.2.2.1, va_Nw.warmD hW h.2.2.2.1, va_Nw.warmD hW h.2.2.2.2⟩
theorem EX.vm {u U : State} (hv : u.vm = U.vm) (hh : u.heap = U.heap) (h : EX u) : EX U := by
  obtain ⟨h1, h2, h3, h4, h5⟩ := h
  refine ⟨SZ.moved (by rw [hv]; exact Vm.Alike.refl U.vm) (by rw [← hh]; exact h1), SZ.moved (by rw [hv]; exact Vm.Alike.refl U.vm) (by rw [← hh]; exact h2), va_Nw.same rfl hv h3, va_Nw.same rfl hv h4, va_Nw.same rfl hv h5⟩
def exS : List Cond := [.laysStatic Bundle.tN "UNASSIGNED_STACK" Bundle.steD, .laysStatic Bundle.tN "SUPPRESSED_SENTINEL" Bundle.listD, .isRef (.static Bundle.tN "UNASSIGNED_STACK" Bundle.steD), .isRef (.static Bundle.tN "SUPPRESSED_SENTINEL" Bundle.listD), .declares (Bundle.init0 "java/lang/RuntimeException"), .declares (Bundle.init0 "java/lang/Exception"), .declares (Bundle.init0 Bundle.tN), .castable cISE cISE]
theorem ex_all : (Bundle.ownAtoms0 R_PW 65 cISE exN).all (fun a => decide (a ∈ gw) || decide (a ∈ exS)) = true := by decide +kernel
theorem ex_atoms {args : Array Value} {s : State} (hw : ∀ w ∈ gw, w.before args s = true) (hX : EX s) (hc : va_Nw (.castable cISE cISE) s) : ∀ a ∈ Bundle.ownAtoms0 R_PW 65 cISE exN, a.before args s = true := by
  intro a ha
  have h1 := List.all_eq_true.mp ex_all a ha
  simp only [Bool.or_eq_true, decide_eq_true_eq] at h1
  rcases h1 with h1 | h1
  · exact hw a h1
  · simp only [exS, List.mem_cons, List.not_mem_nil, or_false] at h1
    rcases h1 with e | e | e | e | e | e | e | e <;> rw [e]
    · exact hX.1.lays
    · exact hX.2.1.lays
    · exact hX.1.isR
    · exact hX.2.1.isR
    · exact va_Nw.use rfl hX.2.2.1
    · exact va_Nw.use rfl hX.2.2.2.1
    · exact va_Nw.use rfl hX.2.2.2.2
    · exact va_Nw.use rfl hc
theorem ke_cl : Cond.classLink R_PW 63 cISE ∈ gw := gw_in 165 (by decide +kernel) rfl
theorem ke_in : Cond.instantiable cISE 6 ∈ gw := gw_in 166 (by decide +kernel) rfl
theorem ke_ini : Cond.initialized cISE ∈ gw := gw_in 21 (by decide +kernel) rfl
theorem ke_cl2 : Cond.classLink R_law 13 cISE ∈ gw := gw_in 160 (by decide +kernel) rfl
/-- a method that throws: an object of IllegalStateException, newly made; no old cell has changed -/
def th_Q : Array Value → State → Outcome → State → Prop := fun _ st oc t => ∃ (a : Nat) (ce : Cell), oc = .threw a ∧ t.heap[a]? = some ce ∧ ce.vm = .none ∧ st.vm.findClass cISE = some ce.cls ∧ st.WarmedH t.vm ∧ st.sameButNew ({ t with vm := st.vm } : State) [] 1 6
def th_Z (below : List Frame) (a : Array Value) (s : State) : State → Prop := fun t => ∃ o, t.status = .running ∧ Ended t below o ∧ th_Q a s o t
def rmX : Room := { frames := 6, cells := 1, slots := 6, locals := 180 }
theorem th_throw {p : Program} {l : Launch} {e : Env} {s : State} {m : MethodId} {args : Array Value} {below : List Frame} {meth : Method} {c : Code} (hx : p.tables.exec = Jvm.exec) (hb : c.code = b_PW_go) (hml : c.maxLocals = 2) (hw : ∀ w ∈ gw, w.before args s = true) (hown : s.vm.findClass R_PW = some m.cls) (hlk : meth.locks = false) (hexc : c.exceptionTable.isEmpty = true) (hfl : l.flags = flags0) (hX : EX s) (hc : va_Nw (.castable cISE cISE) s) {ls : Array Slot} (hsz : ls.size = 2) :
    W p l e rmX s m args below meth c s.heap [] 0 0 (th_Z below args s) (F0 m 47 ls []) := by
  refine W.newc hx hb hown (hw _ ke_cl) (hw _ ke_in) (hw _ ke_ini) rfl d_PW_go_47 (by decide) (by decide) (fun cC kC h1 h2 h3 h4 => ?_)
  refine lv_dup hx hb d_PW_go_50 rfl ?_
  intro T hT X
  have htr : e.platform.stackTraces = false := by
    rw [X.admits.platform]
    show l.stackTraces = false
    unfold Launch.stackTraces
    rw [hfl]; decide +kernel
  have hout : ∀ x ∈ c.exceptionTable.toList, covers x (51 + 3) = false := by
    intro x hx9
    have h0 : c.exceptionTable = #[] := Array.isEmpty_iff.mp hexc
    rw [h0] at hx9
    simp at hx9
  obtain ⟨U, st, hrun, hend, hW, hsame, ce, hce, OC⟩ := X.ctorThrow0 hx htr (own := R_PW) (cls := cISE) (names := exN) (ic := 65) hown (by decide +kernel) (by decide +kernel) (ex_atoms hw hX hc) (fun x h9 => by cases h9) h1 h2 (a := s.heap.size) (by rw [hT]; simp) (Nat.le_refl _) (g := F0 m 51 ls [.ref s.heap.size, .ref s.heap.size]) rfl (hsz.trans hml.symm) rfl rfl (rest := []) rfl (by rw [hb]; exact d_PW_go_51) (by rw [hb]; exact d_PW_go_54) hout (by decide) (Nat.le_of_ble_eq_true rfl) hlk
  exact ⟨U, st, .threw s.heap.size, hrun, hend, s.heap.size, ce, rfl, hce, OC.vm, OC.cls, hW, hsame⟩
/-! a handler whose class entry may be cold -/
theorem go_cold {E : CtlPost} {e : Env} {d : Bool} {acts : List Action} {s : State} {f : JFrame} {a : Addr} {Q : Handler → Pre} {x : ExceptionTableEntry} {t : List ExceptionTableEntry} {c : ClassId} {cell : Cell} {vm' : Vm} (hx : covers x f.pc = true) (h0 : x.catchType ≠ 0) (hg : (Jvm.resolveClass f.method.cls x.catchType).Gives e.toSetting s.vm (.ok c) vm') (hsz : vm'.classes.size ≤ s.vm.classes.size) (hcell : s.heap[a]? = some cell) (hobj : ∀ k, cell.vm ≠ .statics k)
    (hk : ∃ k, vm'.classes[cell.cls]? = some k) (hc : ∃ k, vm'.classes[c]? = some k) (hfit : vm'.assignable cell.cls c = true) :
    wp (findHandler.go f a (x :: t)) Q E e d acts s ↔ Q (.found x.handlerPc) d acts (s.setVm vm') := by
  simp only [covers] at hx
  obtain ⟨ha, ht⟩ := hg.op (op := VmOp.resolveClass f.method.cls x.catchType) rfl
  simp [findHandler.go, hx, h0, ha, ht, hsz, hcell, hobj, hk, hc, hfit, VmOp.dirties, VmOp.acts]
end
section
/-! a throw is caught; calls of methods that throw; calls of a method with an exception table -/
theorem step_catchTo {e : Env} {s : State} {a : Addr} {f : JFrame} {r : List Frame} {pc : Nat} {vm' : Vm} (hfind : ∀ (Q : Handler → Pre) (E : CtlPost) (d : Bool) (acts : List Action), wp (findHandler f a) Q E e d acts s ↔ Q (.found pc) d acts (s.setVm vm')) :
    (stepThrowing e s a (.java f :: r)).Is ((s.setVm vm').setFrames (.java { f with pc := pc, stack := [.ref a] } :: r)) [] := by
  simp only [stepThrowing, searchFrame, vmDo]
  generalize hr : Sem.go _ e false [] s = res
  obtain ⟨as, rfl, ha⟩ := Sem.eq_ok_of hr (a := Handler.found pc) (s' := s.setVm vm') (acts' := []) (by simp [hfind _ _ _ _])
  exact ⟨rfl, ha⟩
theorem caughtTo {tb : Tables} {e : Env} {s target : State} {g : JFrame} {c : Code} {below : List Frame} {a : Addr} {vm' : Vm} (h : At s g.method c below) {pc : Nat} (hfind : ∀ (Q : Handler → Pre) (E : CtlPost) (d : Bool) (acts : List Action), wp (findHandler g a) Q E e d acts ((s.setTop g).pushFrame (.throwing a)) ↔ Q (.found pc) d acts (((s.setTop g).pushFrame (.throwing a)).setVm vm'))
    (hrest : Steps tb e below ((s.setVm vm').setTop { g with pc := pc, stack := [.ref a] }) target) :
    Steps tb e below ((s.setTop g).pushFrame (.throwing a)) target := by
  obtain ⟨hgo, hw⟩ := h.throwing a
  refine Steps.head hgo hw ?_
  rw [stepThread_throwing (frames_entered h.top _), (step_catchTo (s := (s.setTop g).pushFrame (.throwing a)) hfind).1]
  obtain ⟨g₀, hg⟩ := Option.isSome_iff_exists.mp h.top
  obtain ⟨r, hr⟩ := State.topJava?_eq_some.mp hg
  have e1 : ∀ F : List Frame, (((s.setTop g).pushFrame (.throwing a)).setVm vm').setFrames F = (((s.setTop g).pushFrame (.throwing a)).setFrames F).setVm vm' := fun _ => rfl
  rw [e1, State.pushFrame, State.setFrames_setFrames, State.setTop_of_frames _ hr, State.setFrames_setFrames]
  have hr' : (s.setVm vm').frames = .java g₀ :: r := hr
  rw [State.setTop_of_frames _ hr'] at hrest
  rw [hr]
  exact hrest
section Cat
variable {p : Program} {l : Launch} {e : Env} {R : Room} {s : State} {m : MethodId} {args : Array Value} {below : List Frame} {meth : Method} {c : Code} {T : State} {locs : List Loc} {cells slots : Nat}
theorem caught_cold (X : Stand p l e R s m args below meth c T locs cells slots) {g : JFrame} (hg : g.method = m) (hown : s.vm.findClass R_law = some m.cls) (hcl : (Cond.classLink R_law 13 cISE).before args s = true) (htab : c.exceptionTable.toList.map (fun h => (h.startPc, h.endPc, h.handlerPc, h.catchType)) = [(0, 8, 11, 13)]) (hpc : g.pc < 8) {a : Nat} {ce : Cell} (hce : T.heap[a]? = some ce) (hvm : ce.vm = .none) (hfc : s.vm.findClass cISE = some ce.cls) (hcast : va_Nw (.castable cISE cISE) s) :
    ∃ vm' : Vm, Stand p l e R s m args below meth c (T.setVm vm') locs cells slots ∧ ∀ target, Steps p.tables e below ((T.setVm vm').setTop { g with pc := 11, stack := [.ref a] }) target → Steps p.tables e below ((T.setTop g).pushFrame (.throwing a)) target := by
  have hpl : e.platform.magicAccessors = ({} : Platform).magicAccessors := by rw [X.admits.platform]
  obtain ⟨cc, hfcc, hcl'⟩ := Cond.classLink_spec hown hcl e.platform hpl
  obtain rfl : ce.cls = cc := Option.some.inj (hfc.symm.trans hfcc)
  obtain ⟨hg₁, hwarm₁, hready₁⟩ := State.classEntry (e := e) X.warmed hcl'
  generalize T.vm.noted m.cls 13 (.cls ce.cls) = vm₁ at hg₁ hwarm₁ hready₁
  have hal : T.vm.Alike vm₁ := X.warmed.alike.symm.trans hwarm₁.alike
  refine ⟨vm₁, X.noted hwarm₁, fun target hrest => ?_⟩
  have h : At T g.method c below := by rw [hg]; exact X.here
  obtain ⟨x, hx, hxe⟩ : ∃ x, c.exceptionTable.toList = [x] ∧ (x.startPc, x.endPc, x.handlerPc, x.catchType) = (0, 8, 11, 13) := by
    cases hl : c.exceptionTable.toList with
    | nil => rw [hl] at htab; cases htab
    | cons x r =>
      rw [hl] at htab
      cases r with
      | nil => exact ⟨x, rfl, by simpa using htab⟩
      | cons y r => simp at htab
  simp only [Prod.mk.injEq] at hxe
  obtain ⟨x1, x2, x3, x4⟩ := hxe
  obtain ⟨c3, c4, hc3, hc4, hasg⟩ := Cond.castable_spec (va_Nw.use (A := args) rfl hcast)
  cases Option.some.inj (hc3.symm.trans hfc)
  cases Option.some.inj (hc4.symm.trans hfc)
  have hcls : ∃ k, vm₁.classes[ce.cls]? = some k := Vm.classAt_of_findClass (by rw [hwarm₁.alike.findClass]; exact hfc)
  refine caughtTo h (pc := 11) (fun Q E d acts => ?_) hrest
  rw [W.findHandler_eq (meth := meth) (code := c) (by rw [Stand.throwing_vm, hg]; exact X.method') X.code, hx, ← x3]
  exact go_cold (c := ce.cls) (cell := ce) (by simp [covers, x1, x2]; exact hpc) (by rw [x4]; decide) (by rw [x4, hg, Stand.throwing_vm]; exact hg₁) (by rw [Stand.throwing_vm]; exact hal.size_le) (by rw [Stand.throwing_heap]; exact hce) (fun k hk => by rw [hvm] at hk; cases hk) hcls hcls (by rw [hwarm₁.alike.assignable]; exact hasg)
theorem th_callV (X : Stand p l e R s m args below meth c T locs cells slots) (hx : p.tables.exec = Jvm.exec) {own C : String} {index : Nat} {y : MethodName} {bytes : ByteArray} {maxL : Nat} {ret : Option FieldType} {rm : Room} {Pc : Array Value → State → Prop} (hM : MetFree l y (headSpec (Wd y bytes maxL ret) rm) Pc (fun _ _ _ _ _ => True) th_Q) (hbl : FrameBlind Pc) (hw : ∀ w ∈ gw, w.before args s = true) (hown : s.vm.findClass own = some m.cls)
    (hlink : Cond.methodLink own index y ∈ gw) (hinst : Cond.instanceMethod y ∈ gw) (hsel : Cond.selects C y y ∈ gw) (hcode : Cond.code y bytes maxL ret ∈ gw) (hini : Cond.initialized y.cls ∈ gw) (hy : y.cls ≠ "java/lang/invoke/MethodHandle" ∧ y.cls ≠ "java/lang/invoke/VarHandle")
    {b : Addr} {cellB : Cell} (hcell : T.heap[b]? = some cellB) (hobj : cellB.vm.isStatics = false) (hcls : s.vm.findClass C = some cellB.cls)
    {g : JFrame} (hg : g.method = m) (hsize : g.locals.size = c.maxLocals) {argsL rest : List Value} (hlen : ∀ sig, parseMethodDescriptor y.desc = some sig → argsL.length = sig.parameters.length) (hstack : g.stack = argsL.reverse ++ .ref b :: rest) (hW : 2 * g.monitorRoom + (rest.map fun v => v.category).sum ≤ 8) (hdg : decode c.code g.pc = .ok (.invokevirtual index, 3))
    (hRf : rm.frames + 1 ≤ R.frames) (hRl : 8 + (maxL + 11) + rm.locals ≤ R.locals) (hRc : cells + rm.cells ≤ R.cells) (hRs : slots + rm.slots ≤ R.slots) (hpre : ∀ U : State, U.heap = T.heap → s.WarmedH U.vm → Pc (Value.ref b :: argsL).toArray U) :
    ∃ (a : Nat) (ce : Cell) (T' : State), Stand p l e R s m args below meth c T' locs (cells + 1) (slots + 6) ∧ T'.heap[a]? = some ce ∧ ce.vm = .none ∧ s.vm.findClass cISE = some ce.cls ∧ T.heap.size ≤ T'.heap.size ∧ (∀ q : Nat, q < T.heap.size → T'.heap[q]? = T.heap[q]?) ∧
      ∀ target, Steps p.tables e below ((T'.setTop { g with stack := rest }).pushFrame (.throwing a)) target → Steps p.tables e below (T.setTop g) target := by
  obtain ⟨mk, methM, hnamed, hmethM, hstM, habM⟩ := Cond.instanceMethod_spec (hw _ hinst)
  obtain ⟨methM', cM, hmethM', -, -, -, -, -, -, hsigM⟩ := Cond.code_spec hnamed (hw _ hcode)
  cases hmethM.symm.trans hmethM'
  obtain ⟨c2, r2, m2, q1, q2, q3, q4, kP, hkP, hkPi⟩ := Cond.selects_spec (hw _ hsel)
  cases hcls.symm.trans q1
  cases (State.methodFound?_of_named hnamed hy).symm.trans q2
  cases hnamed.symm.trans q3
  have hselP : selectMethod e.platform s.vm cellB.cls mk = .method mk := by rw [Launch.admits_selectMethod X.admits]; exact q4
  obtain ⟨vm₁, X₁, hstep₁⟩ := X.invokevirtual hx hown (hw _ hlink) hnamed hmethM hstM hkP hkPi hy (a := b) (cell := cellB) hcell
    (fun z h => by rw [h] at hobj; cases hobj) hselP hmethM habM hkP hkPi (g := g) hg (argsL := argsL) (rest := rest) (hlen _ hsigM) hstack hdg
  have hn := X₁.named hnamed
  have h : At (T.setVm vm₁) ({ g with stack := rest } : JFrame).method c below := by show At (T.setVm vm₁) g.method c below; rw [hg]; exact X₁.here
  have hgd : ∀ w ∈ gw, ∀ a' : Array Value, w.before a' (T.setVm vm₁) = true := fun w hw9 a' => word_at X₁.warmed (gw_good hw9) (hw w hw9)
  obtain ⟨methY, cY, hmY, hcY, -, hlY, -⟩ := Cond.code_spec hn (hgd _ hcode args)
  obtain ⟨kY, hkY, -⟩ := className_of_methodNamed hn
  have hinitY : kY.init = .initialized := Cond.initialized_spec (findClass_of_methodNamed hn) hkY (hgd _ hini args)
  have hpreU : (headSpec (Wd y bytes maxL ret) rm).pre.before (Value.ref b :: argsL).toArray (T.setVm vm₁) = true := atoms_intro fun w hw9 => by
    rcases List.mem_cons.mp hw9 with e9 | hw9
    · rw [e9]; exact hgd _ hcode _
    · exact hgd w hw9 _
  have happ : (headSpec (Wd y bytes maxL ret) rm).appliesLoose y e.platform ((T.setVm vm₁).calling { g with stack := rest } mk (Value.ref b :: argsL).toArray) = true :=
    Spec.appliesLoose_calling (g := { g with stack := rest }) h hdg hn hkY hinitY
      (X₁.room_calling (g := { g with stack := rest }) (R' := rm) hsize hmY hcY hRf (by
        have hW9 : 2 * ({ g with stack := rest } : JFrame).monitorRoom + (rest.map fun v => v.category).sum ≤ 8 := hW
        rw [hlY]; show 2 * ({ g with stack := rest } : JFrame).monitorRoom + (rest.map fun v => v.category).sum + (maxL + 11) + rm.locals ≤ R.locals; omega) hRc hRs) hpreU
  obtain ⟨mid, hmid⟩ := h.above
  have hfr : ((T.setVm vm₁).setTop { g with stack := rest }).frames = (.java { g with stack := rest } :: mid) ++ below := by rw [State.frames_setTop' _ h.top, hmid]; rfl
  obtain ⟨o, s₂, hsteps, -, hend, hq⟩ := Steps.callFree hM p X₁.admits X₁.cas X₁.clock (acts := []) hfr happ (hbl _ _ _ _ (hpre (T.setVm vm₁) rfl X₁.warmed)) trivial
  have hq' : th_Q (Value.ref b :: argsL).toArray ((T.setVm vm₁).calling { g with stack := rest } mk (Value.ref b :: argsL).toArray) o s₂ := hq
  rw [State.frames_setTop' _ h.top] at hend
  obtain ⟨a, ce, rfl, hce, hvm, hfc, hW₂, hsame⟩ := hq'
  rw [X₁.tail] at hend
  obtain ⟨T', X', hW', hsame', ht⟩ := X₁.outOfThrown (g := { g with stack := rest }) hg hend hW₂ hsame
  have hheap : T'.heap = s₂.heap := by rw [ht, Stand.throwing_heap]
  refine ⟨a, ce, T', by simpa using X', by rw [hheap]; exact hce, hvm, by rw [← X₁.warmed.alike.findClass]; exact hfc, hsame'.2.1, fun q hq9 => ?_, fun target h9 => hstep₁ _ fun acts => by rw [doInvoke_state]; exact hsteps.trans (by rw [ht]; exact h9)⟩
  have h5 : T.heap[q]? = some T.heap[q] := Array.getElem?_eq_getElem hq9
  rw [h5]
  exact hsame'.old_cell h5
end Cat
end
section
/-! PieceWays.go where it throws; PieceWaysLaw.go, with its handler -/
def lx_P (D : va_G) (cB cI cJ : ClassId) (av : List Value) (w : va_W) : Array Value → State → Prop := fun v U => v = av.toArray ∧ va_P D classes w U.heap ∧ KX D cB cI cJ U ∧ EX U
theorem lx_blind {D : va_G} {cB cI cJ : ClassId} {av : List Value} {w : va_W} : FrameBlind (lx_P D cB cI cJ av w) := fun _ _ _ _ q => ⟨q.1, q.2.1, KX.vm rfl q.2.2.1, EX.vm rfl rfl q.2.2.2⟩
set_option maxHeartbeats 1000000 in
set_option maxRecDepth 100000 in
/-- PieceWays.go where a copy does not fit: it throws -/
theorem c_PW_goX (l : Launch) (hfl : l.flags = flags0) (D : va_G) (cB cI cJ : ClassId) (x ba ta ra d ah an ao : Nat) (v2 v3 v4 : Int32) (w B G : Nat → Nat) (hw256 : ∀ i, w i < 256) (ps : List Pce) (hok : okW ps) (hR : Rd w ps) (bs : Nat) (hbs : bs ≤ 600) (qs rs : List Pce) (q : Nat × Nat) (hps : ps = qs ++ Sum.inl q :: rs) (hfit : fits_W bs qs) (hbad : bs < q.1 + q.2) : MetFree l y_PW_go (headSpec (Wd y_PW_go b_PW_go 2 (some .int)) rmX) (lx_P D cB cI cJ [.ref x] [(x, .inr (0, [.ref ba, .ref ta, .ref ra, .int (nI bs), .int v2, .int v3, .int v4, .ref d])), (ba, .inl (cB, 600, .inl (bA B))), (ra, .inl (cB, 600, .inl (bA G))), (d, .inr (1, [.ref ah, .ref an, .ref ao, .int (nI ((enc ps).length))])), (ao, .inl (cB, 3064, .inl (bA w)))]) (fun _ _ _ _ _ => True) th_Q := by
  refine MetFree.of_bodyS (code := b_PW_go) (maxLocals := 2) (ret := some .int) (by decide) ?_ ?_
  · intro args s m h hn
    obtain ⟨meth, c, h1, h2, h3, h4, h5, h6, -, -⟩ := Cond.code_spec hn (atoms_spec (ws := Wd y_PW_go b_PW_go 2 (some .int)) h _ List.mem_cons_self)
    exact ⟨meth, c, h1, h2, h3, h4, h5, h6⟩
  · intro p e s m args below meth c s₁ Bd hml hv _
    obtain ⟨hav, hP, hK, hX⟩ := hv
    have hts := atoms_spec (ws := Wd y_PW_go b_PW_go 2 (some .int)) Bd.pre
    have hw : ∀ w ∈ gw, w.before args s = true := fun w h9 => hts w (List.mem_cons_of_mem _ h9)
    have hexc := Bd.noHandlers (hts _ List.mem_cons_self)
    have hown : s.vm.findClass R_PW = some m.cls := findClass_of_methodNamed Bd.named
    have hx := Bd.exec
    have hb := Bd.bytes
    have hlk := Bd.notSynchronized
    have hh0 : s₁.heap = s.heap := by rw [Bd.state]; rfl
    have K : W p l e rmX s m args below meth c s.heap [] 0 0 (th_Z below args s) (entryFrame m args 2) := by
      have hent : entryFrame m args 2 = F0 m 0 ((lg_sl [Value.ref x] ++ List.replicate (2 - (lg_sl [Value.ref x]).length) Slot.unset).toArray) [] := by rw [hav]; exact lg_entry_eq m [Value.ref x] 2
      rw [hent]
      have hl := lv_entry [Value.ref x] (n := 2) (Nat.le_of_ble_eq_true rfl)
      generalize (lg_sl [Value.ref x] ++ List.replicate (2 - (lg_sl [Value.ref x]).length) Slot.unset).toArray = ls at hl ⊢
      have hl : lv_has ls 2 [(0, .ref x)] := hl
      have hq : th_Z below args s = th_Z below args s := rfl
      have hlast : ∀ ls : Array Slot, lv_has ls 2 [(1, .int (nI ((enc qs).length))), (0, .ref x)] → W p l e rmX s m args below meth c s.heap [] 0 0 (th_Z below args s) (F0 m 2 ls []) := by
        intro ls hl
        have hlen := hok.2.2
        have helen : (enc ps).length = (enc qs).length + (eP (Sum.inl q)).length + (enc rs).length := by rw [hps, enc_len]
        have h3 := eP_3 (Sum.inl q)
        have hpm : (Sum.inl q) ∈ ps := by rw [hps]; exact List.mem_append_right _ List.mem_cons_self
        have hpok := hok.1 (Sum.inl q) hpm
        obtain ⟨hc1, hc2, hc3⟩ := Rd_c hR hps
        obtain ⟨hk1, hk2, hk3⟩ := hpok
        have hep := eP_c q
        refine lv_iload_n hx hb d_PW_go_2 rfl (lv_at hl 0 rfl) ?_
        refine lv_aload_n hx hb d_PW_go_3 rfl (lv_at hl 1 rfl) ?_
        refine va_get (D := D) (ci := 0) (v := .ref d) (C := R_PW) (T := F_PW) (N := 8) hx hb hw i_PW hown hK.1 hP 0 rfl rfl 7 (by decide) (hw _ k_44) (fun _ h9 => h9) rfl d_PW_go_4 ?_
        refine ro_V (As := []) (rest := [.int (nI ((enc qs).length))]) ⟨hx, hb, hml, hown, hw⟩ (c_De_size l D cB cI cJ d ah an ao (nI (enc ps).length)) g_PW_56 hd_De_size rfl ⟨rfl, rfl⟩ ⟨by decide, by decide⟩ hP hK [3] rfl 3 1 rfl rfl rfl hl.1 rfl (Nat.le_of_ble_eq_true rfl) ⟨Nat.zero_le _, Nat.zero_le _⟩ d_PW_go_7 ?_
        refine n_icmp_ge (tgt := 64) hx hb d_PW_go_10 (by decide) (by omega) (by omega) (fun c_10 => ?_) (fun c_10 => ?_)
        · exfalso; omega
        · refine lv_aload_n hx hb d_PW_go_13 rfl (lv_at hl 1 rfl) ?_
          refine lv_iload_n hx hb d_PW_go_14 rfl (lv_at hl 0 rfl) ?_
          refine ro_V (As := [.int (nI ((enc qs).length))]) (rest := []) ⟨hx, hb, hml, hown, hw⟩ (c_PW_isCopy l D cB cI cJ x ba ta ra d ah an ao (nI bs) v2 v3 v4 (nI (enc ps).length) w hw256 (enc qs).length (by omega)) g_PW_37 hd_PW_isCopy rfl ⟨rfl, rfl⟩ ⟨by decide, by decide⟩ hP hK [0, 3, 4] rfl 0 0 rfl rfl rfl hl.1 rfl (Nat.le_of_ble_eq_true rfl) ⟨Nat.zero_le _, Nat.zero_le _⟩ d_PW_go_15 ?_
          refine tv_i (y := nI 1) (by rw [if_pos hc1]) ?_
          refine n_if_eq (tgt := 55) hx hb d_PW_go_18 (by decide) (by omega) (fun c_18 => ?_) (fun c_18 => ?_)
          · exfalso; omega
          · refine lv_aload_n hx hb d_PW_go_21 rfl (lv_at hl 1 rfl) ?_
            refine va_get (D := D) (ci := 0) (v := .ref d) (C := R_PW) (T := F_PW) (N := 8) hx hb hw i_PW hown hK.1 hP 0 rfl rfl 7 (by decide) (hw _ k_44) (fun _ h9 => h9) rfl d_PW_go_22 ?_
            refine ro_V (As := []) (rest := []) ⟨hx, hb, hml, hown, hw⟩ (c_De_out l D cB cI cJ d ah an ao (nI (enc ps).length)) g_PW_33 hd_De_out rfl ⟨rfl, rfl⟩ ⟨by decide, by decide⟩ hP hK [3] rfl 3 1 rfl rfl rfl hl.1 rfl (Nat.le_of_ble_eq_true rfl) ⟨Nat.zero_le _, Nat.zero_le _⟩ d_PW_go_25 ?_
            refine lv_iload_n hx hb d_PW_go_28 rfl (lv_at hl 0 rfl) ?_
            refine lv_iconst (v := nI 1) hx hb d_PW_go_29 (by decide +kernel) ?_
            refine n_iadd hx hb d_PW_go_30 ?_
            refine ro_two (As := [.ref ao, .int (nI (((enc qs).length) + 1))]) (rest := []) ⟨hx, hb, hml, hown, hw⟩ (c_De_two l D cB cI cJ ao w ((enc qs).length + 1) hw256 (by omega)) ⟨rfl, rfl⟩ ⟨by decide, by decide⟩ hP hK [4] rfl rfl hl.1 rfl (Nat.le_of_ble_eq_true rfl) ⟨Nat.zero_le _, Nat.zero_le _⟩ d_PW_go_31 ?_
            refine tv_i (y := nI q.1) (by rw [hc2]) ?_
            refine lv_aload_n hx hb d_PW_go_34 rfl (lv_at hl 1 rfl) ?_
            refine lv_iload_n hx hb d_PW_go_35 rfl (lv_at hl 0 rfl) ?_
            refine ro_V (As := [.int (nI ((enc qs).length))]) (rest := [.int (nI q.1)]) ⟨hx, hb, hml, hown, hw⟩ (c_PW_many l D cB cI cJ x ba ta ra d ah an ao (nI bs) v2 v3 v4 (nI (enc ps).length) w hw256 (enc qs).length (by omega)) g_PW_45 hd_PW_many rfl ⟨rfl, rfl⟩ ⟨by decide, by decide⟩ hP hK [0, 3, 4] rfl 0 0 rfl rfl rfl hl.1 rfl (Nat.le_of_ble_eq_true rfl) ⟨Nat.zero_le _, Nat.zero_le _⟩ d_PW_go_36 ?_
            refine tv_i (y := nI q.2) (by rw [mny_at hR hps]; rfl) ?_
            refine n_iadd hx hb d_PW_go_39 ?_
            refine lv_aload_n hx hb d_PW_go_40 rfl (lv_at hl 1 rfl) ?_
            refine va_get (D := D) (ci := 0) (v := .int (nI bs)) (C := R_PW) (T := F_PW) (N := 8) hx hb hw i_PW hown hK.1 hP 0 rfl rfl 3 (by decide) (hw _ k_40) (fun _ h9 => h9) rfl d_PW_go_41 ?_
            refine n_icmp_le (tgt := 55) hx hb d_PW_go_44 (by decide) (by omega) (by omega) (fun c_44 => ?_) (fun c_44 => ?_)
            · exfalso; omega
            · exact th_throw hx hb hml hw hown hlk hexc hfl hX hK.2.2.2 hl.1
      have loop : ∀ (r1 q1 : List Pce), qs = q1 ++ r1 → ∀ ls : Array Slot, lv_has ls 2 [(1, .int (nI ((enc q1).length))), (0, .ref x)] → W p l e rmX s m args below meth c s.heap [] 0 0 (th_Z below args s) (F0 m 2 ls []) := by
        intro r1
        induction r1 with
        | cons pp r1 ih =>
          intro q1 hq1
          have hps1 : ps = q1 ++ pp :: (r1 ++ Sum.inl q :: rs) := by rw [hps, hq1, List.append_assoc]; rfl
          exact g_PW_step hx hb hml hw hown hK (by decide) (by decide) x ba ta ra d ah an ao v2 v3 v4 w B G hw256 ps hok hR bs hbs hP q1 _ pp hps1 (hfit pp (by rw [hq1]; exact List.mem_append_right _ List.mem_cons_self)) (ih (q1 ++ [pp]) (by rw [hq1, List.append_assoc]; rfl))
        | nil =>
          intro q1 hq1 ls hl
          rw [List.append_nil] at hq1
          subst hq1
          exact hlast ls hl
      refine lv_iconst (v := nI 0) hx hb d_PW_go_0 (by decide +kernel) ?_
      refine lv_istore_n (lv' := [(1, .int (nI 0)), (0, .ref x)]) hx hb d_PW_go_1 rfl hl (by decide) rfl (fun ls hl => ?_)
      exact loop qs [] rfl ls (lv_sub hl [0, 1] rfl)
    obtain ⟨t, a1, o, b1, b2, b3⟩ := K s₁ hh0 (Stand.of_body Bd)
    exact ⟨t, o, a1, b1, b2, b3⟩
def WL : List Cond := .codeWith y_La_go b_La_go 3 (some .int) [(0, 8, 11, 13)] :: gw
theorem ke_La : Cond.codeWith y_La_go b_La_go 3 (some .int) [(0, 8, 11, 13)] ∈ gw := gw_in 159 (by decide +kernel) rfl
theorem gd_La : GoodIn gw WL := fun w hw => by
  rcases List.mem_cons.mp hw with e | hw
  · rw [e]; exact ⟨ke_La, gw_good ke_La⟩
  · exact ⟨hw, gw_good hw⟩
theorem mt_La {S : Type} {l : Launch} {D : va_G} {cB cI cJ : ClassId} {rm : Room} {av : List Value} {w : va_W} {post : S → Prop} {v : S → Option Value} {w' : S → va_W} (hle : (lg_sl av).length ≤ 3)
    (body : ∀ (p : Program) (e : Env) (s : State) (m : MethodId) (args : Array Value) (below : List Frame) (meth : Method) (c : Code) (ls : Array Slot) (Q : State → Prop) (A : Nat → Prop), p.tables.exec = Jvm.exec → c.code = b_La_go → meth.sig.returnType = some .int → c.maxLocals = 3 → (∀ w ∈ gw, w.before args s = true) → s.vm.findClass R_law = some m.cls → meth.locks = false → va_P D classes w s.heap → KX D cB cI cJ s → va_D A w → va_S A s.heap s.heap [] → lv_has ls 3 (lv_args 0 av) → A = inW w → Q = MQ below (ip_Q D w post v w') args s 0 0 (inW w) →
      W p l e rm s m args below meth c s.heap [] 0 0 Q (F0 m 0 ls [])) : Met l y_La_go WL rm (ip_P D cB cI cJ av w) (ip_Q D w post v w') 0 0 (inW w) := by
  refine va_MetW (cc := b_La_go) (maxL := 3) (ret := some .int) (by decide) rfl ?_
  intro p e s m args below meth c s₁ B hml hv
  obtain ⟨rfl, hP, hK, hD⟩ := hv
  have hts := atoms_spec (ws := WL) B.pre
  rw [lg_entry_eq]
  exact body p e s m _ below meth c _ _ _ B.exec B.bytes B.returns hml (fun w hw => hts w (List.mem_cons_of_mem _ hw)) (findClass_of_methodNamed B.named) B.notSynchronized hP hK (inW_D hD) va_S.rf (lv_entry av hle) rfl rfl
section LRows
variable {p : Program} {l : Launch} {e : Env} {R : Room} {s : State} {m : MethodId} {args : Array Value} {below : List Frame} {meth : Method} {c : Code} {H : Heap} {locs : List Loc} {cells slots : Nat} {Q : State → Prop} {cc : ByteArray} {pc : Nat} {ls : Array Slot} {rest : List Value} {D : va_G} {cl : List vw_C} {A : Nat → Prop} {a : Nat} {tys : List (ClassId × FieldType)} {ws : va_W} {H0 : Heap}
theorem la_st (hx : p.tables.exec = Jvm.exec) (hb : c.code = cc) (hK : va_K D cl tys s) (hP : va_P D cl ws H) (hD : va_D A ws) (hS : va_S A H0 H locs) (q0 t0 : Nat) {cA : ClassId} {n k : Nat} {f : Nat → Int64} {x : Int64} (ha : ws[q0]? = some (a, .inl (cA, n, .inr (.inl f)))) (ht : tys[t0]? = some (cA, .long)) (hk : k < n) (hn : n < 2 ^ 31) (hdg : decode cc pc = .ok (.lastore, 1))
    (kk : ∀ (H1 : Heap) (locs1 : List Loc), va_P D cl (ws.set q0 (a, .inl (cA, n, .inr (.inl (vp_updL f k x))))) H1 → va_D A (ws.set q0 (a, .inl (cA, n, .inr (.inl (vp_updL f k x))))) → va_S A H0 H1 locs1 → W p l e R s m args below meth c H1 locs1 cells slots Q (F0 m (pc + 1) ls rest)) : W p l e R s m args below meth c H locs cells slots Q (F0 m pc ls (.long x :: .int (nI k) :: .ref a :: rest)) :=
  va_last hx hb hK hP hD hS q0 t0 ha ht (vp_in_nI hk hn) hdg (fun H1 locs1 h1 h2 h3 => by
    rw [nI_clamp (by omega)] at h1 h2
    exact kk H1 locs1 h1 h2 h3)
theorem la_ld (hx : p.tables.exec = Jvm.exec) (hb : c.code = cc) (hK : va_K D cl tys s) (hP : va_P D cl ws H) (q0 t0 : Nat) {cA : ClassId} {n k : Nat} {f : Nat → Int64} (ha : ws[q0]? = some (a, .inl (cA, n, .inr (.inl f)))) (ht : tys[t0]? = some (cA, .long)) (hk : k < n) (hn : n < 2 ^ 31) (hdg : decode cc pc = .ok (.laload, 1))
    (kk : W p l e R s m args below meth c H locs cells slots Q (F0 m (pc + 1) ls (.long (f k) :: rest))) : W p l e R s m args below meth c H locs cells slots Q (F0 m pc ls (.int (nI k) :: .ref a :: rest)) :=
  va_lald hx hb hK hP q0 t0 ha ht (vp_in_nI hk hn) hdg (by rw [nI_clamp (by omega)]; exact kk)
end LRows
set_option maxHeartbeats 1000000 in
set_option maxRecDepth 100000 in
/-- PieceWaysLaw.go where every copy fits -/
theorem c_La_go (l : Launch) (D : va_G) (cB cI cJ : ClassId) (x ba ta ra d ah an ao : Nat) (v2 v3 v4 : Int32) (w B G : Nat → Nat) (hw256 : ∀ i, w i < 256) (ps : List Pce) (hok : okW ps) (hR : Rd w ps) (bs : Nat) (hbs : bs ≤ 600) (ja : Nat) (fj : Nat → Int64) (hfit : fits_W bs ps) : Met l y_La_go WL ({ frames := 5, cells := 0, slots := 0, locals := 150 }) (ip_P D cB cI cJ [.ref x, .ref ja] [(x, .inr (0, [.ref ba, .ref ta, .ref ra, .int (nI bs), .int v2, .int v3, .int v4, .ref d])), (ba, .inl (cB, 600, .inl (bA B))), (ra, .inl (cB, 600, .inl (bA G))), (d, .inr (1, [.ref ah, .ref an, .ref ao, .int (nI ((enc ps).length))])), (ao, .inl (cB, 3064, .inl (bA w))), (ja, .inl (cJ, 1, .inr (.inl fj)))]) (ip_D D [(x, .inr (0, [.ref ba, .ref ta, .ref ra, .int (nI bs), .int v2, .int v3, .int v4, .ref d])), (ba, .inl (cB, 600, .inl (bA B))), (ra, .inl (cB, 600, .inl (bA G))), (d, .inr (1, [.ref ah, .ref an, .ref ao, .int (nI ((enc ps).length))])), (ao, .inl (cB, 3064, .inl (bA w))), (ja, .inl (cJ, 1, .inr (.inl fj)))] (some (.int (nI 0))) [(x, .inr (0, [.ref ba, .ref ta, .ref ra, .int (nI bs), .int v2, .int (nI (sN ps)), .int v4, .ref d])), (ba, .inl (cB, 600, .inl (bA B))), (ra, .inl (cB, 600, .inl (bA (spl G 0 (outs B ps))))), (d, .inr (1, [.ref ah, .ref an, .ref ao, .int (nI ((enc ps).length))])), (ao, .inl (cB, 3064, .inl (bA w))), (ja, .inl (cJ, 1, .inr (.inl (vp_updL fj 0 (nI (sN ps)).toInt64))))]) 0 0 (inW [(x, .inr (0, [.ref ba, .ref ta, .ref ra, .int (nI bs), .int v2, .int v3, .int v4, .ref d])), (ba, .inl (cB, 600, .inl (bA B))), (ra, .inl (cB, 600, .inl (bA G))), (d, .inr (1, [.ref ah, .ref an, .ref ao, .int (nI ((enc ps).length))])), (ao, .inl (cB, 3064, .inl (bA w))), (ja, .inl (cJ, 1, .inr (.inl fj)))]) := by
  refine mt_La (Nat.le_of_ble_eq_true rfl) ?_
  intro p e s m args below meth c ls Q A hx hb hr hml hw hown hlk hP hK hD hS hl hAe hQ
  have hl : lv_has ls 3 [(0, .ref x), (1, .ref ja)] := hl
  refine lv_aload_n hx hb d_La_go_0 rfl (lv_at hl 1 rfl) ?_
  refine lv_iconst (v := nI 0) hx hb d_La_go_1 (by decide +kernel) ?_
  refine lv_aload_n hx hb d_La_go_2 rfl (lv_at hl 0 rfl) ?_
  refine ip_V (As := []) (rest := [.int (nI 0), .ref ja]) ⟨hx, hb, hml, hown, hw⟩ (c_PW_go l D cB cI cJ x ba ta ra d ah an ao v2 v3 v4 w B G hw256 ps hok hR bs hbs hfit) g_La_7 hd_PW_go rfl ⟨rfl, rfl⟩ ⟨by decide, by decide⟩ hP hK hD hS [0, 1, 2, 3, 4] (by decide) rfl [x, ba, ra, d, ao] rfl (fun _ => rfl) 0 0 rfl rfl rfl hl.1 rfl (Nat.le_of_ble_eq_true rfl) ⟨Nat.zero_le _, Nat.zero_le _⟩ d_La_go_3 (fun u_3 H locs hu_3 hP hD hS => ?_)
  refine W.eq (g2 := F0 m 6 ls [.int (nI (sN ps)), .int (nI 0), .ref ja]) rfl ?_
  have hP : va_P D classes [(x, .inr (0, [.ref ba, .ref ta, .ref ra, .int (nI bs), .int v2, .int (nI (sN ps)), .int v4, .ref d])), (ba, .inl (cB, 600, .inl (bA B))), (ra, .inl (cB, 600, .inl (bA (spl G 0 (outs B ps))))), (d, .inr (1, [.ref ah, .ref an, .ref ao, .int (nI ((enc ps).length))])), (ao, .inl (cB, 3064, .inl (bA w))), (ja, .inl (cJ, 1, .inr (.inl fj)))] H := hP
  have hD : va_D A [(x, .inr (0, [.ref ba, .ref ta, .ref ra, .int (nI bs), .int v2, .int (nI (sN ps)), .int v4, .ref d])), (ba, .inl (cB, 600, .inl (bA B))), (ra, .inl (cB, 600, .inl (bA (spl G 0 (outs B ps))))), (d, .inr (1, [.ref ah, .ref an, .ref ao, .int (nI ((enc ps).length))])), (ao, .inl (cB, 3064, .inl (bA w))), (ja, .inl (cJ, 1, .inr (.inl fj)))] := hD
  refine lv_i2l hx hb d_La_go_6 rfl ?_
  refine la_st hx hb hK.1 hP hD hS 5 2 rfl rfl (by decide) (by decide) d_La_go_7 (fun H locs hP hD hS => ?_)
  have hP : va_P D classes [(x, .inr (0, [.ref ba, .ref ta, .ref ra, .int (nI bs), .int v2, .int (nI (sN ps)), .int v4, .ref d])), (ba, .inl (cB, 600, .inl (bA B))), (ra, .inl (cB, 600, .inl (bA (spl G 0 (outs B ps))))), (d, .inr (1, [.ref ah, .ref an, .ref ao, .int (nI ((enc ps).length))])), (ao, .inl (cB, 3064, .inl (bA w))), (ja, .inl (cJ, 1, .inr (.inl (vp_updL fj 0 (nI (sN ps)).toInt64))))] H := hP
  have hD : va_D A [(x, .inr (0, [.ref ba, .ref ta, .ref ra, .int (nI bs), .int v2, .int (nI (sN ps)), .int v4, .ref d])), (ba, .inl (cB, 600, .inl (bA B))), (ra, .inl (cB, 600, .inl (bA (spl G 0 (outs B ps))))), (d, .inr (1, [.ref ah, .ref an, .ref ao, .int (nI ((enc ps).length))])), (ao, .inl (cB, 3064, .inl (bA w))), (ja, .inl (cJ, 1, .inr (.inl (vp_updL fj 0 (nI (sN ps)).toInt64))))] := hD
  refine lv_goto (tgt := 14) hx hb d_La_go_8 (by decide) ?_
  refine lv_iconst (v := nI 0) hx hb d_La_go_14 (by decide +kernel) ?_
  exact ip_iret hx hb hr hlk hAe hS () rfl trivial hP hQ d_La_go_15
def lx_Q : Array Value → State → Outcome → State → Prop := fun _ st oc t => oc = .returned (some (.int (nI 1))) ∧ va_F (fun _ => False) st t
def rmL : Room := { frames := 7, cells := 1, slots := 6, locals := 210 }
set_option maxHeartbeats 1000000 in
set_option maxRecDepth 100000 in
/-- PieceWaysLaw.go where a copy does not fit: it catches -/
theorem c_La_goX (l : Launch) (hfl : l.flags = flags0) (D : va_G) (cB cI cJ : ClassId) (x ba ta ra d ah an ao : Nat) (v2 v3 v4 : Int32) (w B G : Nat → Nat) (hw256 : ∀ i, w i < 256) (ps : List Pce) (hok : okW ps) (hR : Rd w ps) (bs : Nat) (hbs : bs ≤ 600) (qs rs : List Pce) (q : Nat × Nat) (hps : ps = qs ++ Sum.inl q :: rs) (hfit : fits_W bs qs) (hbad : bs < q.1 + q.2) (ja : Nat) : Met l y_La_go WL rmL (lx_P D cB cI cJ [.ref x, .ref ja] [(x, .inr (0, [.ref ba, .ref ta, .ref ra, .int (nI bs), .int v2, .int v3, .int v4, .ref d])), (ba, .inl (cB, 600, .inl (bA B))), (ra, .inl (cB, 600, .inl (bA G))), (d, .inr (1, [.ref ah, .ref an, .ref ao, .int (nI ((enc ps).length))])), (ao, .inl (cB, 3064, .inl (bA w)))]) lx_Q 1 6 (fun _ => False) := by
  refine va_MetW (cc := b_La_go) (maxL := 3) (ret := some .int) (by decide) rfl ?_
  intro p e s m args below meth c s₁ Bd hml hv
  obtain ⟨rfl, hP, hK, hX⟩ := hv
  have hts := atoms_spec (ws := WL) Bd.pre
  have hw : ∀ w ∈ gw, w.before ([Value.ref x, Value.ref ja] : List Value).toArray s = true := fun w h9 => hts w (List.mem_cons_of_mem _ h9)
  have hown : s.vm.findClass R_law = some m.cls := findClass_of_methodNamed Bd.named
  have hx := Bd.exec
  have hb := Bd.bytes
  have hr := Bd.returns
  have hlk := Bd.notSynchronized
  have htab : c.exceptionTable.toList.map (fun h => (h.startPc, h.endPc, h.handlerPc, h.catchType)) = [(0, 8, 11, 13)] := by
    obtain ⟨m9, meth', c', hn9, hm', hc', -, -, ht', -⟩ := Cond.codeWith_spec (hts _ List.mem_cons_self)
    cases Bd.named.symm.trans hn9
    cases Bd.method.symm.trans hm'
    cases (Stand.of_body Bd).code.symm.trans hc'
    exact ht'
  rw [lg_entry_eq]
  have hl := lv_entry [Value.ref x, Value.ref ja] (n := 3) (Nat.le_of_ble_eq_true rfl)
  generalize (lg_sl [Value.ref x, Value.ref ja] ++ List.replicate (3 - (lg_sl [Value.ref x, Value.ref ja]).length) Slot.unset).toArray = ls at hl ⊢
  have hl : lv_has ls 3 [(0, .ref x), (1, .ref ja)] := hl
  refine lv_aload_n hx hb d_La_go_0 rfl (lv_at hl 1 rfl) ?_
  refine lv_iconst (v := nI 0) hx hb d_La_go_1 (by decide +kernel) ?_
  refine lv_aload_n hx hb d_La_go_2 rfl (lv_at hl 0 rfl) ?_
  intro T hT X
  obtain ⟨cellB, g1, g2, g3⟩ := va_recv hK.1 hP (ci := 0) (q0 := 0) rfl rfl
  obtain ⟨a, ce, T', X', hce, hvm, hfc, hle, hkeep, hst⟩ := th_callV X hx (own := R_law) (C := R_PW) (index := 7) (y := y_PW_go) (c_PW_goX l hfl D cB cI cJ x ba ta ra d ah an ao v2 v3 v4 w B G hw256 ps hok hR bs hbs qs rs q hps hfit hbad) lx_blind hw hown k_147 k_148 k_149 k_150 k_1 ⟨by decide, by decide⟩ (b := x) (by rw [hT]; exact g1) g2 g3 (g := F0 m 3 ls [.ref x, .int (nI 0), .ref ja]) rfl (hl.1.trans hml.symm) (argsL := []) (rest := [.int (nI 0), .ref ja]) (fun sig h9 => by have h8 := hd_PW_go.2.2; rw [h9] at h8; exact (Option.some.inj h8).symm) rfl (lv_room (Nat.le_of_ble_eq_true rfl)) (by rw [hb]; exact d_La_go_3) (by decide) (by decide) (by decide) (by decide) (fun U hU hW => ⟨rfl, by rw [hU, hT]; exact hP, hK.warm hW, EX.warm hW (fun q9 _ => by rw [hU, hT]) hX⟩)
  obtain ⟨vm', X2, hst2⟩ := caught_cold X' (g := { F0 m 3 ls [.ref x, .int (nI 0), .ref ja] with stack := [.int (nI 0), .ref ja] }) rfl hown (hw _ ke_cl2) htab (by show 3 < 8; decide) hce hvm hfc hK.2.2.2
  have K : W p l e rmL s m ([Value.ref x, Value.ref ja] : List Value).toArray below meth c T'.heap [] 1 6 (MQ below lx_Q ([Value.ref x, Value.ref ja] : List Value).toArray s 1 6 (fun _ => False)) (F0 m 11 ls [.ref a]) := by
    refine lv_astore_n (lv' := [(2, .ref a), (0, .ref x), (1, .ref ja)]) hx hb d_La_go_11 rfl hl (by decide) rfl (fun ls hl => ?_)
    refine lv_iconst (v := nI 1) hx hb d_La_go_12 (by decide +kernel) ?_
    exact W.iret hx hb hr (fun t ht _ => ⟨rfl, by rw [ht, ← hT]; exact hle, fun q9 h9 _ => by rw [ht, ← hT]; exact hkeep q9 (by rw [hT]; exact h9)⟩) (fun q9 h9 => by cases h9) d_La_go_13 (hlocks := hlk)
  obtain ⟨t, a1, b1⟩ := K (T'.setVm vm') rfl X2
  exact ⟨t, hst t (hst2 t a1), b1⟩
section LaCall
variable {p : Program} {l : Launch} {e : Env} {R : Room} {s : State} {m : MethodId} {args : Array Value} {below : List Frame} {meth : Method} {c : Code}
theorem callSW {T : State} {locs : List Loc} {cells slots : Nat} (X : Stand p l e R s m args below meth c T locs cells slots) (hexec : p.tables.exec = Jvm.exec) {own : String} {index : Nat} {y : MethodName} {bytes : ByteArray} {maxL : Nat} {ret : Option FieldType} {hh : List (Nat × Nat × Nat × Nat)}
    (hown : s.vm.findClass own = some m.cls) (hlink : (Cond.methodLink own index y).before args s = true) (hstat : (Cond.static y).before args s = true) (hinit : (Cond.initialized y.cls).before args s = true)
    (hcode : (Cond.codeWith y bytes maxL ret hh).before args s = true) (hy : y.cls ≠ "java/lang/invoke/MethodHandle" ∧ y.cls ≠ "java/lang/invoke/VarHandle")
    {W : Nat} {Pre : Pt → Array Value → Prop} {Post : Pt → Array Value → Option Value → Pt → Prop} (hK : Back l R p e below s args y 3 W Pre Post)
    {g : JFrame} (hg : g.method = m) (hsize : g.locals.size = c.maxLocals) {argsL rest : List Value} (hlen : ∀ sig, parseMethodDescriptor y.desc = some sig → argsL.length = sig.parameters.length)
    (hstack : g.stack = argsL.reverse ++ rest) (hW : 2 * g.monitorRoom + (rest.map fun v => v.category).sum ≤ W) (hdg : decode c.code g.pc = .ok (.invokestatic index, 3))
    (hpre : ∀ vm₁, s.WarmedH vm₁ → Pre ⟨T.setVm vm₁, locs, cells, slots⟩ argsL.toArray) :
    ∃ (v : Option Value) (vm₁ : Vm) (B : Pt), s.WarmedH vm₁ ∧ Stand p l e R s m args below meth c B.U B.locs B.cells B.slots ∧ Post ⟨T.setVm vm₁, locs, cells, slots⟩ argsL.toArray v B ∧
      ∀ target, Steps p.tables e below (B.U.setTop { g with pc := g.pc + 3, stack := v.toList ++ rest }) target → Steps p.tables e below (T.setTop g) target := by
  obtain ⟨mk, methM, cM, hnamed, hmethM, -, -, -, -, -, -, hsigM⟩ := Cond.codeWith_spec hcode
  have hstatic : methM.isStatic = true := Cond.static_spec hnamed hmethM hstat
  obtain ⟨kP, hkP, -⟩ := className_of_methodNamed hnamed
  have hinitP : kP.init = .initialized := Cond.initialized_spec (findClass_of_methodNamed hnamed) hkP hinit
  obtain ⟨vm₁, X₁, hstep₁⟩ := X.invokestatic hexec hown hlink hnamed hmethM hstatic hkP hinitP hy (g := g) hg (argsL := argsL) (rest := rest) (hlen _ hsigM) hstack hdg
  obtain ⟨v, B, X', hpost, hsteps⟩ := hK m meth c ⟨T.setVm vm₁, locs, cells, slots⟩ { g with stack := rest } (.invokestatic index) mk argsL.toArray X₁ hg hsize hdg hW (X₁.named hnamed) (hpre vm₁ X₁.warmed)
  exact ⟨v, vm₁, B, X₁.warmed, X', hpost, fun target h => hstep₁ _ fun acts => by rw [doInvoke_state]; exact hsteps.trans h⟩
variable {H : Heap} {locs : List Loc} {cells slots : Nat} {Q : State → Prop}
theorem run_La {cc : ByteArray} {nL mc ms : Nat} {rm : Room} {Pc : Array Value → State → Prop} {Qc : Array Value → State → Outcome → State → Prop} {free : Addr → Prop} {As rest : List Value} {g : JFrame} (S : CallFix p m c cc nL s args gw R_law) (hM : Met l y_La_go WL rm Pc Qc mc ms free) (hr : rm.cells = mc ∧ rm.slots = ms) (hR : rm.frames + 1 ≤ R.frames ∧ 8 + (3 + 11) + rm.locals ≤ R.locals) (hp : PreS s H Pc As)
    (hg : g.method = m) (hn : As.length = 2) (hsize : g.locals.size = nL) (hstack : g.stack = As.reverse ++ rest) (hW : 2 * g.monitorRoom + (rest.map fun v => v.category).sum ≤ 8) (hdg : decode cc g.pc = .ok (.invokestatic 49, 3)) (hf : cells + mc ≤ R.cells ∧ slots + ms ≤ R.slots) :
    va_Run p l e R s m args below meth c H locs cells slots mc ms g rest (Qc As.toArray) (free) := by
  obtain ⟨hx, hb, hml, ho, hw⟩ := S
  have hini : (Cond.initialized y_La_go.cls).before args s = true := hw _ k_0
  have hK : Back l R p e below s args y_La_go 3 8 (PreOf R mc ms Pc) (PostOf Qc mc ms free) := va_backW (bytes := b_La_go) (maxL := 3) (ret := some .int) (hh := [(0, 8, 11, 13)]) hM hp.1 hr.1 hr.2 hR.1 hR.2 (pay_in hw gd_La) List.mem_cons_self (fun a' U hW9 => word_at hW9 (gw_good k_0) hini)
  intro T hT X
  obtain ⟨v, vm₁, ⟨U', l2, c2, s2⟩, hW₁, X', ⟨g', mk, t, L, e1, e2, hq, h1, hL, h2, h3⟩, st⟩ := callSW X hx (bytes := b_La_go) (maxL := 3) (ret := some .int) (hh := [(0, 8, 11, 13)]) ho (hw _ k_143) (hw _ k_144) hini (hw _ ke_La) ⟨hd_La_go.1, hd_La_go.2.1⟩ hK hg (hsize.trans hml.symm) (argsL := As) (rest := rest) (fun sig h => by have h8 := hd_La_go.2.2; rw [h] at h8; exact hn.trans (Option.some.inj h8).symm) hstack hW (by rw [hb]; exact hdg)
    (fun vm₁ hW₁ => ⟨hf.1, hf.2, hp.2 (T.setVm vm₁) hT hW₁⟩)
  dsimp only [Pt.U, Pt.locs, Pt.cells, Pt.slots] at X' e1 e2 h1 h2 h3 st
  subst h1; subst h2; subst h3
  exact ⟨v, (T.setVm vm₁).calling g' mk As.toArray, t, U', L, hT, X', hL, e1, e2, hq, st⟩
theorem lx_end {pc : Nat} {ls : Array Slot} {st0 rest : List Value} {a : Array Value} (hr : va_Run p l e R s m args below meth c H locs cells slots 1 6 (F0 m pc ls st0) rest (lx_Q a) (fun _ => False)) (kk : ∀ H1 : Heap, H.size ≤ H1.size → (∀ q : Nat, q < H.size → H1[q]? = H[q]?) → W p l e R s m args below meth c H1 locs (cells + 1) (slots + 6) Q (F0 m (pc + 3) ls (.int (nI 1) :: rest))) : W p l e R s m args below meth c H locs cells slots Q (F0 m pc ls st0) := by
  intro T hT X
  obtain ⟨v', st₀, t, T', L, h0, X', hL, e1, e2, ⟨hv, hz, hk⟩, st⟩ := hr T hT X
  cases hv
  rw [h0] at hz hk
  obtain ⟨t2, a1, b1⟩ := kk T'.heap (by rw [e1]; exact hz) (fun q h1 => by rw [e1]; exact hk q h1 (fun z => z)) T' rfl (Stand.forget X' (fun q h => (hL q h).elim))
  exact ⟨t2, st t2 a1, b1⟩
end LaCall
end
section
/-! THE CLAIM OUT OF ONE WALK OF THE LAW'S BODY. Your part is whole_start (and what it stands on); all else here is the same for every law, but numbers. -/
def lw_P (b : Addr) (xs : List Int32) (args : Array Value) (s : State) : Prop := args = #[.ref b] ∧ s.IntsAt b xs ∧ xs.length ≤ 2560 ∧ (Jvm.Cond.and given_1 narrow_1).before args s = true
def lw_Q (_ : Array Value) (s : State) (o : Outcome) (t : State) : Prop := o = .returned (some (.int 1)) ∧ Framed s o t [] 601024 7293034
def lw_Z (below : List Frame) (a : Array Value) (s : State) : State → Prop := fun t => ∃ o, t.status = .running ∧ Ended t below o ∧ lw_Q a s o t
/-- the law's own end, with 1 on the stack, nothing written that was there before, its room as the claim has it -/
theorem lw_ret {p : Program} {l : Launch} {e : Env} {s : State} {m : MethodId} {below : List Frame} {meth : Method} {c : Code} {b : Nat} (hx : p.tables.exec = Jvm.exec) (hb : c.code = code) (hr : meth.sig.returnType = ret) (hlocks : meth.locks = false) {pc : Nat} {H : Heap} {ls : Array Slot} (hdg : decode code pc = .ok (.ireturn, 1)) : W p l e room_1 s m #[Value.ref b] below meth c H [] 601024 7293034 (lw_Z below #[Value.ref b] s) (F0 m pc ls [.int 1]) := by
  intro T hT X
  obtain ⟨fs, hret, hrun, hended, hW, hframe⟩ := X.leave (v := some (.int 1)) (hlocks := hlocks) (fun h => by rw [hr] at h; cases h)
  have hmeth' : T.vm.method? m = some meth := X.method'
  refine ⟨T.setFrames fs, ?_, .returned (some (.int 1)), hrun, hended, rfl, ⟨_, rfl⟩, hW, hframe⟩
  jvm_step X.here [X.here.top, hx, hb, hdg, hmeth', hr, ret, narrow_b1]
  (try refine ⟨rfl, ?_⟩); (try refine ⟨rfl, ?_⟩)
  first | (intro acts; rw [hret _ acts rfl rfl rfl]) | rw [hret _ _ rfl rfl rfl]
  exact Steps.refl _
/-- what holds at the law's entry: the machine, the code, the tables' words (any of lw_tbl by 'hts w (by decide +kernel)'), the script of L ints xs at the cell b, what the Statement gives of the start (any of its parts by flat_of_before) -/
def lw_At (p : Program) (s : State) (m : MethodId) (meth : Method) (c : Code) (b L : Nat) (xs : Nat → Int32) : Prop :=
  p.tables.exec = Jvm.exec ∧ c.code = code ∧ meth.sig.returnType = ret ∧ c.maxLocals = 7 ∧ s.vm.findClass R_law = some m.cls ∧ (∀ w ∈ lw_tbl, w.before #[Value.ref b] s = true) ∧ va_X b L xs s s.heap ∧ b < s.heap.size ∧ meth.locks = false ∧ (Jvm.Cond.and given_1 narrow_1).before #[Value.ref b] s = true
theorem law_c {L i : Nat} (hL : L ≤ 2560) (hi : i ≤ 2560) : nI L - nI 5 < nI i ↔ L < i + 5 := by
  rw [Int32.lt_iff_toInt_lt, pk_sub_toInt (by omega) (by omega), nI_toInt (by omega)]
  omega
theorem ixV_congr {w w2 : Nat → Nat} {n : Nat} (hn : n < 2 ^ 31) (h : ∀ j, j < n → w j = w2 j) (i : Int32) : ixV w n i = ixV w2 n i := by
  rcases pk_ix i hn with h1 | h1 | ⟨j, hj, rfl⟩
  · rw [ixV_neg (Or.inl h1), ixV_neg (Or.inl h1)]
  · rw [ixV_neg (Or.inr h1), ixV_neg (Or.inr h1)]
  · rw [ixV_in hn hj, ixV_in hn hj, h j hj]
theorem lg_self (v : Int64) : lg_cmp v v = 0 := by simp [lg_cmp]
theorem no_fit {b : Nat} : ∀ {ps : List Pce}, ¬ fits_W b ps → ∃ (qs : List Pce) (q : Nat × Nat) (rs : List Pce), ps = qs ++ Sum.inl q :: rs ∧ fits_W b qs ∧ b < q.1 + q.2
  | [], h => absurd (fun p hp => by cases hp) h
  | p :: r, h => by
    by_cases hp : fitP b p
    · have hr : ¬ fits_W b r := fun h2 => h (fun q hq => by
        rcases List.mem_cons.mp hq with e | hq
        · rw [e]; exact hp
        · exact h2 q hq)
      obtain ⟨qs, q, rs, e, h1, h2⟩ := no_fit hr
      refine ⟨p :: qs, q, rs, by rw [e]; rfl, fun z hz => ?_, h2⟩
      rcases List.mem_cons.mp hz with e9 | hz
      · rw [e9]; exact hp
      · exact h1 z hz
    · cases p with
      | inl q => exact ⟨[], q, r, rfl, fun z hz => (by cases hz), Nat.not_le.mp hp⟩
      | inr xs => exact absurd trivial hp
section ScRows
variable {p : Program} {l : Launch} {e : Env} {R : Room} {s : State} {m : MethodId} {args : Array Value} {below : List Frame} {meth : Method} {c : Code} {H : Heap} {locs : List Loc} {cells slots : Nat} {Q : State → Prop} {cc : ByteArray} {pc : Nat} {ls : Array Slot} {rest : List Value} {A : Nat → Prop} {H0 : Heap}
theorem sc_ld (hx : p.tables.exec = Jvm.exec) (hb : c.code = cc) {b L : Nat} {xs : Nat → Int32} (hX : va_X b L xs s H0) (hbl : b < H0.size) (hbA : ¬ A b) (hS : va_S A H0 H locs) {k : Nat} (hk : k < L) (hL : L < 2 ^ 31) (hdg : decode cc pc = .ok (.iaload, 1))
    (kk : W p l e R s m args below meth c H locs cells slots Q (F0 m (pc + 1) ls (.int (xs k) :: rest))) : W p l e R s m args below meth c H locs cells slots Q (F0 m pc ls (.int (nI k) :: .ref b :: rest)) :=
  va_sld hx hb hX hbl hbA hS (vp_in_nI hk hL) hdg (by rw [nI_clamp (by omega)]; exact kk)
theorem sc_len (hx : p.tables.exec = Jvm.exec) (hb : c.code = cc) {b L : Nat} {xs : Nat → Int32} (hX : va_X b L xs s H0) (hbl : b < H0.size) (hbA : ¬ A b) (hS : va_S A H0 H locs) (hdg : decode cc pc = .ok (.arraylength, 1))
    (kk : W p l e R s m args below meth c H locs cells slots Q (F0 m (pc + 1) ls (.int (nI L) :: rest))) : W p l e R s m args below meth c H locs cells slots Q (F0 m pc ls (.ref b :: rest)) := va_slen hx hb hX hbl hbA hS hdg kk
end ScRows
set_option maxHeartbeats 4000000 in
set_option maxRecDepth 100000 in
/-- THE LAW'S LOOP: at its head, with i ints read, class and reference hold the same -/
theorem law_loop {p : Program} {l : Launch} {e : Env} {s : State} {m : MethodId} {below : List Frame} {meth : Method} {c : Code} (hfl : l.flags = flags0) {D : va_G} {cB cI cJ : ClassId} {b L : Nat} {xs : Nat → Int32} (hL : L ≤ 2560) (C0 : lw_At p s m meth c b L xs) (hK : KX D cB cI cJ s) (hEX : EX s) (x ba ta ra d ah an ao y yb yt yr yo yn ja : Nat) (A : Nat → Prop) (hAe : A = (fun q : Nat => s.heap.size ≤ q)) :
    ∀ (f i : Nat), i ≤ L → L + 1 ≤ i + f → ∀ (B T G o r X : Nat → Nat) (fh fn : Nat → Int32) (fj : Nat → Int64) (bs ts rs : Nat) (ps : List Pce) (th : Int32), (∀ i, B i < 256) → (∀ i, T i < 256) → (∀ i, G i < 256) → (∀ i, o i < 256) → (∀ i, r i < 256) → bs ≤ 600 → ts ≤ 600 → rs ≤ 600 → okW ps → ∀ (H : Heap) (locs : List Loc), va_P D classes [(x, .inr (0, [.ref ba, .ref ta, .ref ra, .int (nI bs), .int (nI ts), .int (nI rs), .int (nI ps.length), .ref d])), (ba, .inl (cB, 600, .inl (bA B))), (ta, .inl (cB, 600, .inl (bA T))), (ra, .inl (cB, 600, .inl (bA G))), (d, .inr (1, [.ref ah, .ref an, .ref ao, .int (nI ((enc ps).length))])), (ah, .inl (cI, 256, .inl fh)), (an, .inl (cI, 188, .inl fn)), (ao, .inl (cB, 3064, .inl (bA (spl o 0 (enc ps))))), (y, .inr (2, [.int th, .ref yb, .int (nI bs), .ref yt, .int (nI ts), .ref yr, .int (nI ((enc ps).length)), .ref yo, .int (nI rs), .ref yn])), (yb, .inl (cI, 600, .inl (iA B))), (yt, .inl (cI, 600, .inl (iA T))), (yr, .inl (cI, 2000, .inl (iA (spl r 0 (enc ps))))), (yo, .inl (cI, 600, .inl (iA G))), (yn, .inl (cI, 600, .inl (iA X))), (ja, .inl (cJ, 1, .inr (.inl fj)))] H → va_D A [(x, .inr (0, [.ref ba, .ref ta, .ref ra, .int (nI bs), .int (nI ts), .int (nI rs), .int (nI ps.length), .ref d])), (ba, .inl (cB, 600, .inl (bA B))), (ta, .inl (cB, 600, .inl (bA T))), (ra, .inl (cB, 600, .inl (bA G))), (d, .inr (1, [.ref ah, .ref an, .ref ao, .int (nI ((enc ps).length))])), (ah, .inl (cI, 256, .inl fh)), (an, .inl (cI, 188, .inl fn)), (ao, .inl (cB, 3064, .inl (bA (spl o 0 (enc ps))))), (y, .inr (2, [.int th, .ref yb, .int (nI bs), .ref yt, .int (nI ts), .ref yr, .int (nI ((enc ps).length)), .ref yo, .int (nI rs), .ref yn])), (yb, .inl (cI, 600, .inl (iA B))), (yt, .inl (cI, 600, .inl (iA T))), (yr, .inl (cI, 2000, .inl (iA (spl r 0 (enc ps))))), (yo, .inl (cI, 600, .inl (iA G))), (yn, .inl (cI, 600, .inl (iA X))), (ja, .inl (cJ, 1, .inr (.inl fj)))] → va_S A s.heap H locs → ∀ ls : Array Slot, lv_has ls 7 [(4, .int (nI i)), (0, .ref b), (1, .ref x), (2, .ref y), (3, .ref ja)] → W p l e room_1 s m #[Value.ref b] below meth c H locs (15 + i) (9731 + 6 * i) (lw_Z below #[Value.ref b] s) (F0 m 23 ls []) := by
  obtain ⟨hx, hb, hr, hml, hown, hts, hX, hbl, hlocks, hgv⟩ := C0
  have hw := gw_of hts
  have hbA : ¬ A b := by rw [hAe]; exact Nat.not_le.mpr hbl
  intro f
  induction f with
  | zero => intro i h1 h2; exfalso; omega
  | succ f ih =>
    intro i hi hin B T G o r X fh fn fj bs ts rs ps th hB hT hG ho hr0 hbs hts0 hrs hok H locs hP hD hS ls hl
    have hlen := hok.2.2
    have hsum := hok.2.1
    have hpl := okW_len hok
    have hRo := Rd_spl o ps
    have hRr := Rd_spl r ps
    have ho2 : ∀ i, spl o 0 (enc ps) i < 256 := spl_256 ho (enc_256 hok.1)
    have hr2 : ∀ i, spl r 0 (enc ps) i < 256 := spl_256 hr0 (enc_256 hok.1)
    have hf : 15 + i ≤ room_1.cells ∧ 9731 + 6 * i ≤ room_1.slots := ⟨by show 15 + i ≤ 601024; omega, by show 9731 + 6 * i ≤ 7293034; omega⟩
    refine lv_iload hx hb d_La_law_23 (lv_at hl 0 rfl) ?_
    refine lv_aload_n hx hb d_La_law_25 rfl (lv_at hl 1 rfl) ?_
    refine sc_len hx hb hX hbl hbA hS d_La_law_26 ?_
    refine lv_iconst (v := nI 5) hx hb d_La_law_27 (by decide +kernel) ?_
    refine lv_isub hx hb d_La_law_28 ?_
    refine lv_icmp_gt (tgt := 412) hx hb d_La_law_29 (by decide) (fun c_29 => ?_) (fun c_29 => ?_)
    · refine lv_iconst (v := 1) hx hb d_La_law_412 (by decide) ?_
      refine va_forget (fun q hq => by have h9 := hS.2.2 q hq; rw [hAe] at h9; exact h9) ?_
      refine W.widen (k := 601024) (n := 7293034) (by omega) (by omega) ?_
      exact lw_ret hx hb hr hlocks d_La_law_413
    · have hi5 : i + 5 ≤ L := by
        rcases Nat.lt_or_ge L (i + 5) with h9 | h9
        · exact absurd ((law_c hL (by omega)).mpr h9) c_29
        · exact h9
      refine lv_aload_n hx hb d_La_law_32 rfl (lv_at hl 1 rfl) ?_
      refine lv_iload hx hb d_La_law_33 (lv_at hl 0 rfl) ?_
      refine sc_ld hx hb hX hbl hbA hS (by omega) (by omega) d_La_law_35 ?_
      refine lv_bipush (v := nI 15) hx hb d_La_law_36 (by decide +kernel) ?_
      refine lv_iand hx hb d_La_law_38 ?_
      obtain ⟨j, hj, ej⟩ := pk_andE (xs i) (m := nI 15) 4 (by decide +kernel)
      rw [ej]
      rcases (show j = 0 ∨ j = 1 ∨ j = 2 ∨ j = 3 ∨ j = 4 ∨ j = 5 ∨ j = 6 ∨ j = 7 ∨ j = 8 ∨ 9 ≤ j by omega) with rfl | rfl | rfl | rfl | rfl | rfl | rfl | rfl | rfl | h9
      · refine lv_tableIn (off := 49) (tgt := 88) hx hb d_La_law_39 (by decide +kernel) (by decide +kernel) (by decide +kernel) (by decide) ?_
        refine lv_aload_n hx hb d_La_law_88 rfl (lv_at hl 2 rfl) ?_
        refine lv_aload_n hx hb d_La_law_89 rfl (lv_at hl 1 rfl) ?_
        refine lv_iload hx hb d_La_law_90 (lv_at hl 0 rfl) ?_
        refine lv_iconst (v := nI 1) hx hb d_La_law_92 (by decide +kernel) ?_
        refine n_iadd hx hb d_La_law_93 ?_
        refine sc_ld hx hb hX hbl hbA hS (by omega) (by omega) d_La_law_94 ?_
        refine lv_if_eq (tgt := 102) hx hb d_La_law_95 (by decide) (fun c_95 => ?_) (fun c_95 => ?_)
        · refine lv_iconst (v := nI 0) hx hb d_La_law_102 (by decide +kernel) ?_
          refine lv_aload_n hx hb d_La_law_103 rfl (lv_at hl 1 rfl) ?_
          refine lv_iload hx hb d_La_law_104 (lv_at hl 0 rfl) ?_
          refine lv_iconst (v := nI 2) hx hb d_La_law_106 (by decide +kernel) ?_
          refine n_iadd hx hb d_La_law_107 ?_
          refine sc_ld hx hb hX hbl hbA hS (by omega) (by omega) d_La_law_108 ?_
          refine lv_i2l hx hb d_La_law_109 rfl ?_
          refine lv_bipush (v := nI 32) hx hb d_La_law_110 (by decide +kernel) ?_
          refine lv_lshl hx hb d_La_law_112 rfl ?_
          refine lv_aload_n hx hb d_La_law_113 rfl (lv_at hl 1 rfl) ?_
          refine lv_iload hx hb d_La_law_114 (lv_at hl 0 rfl) ?_
          refine lv_iconst (v := nI 3) hx hb d_La_law_116 (by decide +kernel) ?_
          refine n_iadd hx hb d_La_law_117 ?_
          refine sc_ld hx hb hX hbl hbA hS (by omega) (by omega) d_La_law_118 ?_
          refine lv_i2l hx hb d_La_law_119 rfl ?_
          refine lv_ldc2 hx hb hown (hw _ k_317) d_La_law_120 ?_
          refine lv_land hx hb d_La_law_123 ?_
          refine lv_lor hx hb d_La_law_124 ?_
          refine lv_aload_n hx hb d_La_law_125 rfl (lv_at hl 1 rfl) ?_
          refine lv_iload hx hb d_La_law_126 (lv_at hl 0 rfl) ?_
          refine lv_iconst (v := nI 4) hx hb d_La_law_128 (by decide +kernel) ?_
          refine n_iadd hx hb d_La_law_129 ?_
          refine sc_ld hx hb hX hbl hbA hS (by omega) (by omega) d_La_law_130 ?_
          rcases put_cases (xs (i + 4)) bs with ⟨k, hk, ek, hh⟩ | hbad
          · rw [ek]
            refine ip_V (As := [.int (nI 0), .long ((((xs (i + 2)).toInt64) <<< ((nI 32).toInt64 &&& 63)) ||| (((xs (i + 3)).toInt64) &&& 4294967295)), .int (nI k)]) (rest := []) ⟨hx, hb, hml, hown, hw⟩ (c_PW_putB l D cB cI cJ x ba ta ra d (nI ts) (nI rs) (nI ps.length) bs B ((((xs (i + 2)).toInt64) <<< ((nI 32).toInt64 &&& 63)) ||| (((xs (i + 3)).toInt64) &&& 4294967295)) k hk hh) g_La_21 hd_PW_put rfl ⟨rfl, rfl⟩ ⟨by decide, by decide⟩ hP hK hD hS [0, 1] (by decide) rfl [x, ba] rfl (fun _ => rfl) 0 0 rfl rfl rfl hl.1 rfl (Nat.le_of_ble_eq_true rfl) hf d_La_law_131 (fun u_131 H locs hu_131 hP hD hS => ?_)
            refine W.eq (g2 := F0 m 134 ls [.int (nI 1)]) rfl ?_
            have hP : va_P D classes [(x, .inr (0, [.ref ba, .ref ta, .ref ra, .int (nI (bs + k)), .int (nI ts), .int (nI rs), .int (nI ps.length), .ref d])), (ba, .inl (cB, 600, .inl (bA (spl B bs (vbl ((((xs (i + 2)).toInt64) <<< ((nI 32).toInt64 &&& 63)) ||| (((xs (i + 3)).toInt64) &&& 4294967295)) k k))))), (ta, .inl (cB, 600, .inl (bA T))), (ra, .inl (cB, 600, .inl (bA G))), (d, .inr (1, [.ref ah, .ref an, .ref ao, .int (nI ((enc ps).length))])), (ah, .inl (cI, 256, .inl fh)), (an, .inl (cI, 188, .inl fn)), (ao, .inl (cB, 3064, .inl (bA (spl o 0 (enc ps))))), (y, .inr (2, [.int th, .ref yb, .int (nI bs), .ref yt, .int (nI ts), .ref yr, .int (nI ((enc ps).length)), .ref yo, .int (nI rs), .ref yn])), (yb, .inl (cI, 600, .inl (iA B))), (yt, .inl (cI, 600, .inl (iA T))), (yr, .inl (cI, 2000, .inl (iA (spl r 0 (enc ps))))), (yo, .inl (cI, 600, .inl (iA G))), (yn, .inl (cI, 600, .inl (iA X))), (ja, .inl (cJ, 1, .inr (.inl fj)))] H := hP
            have hD : va_D A [(x, .inr (0, [.ref ba, .ref ta, .ref ra, .int (nI (bs + k)), .int (nI ts), .int (nI rs), .int (nI ps.length), .ref d])), (ba, .inl (cB, 600, .inl (bA (spl B bs (vbl ((((xs (i + 2)).toInt64) <<< ((nI 32).toInt64 &&& 63)) ||| (((xs (i + 3)).toInt64) &&& 4294967295)) k k))))), (ta, .inl (cB, 600, .inl (bA T))), (ra, .inl (cB, 600, .inl (bA G))), (d, .inr (1, [.ref ah, .ref an, .ref ao, .int (nI ((enc ps).length))])), (ah, .inl (cI, 256, .inl fh)), (an, .inl (cI, 188, .inl fn)), (ao, .inl (cB, 3064, .inl (bA (spl o 0 (enc ps))))), (y, .inr (2, [.int th, .ref yb, .int (nI bs), .ref yt, .int (nI ts), .ref yr, .int (nI ((enc ps).length)), .ref yo, .int (nI rs), .ref yn])), (yb, .inl (cI, 600, .inl (iA B))), (yt, .inl (cI, 600, .inl (iA T))), (yr, .inl (cI, 2000, .inl (iA (spl r 0 (enc ps))))), (yo, .inl (cI, 600, .inl (iA G))), (yn, .inl (cI, 600, .inl (iA X))), (ja, .inl (cJ, 1, .inr (.inl fj)))] := hD
            refine lv_aload_n hx hb d_La_law_134 rfl (lv_at hl 3 rfl) ?_
            refine lv_aload_n hx hb d_La_law_135 rfl (lv_at hl 1 rfl) ?_
            refine lv_iload hx hb d_La_law_136 (lv_at hl 0 rfl) ?_
            refine lv_iconst (v := nI 1) hx hb d_La_law_138 (by decide +kernel) ?_
            refine n_iadd hx hb d_La_law_139 ?_
            refine sc_ld hx hb hX hbl hbA hS (by omega) (by omega) d_La_law_140 ?_
            refine lv_if_eq (tgt := 148) hx hb d_La_law_141 (by decide) (fun c_141 => ?_) (fun c_141 => ?_)
            · refine lv_iconst (v := nI 0) hx hb d_La_law_148 (by decide +kernel) ?_
              refine lv_aload_n hx hb d_La_law_149 rfl (lv_at hl 1 rfl) ?_
              refine lv_iload hx hb d_La_law_150 (lv_at hl 0 rfl) ?_
              refine lv_iconst (v := nI 2) hx hb d_La_law_152 (by decide +kernel) ?_
              refine n_iadd hx hb d_La_law_153 ?_
              refine sc_ld hx hb hX hbl hbA hS (by omega) (by omega) d_La_law_154 ?_
              refine lv_i2l hx hb d_La_law_155 rfl ?_
              refine lv_bipush (v := nI 32) hx hb d_La_law_156 (by decide +kernel) ?_
              refine lv_lshl hx hb d_La_law_158 rfl ?_
              refine lv_aload_n hx hb d_La_law_159 rfl (lv_at hl 1 rfl) ?_
              refine lv_iload hx hb d_La_law_160 (lv_at hl 0 rfl) ?_
              refine lv_iconst (v := nI 3) hx hb d_La_law_162 (by decide +kernel) ?_
              refine n_iadd hx hb d_La_law_163 ?_
              refine sc_ld hx hb hX hbl hbA hS (by omega) (by omega) d_La_law_164 ?_
              refine lv_i2l hx hb d_La_law_165 rfl ?_
              refine lv_ldc2 hx hb hown (hw _ k_317) d_La_law_166 ?_
              refine lv_land hx hb d_La_law_169 ?_
              refine lv_lor hx hb d_La_law_170 ?_
              refine lv_aload_n hx hb d_La_law_171 rfl (lv_at hl 1 rfl) ?_
              refine lv_iload hx hb d_La_law_172 (lv_at hl 0 rfl) ?_
              refine lv_iconst (v := nI 4) hx hb d_La_law_174 (by decide +kernel) ?_
              refine n_iadd hx hb d_La_law_175 ?_
              refine sc_ld hx hb hX hbl hbA hS (by omega) (by omega) d_La_law_176 ?_
              rw [ek]
              refine ip_V (As := [.int (nI 0), .long ((((xs (i + 2)).toInt64) <<< ((nI 32).toInt64 &&& 63)) ||| (((xs (i + 3)).toInt64) &&& 4294967295)), .int (nI k)]) (rest := [.int (nI 1)]) ⟨hx, hb, hml, hown, hw⟩ (c_Mo_putB l D cB cI cJ y yb yt yr yo yn th (nI ts) (nI (enc ps).length) (nI rs) bs B ((((xs (i + 2)).toInt64) <<< ((nI 32).toInt64 &&& 63)) ||| (((xs (i + 3)).toInt64) &&& 4294967295)) k hk hh) g_La_25 hd_Mo_put rfl ⟨rfl, rfl⟩ ⟨by decide, by decide⟩ hP hK hD hS [8, 9] (by decide) rfl [y, yb] rfl (fun _ => rfl) 8 2 rfl rfl rfl hl.1 rfl (Nat.le_of_ble_eq_true rfl) hf d_La_law_177 (fun u_177 H locs hu_177 hP hD hS => ?_)
              refine W.eq (g2 := F0 m 180 ls [.int (nI 1), .int (nI 1)]) rfl ?_
              have hP : va_P D classes [(x, .inr (0, [.ref ba, .ref ta, .ref ra, .int (nI (bs + k)), .int (nI ts), .int (nI rs), .int (nI ps.length), .ref d])), (ba, .inl (cB, 600, .inl (bA (spl B bs (vbl ((((xs (i + 2)).toInt64) <<< ((nI 32).toInt64 &&& 63)) ||| (((xs (i + 3)).toInt64) &&& 4294967295)) k k))))), (ta, .inl (cB, 600, .inl (bA T))), (ra, .inl (cB, 600, .inl (bA G))), (d, .inr (1, [.ref ah, .ref an, .ref ao, .int (nI ((enc ps).length))])), (ah, .inl (cI, 256, .inl fh)), (an, .inl (cI, 188, .inl fn)), (ao, .inl (cB, 3064, .inl (bA (spl o 0 (enc ps))))), (y, .inr (2, [.int (nI 0), .ref yb, .int (nI (bs + k)), .ref yt, .int (nI ts), .ref yr, .int (nI ((enc ps).length)), .ref yo, .int (nI rs), .ref yn])), (yb, .inl (cI, 600, .inl (iA (spl B bs (vbl ((((xs (i + 2)).toInt64) <<< ((nI 32).toInt64 &&& 63)) ||| (((xs (i + 3)).toInt64) &&& 4294967295)) k k))))), (yt, .inl (cI, 600, .inl (iA T))), (yr, .inl (cI, 2000, .inl (iA (spl r 0 (enc ps))))), (yo, .inl (cI, 600, .inl (iA G))), (yn, .inl (cI, 600, .inl (iA X))), (ja, .inl (cJ, 1, .inr (.inl fj)))] H := hP
              have hD : va_D A [(x, .inr (0, [.ref ba, .ref ta, .ref ra, .int (nI (bs + k)), .int (nI ts), .int (nI rs), .int (nI ps.length), .ref d])), (ba, .inl (cB, 600, .inl (bA (spl B bs (vbl ((((xs (i + 2)).toInt64) <<< ((nI 32).toInt64 &&& 63)) ||| (((xs (i + 3)).toInt64) &&& 4294967295)) k k))))), (ta, .inl (cB, 600, .inl (bA T))), (ra, .inl (cB, 600, .inl (bA G))), (d, .inr (1, [.ref ah, .ref an, .ref ao, .int (nI ((enc ps).length))])), (ah, .inl (cI, 256, .inl fh)), (an, .inl (cI, 188, .inl fn)), (ao, .inl (cB, 3064, .inl (bA (spl o 0 (enc ps))))), (y, .inr (2, [.int (nI 0), .ref yb, .int (nI (bs + k)), .ref yt, .int (nI ts), .ref yr, .int (nI ((enc ps).length)), .ref yo, .int (nI rs), .ref yn])), (yb, .inl (cI, 600, .inl (iA (spl B bs (vbl ((((xs (i + 2)).toInt64) <<< ((nI 32).toInt64 &&& 63)) ||| (((xs (i + 3)).toInt64) &&& 4294967295)) k k))))), (yt, .inl (cI, 600, .inl (iA T))), (yr, .inl (cI, 2000, .inl (iA (spl r 0 (enc ps))))), (yo, .inl (cI, 600, .inl (iA G))), (yn, .inl (cI, 600, .inl (iA X))), (ja, .inl (cJ, 1, .inr (.inl fj)))] := hD
              refine n_icmp_eq (tgt := 406) hx hb d_La_law_180 (by decide) (by omega) (by omega) (fun c_180 => ?_) (fun c_180 => ?_)
              · refine lv_iinc (v := nI (i + 5)) (lv' := [(4, .int (nI (i + 5))), (0, .ref b), (1, .ref x), (2, .ref y), (3, .ref ja)]) hx hb d_La_law_406 hl (k := 0) rfl (nI_inc5 _) (by decide) rfl (fun ls hl => ?_)
                refine lv_goto (tgt := 23) hx hb d_La_law_409 (by decide) ?_
                refine W.widen (k := 15 + (i + 5)) (n := 9731 + 6 * (i + 5)) (by omega) (by omega) ?_
                exact ih (i + 5) (by omega) (by omega) (spl B bs (vbl ((((xs (i + 2)).toInt64) <<< ((nI 32).toInt64 &&& 63)) ||| (((xs (i + 3)).toInt64) &&& 4294967295)) k k)) T G o r X fh fn fj (bs + k) ts rs ps (nI 0) (spl_256 hB (vbl_256 _ _ _)) hT hG ho hr0 hh hts0 hrs hok H locs hP hD hS ls (lv_sub hl [0, 1, 2, 3, 4] rfl)
              · exfalso; omega
            · exact absurd c_95 c_141
          · refine ro_V (As := [.int (nI 0), .long ((((xs (i + 2)).toInt64) <<< ((nI 32).toInt64 &&& 63)) ||| (((xs (i + 3)).toInt64) &&& 4294967295)), .int (xs (i + 4))]) (rest := []) ⟨hx, hb, hml, hown, hw⟩ (c_PW_putBbad l D cB cI cJ x ba ta ra d (nI ts) (nI rs) (nI ps.length) bs hbs ((((xs (i + 2)).toInt64) <<< ((nI 32).toInt64 &&& 63)) ||| (((xs (i + 3)).toInt64) &&& 4294967295)) (xs (i + 4)) hbad) g_La_21 hd_PW_put rfl ⟨rfl, rfl⟩ ⟨by decide, by decide⟩ hP hK [0] rfl 0 0 rfl rfl rfl hl.1 rfl (Nat.le_of_ble_eq_true rfl) hf d_La_law_131 ?_
            refine lv_aload_n hx hb d_La_law_134 rfl (lv_at hl 3 rfl) ?_
            refine lv_aload_n hx hb d_La_law_135 rfl (lv_at hl 1 rfl) ?_
            refine lv_iload hx hb d_La_law_136 (lv_at hl 0 rfl) ?_
            refine lv_iconst (v := nI 1) hx hb d_La_law_138 (by decide +kernel) ?_
            refine n_iadd hx hb d_La_law_139 ?_
            refine sc_ld hx hb hX hbl hbA hS (by omega) (by omega) d_La_law_140 ?_
            refine lv_if_eq (tgt := 148) hx hb d_La_law_141 (by decide) (fun c_141 => ?_) (fun c_141 => ?_)
            · refine lv_iconst (v := nI 0) hx hb d_La_law_148 (by decide +kernel) ?_
              refine lv_aload_n hx hb d_La_law_149 rfl (lv_at hl 1 rfl) ?_
              refine lv_iload hx hb d_La_law_150 (lv_at hl 0 rfl) ?_
              refine lv_iconst (v := nI 2) hx hb d_La_law_152 (by decide +kernel) ?_
              refine n_iadd hx hb d_La_law_153 ?_
              refine sc_ld hx hb hX hbl hbA hS (by omega) (by omega) d_La_law_154 ?_
              refine lv_i2l hx hb d_La_law_155 rfl ?_
              refine lv_bipush (v := nI 32) hx hb d_La_law_156 (by decide +kernel) ?_
              refine lv_lshl hx hb d_La_law_158 rfl ?_
              refine lv_aload_n hx hb d_La_law_159 rfl (lv_at hl 1 rfl) ?_
              refine lv_iload hx hb d_La_law_160 (lv_at hl 0 rfl) ?_
              refine lv_iconst (v := nI 3) hx hb d_La_law_162 (by decide +kernel) ?_
              refine n_iadd hx hb d_La_law_163 ?_
              refine sc_ld hx hb hX hbl hbA hS (by omega) (by omega) d_La_law_164 ?_
              refine lv_i2l hx hb d_La_law_165 rfl ?_
              refine lv_ldc2 hx hb hown (hw _ k_317) d_La_law_166 ?_
              refine lv_land hx hb d_La_law_169 ?_
              refine lv_lor hx hb d_La_law_170 ?_
              refine lv_aload_n hx hb d_La_law_171 rfl (lv_at hl 1 rfl) ?_
              refine lv_iload hx hb d_La_law_172 (lv_at hl 0 rfl) ?_
              refine lv_iconst (v := nI 4) hx hb d_La_law_174 (by decide +kernel) ?_
              refine n_iadd hx hb d_La_law_175 ?_
              refine sc_ld hx hb hX hbl hbA hS (by omega) (by omega) d_La_law_176 ?_
              refine ip_V (As := [.int (nI 0), .long ((((xs (i + 2)).toInt64) <<< ((nI 32).toInt64 &&& 63)) ||| (((xs (i + 3)).toInt64) &&& 4294967295)), .int (xs (i + 4))]) (rest := [.int (nI 0)]) ⟨hx, hb, hml, hown, hw⟩ (c_Mo_putBbad l D cB cI cJ y yb yt yr yo yn th (nI ts) (nI (enc ps).length) (nI rs) bs hbs ((((xs (i + 2)).toInt64) <<< ((nI 32).toInt64 &&& 63)) ||| (((xs (i + 3)).toInt64) &&& 4294967295)) (xs (i + 4)) hbad) g_La_25 hd_Mo_put rfl ⟨rfl, rfl⟩ ⟨by decide, by decide⟩ hP hK hD hS [8] (by decide) rfl [y] rfl (fun _ => rfl) 8 2 rfl rfl rfl hl.1 rfl (Nat.le_of_ble_eq_true rfl) hf d_La_law_177 (fun u_177 H locs hu_177 hP hD hS => ?_)
              refine W.eq (g2 := F0 m 180 ls [.int (nI 0), .int (nI 0)]) rfl ?_
              have hP : va_P D classes [(x, .inr (0, [.ref ba, .ref ta, .ref ra, .int (nI bs), .int (nI ts), .int (nI rs), .int (nI ps.length), .ref d])), (ba, .inl (cB, 600, .inl (bA B))), (ta, .inl (cB, 600, .inl (bA T))), (ra, .inl (cB, 600, .inl (bA G))), (d, .inr (1, [.ref ah, .ref an, .ref ao, .int (nI ((enc ps).length))])), (ah, .inl (cI, 256, .inl fh)), (an, .inl (cI, 188, .inl fn)), (ao, .inl (cB, 3064, .inl (bA (spl o 0 (enc ps))))), (y, .inr (2, [.int (nI 0), .ref yb, .int (nI bs), .ref yt, .int (nI ts), .ref yr, .int (nI ((enc ps).length)), .ref yo, .int (nI rs), .ref yn])), (yb, .inl (cI, 600, .inl (iA B))), (yt, .inl (cI, 600, .inl (iA T))), (yr, .inl (cI, 2000, .inl (iA (spl r 0 (enc ps))))), (yo, .inl (cI, 600, .inl (iA G))), (yn, .inl (cI, 600, .inl (iA X))), (ja, .inl (cJ, 1, .inr (.inl fj)))] H := hP
              have hD : va_D A [(x, .inr (0, [.ref ba, .ref ta, .ref ra, .int (nI bs), .int (nI ts), .int (nI rs), .int (nI ps.length), .ref d])), (ba, .inl (cB, 600, .inl (bA B))), (ta, .inl (cB, 600, .inl (bA T))), (ra, .inl (cB, 600, .inl (bA G))), (d, .inr (1, [.ref ah, .ref an, .ref ao, .int (nI ((enc ps).length))])), (ah, .inl (cI, 256, .inl fh)), (an, .inl (cI, 188, .inl fn)), (ao, .inl (cB, 3064, .inl (bA (spl o 0 (enc ps))))), (y, .inr (2, [.int (nI 0), .ref yb, .int (nI bs), .ref yt, .int (nI ts), .ref yr, .int (nI ((enc ps).length)), .ref yo, .int (nI rs), .ref yn])), (yb, .inl (cI, 600, .inl (iA B))), (yt, .inl (cI, 600, .inl (iA T))), (yr, .inl (cI, 2000, .inl (iA (spl r 0 (enc ps))))), (yo, .inl (cI, 600, .inl (iA G))), (yn, .inl (cI, 600, .inl (iA X))), (ja, .inl (cJ, 1, .inr (.inl fj)))] := hD
              refine n_icmp_eq (tgt := 406) hx hb d_La_law_180 (by decide) (by omega) (by omega) (fun c_180 => ?_) (fun c_180 => ?_)
              · refine lv_iinc (v := nI (i + 5)) (lv' := [(4, .int (nI (i + 5))), (0, .ref b), (1, .ref x), (2, .ref y), (3, .ref ja)]) hx hb d_La_law_406 hl (k := 0) rfl (nI_inc5 _) (by decide) rfl (fun ls hl => ?_)
                refine lv_goto (tgt := 23) hx hb d_La_law_409 (by decide) ?_
                refine W.widen (k := 15 + (i + 5)) (n := 9731 + 6 * (i + 5)) (by omega) (by omega) ?_
                exact ih (i + 5) (by omega) (by omega) B T G o r X fh fn fj bs ts rs ps (nI 0) hB hT hG ho hr0 hbs hts0 hrs hok H locs hP hD hS ls (lv_sub hl [0, 1, 2, 3, 4] rfl)
              · exfalso; omega
            · exact absurd c_95 c_141
        · refine lv_iconst (v := nI 1) hx hb d_La_law_98 (by decide +kernel) ?_
          refine lv_goto (tgt := 103) hx hb d_La_law_99 (by decide) ?_
          refine lv_aload_n hx hb d_La_law_103 rfl (lv_at hl 1 rfl) ?_
          refine lv_iload hx hb d_La_law_104 (lv_at hl 0 rfl) ?_
          refine lv_iconst (v := nI 2) hx hb d_La_law_106 (by decide +kernel) ?_
          refine n_iadd hx hb d_La_law_107 ?_
          refine sc_ld hx hb hX hbl hbA hS (by omega) (by omega) d_La_law_108 ?_
          refine lv_i2l hx hb d_La_law_109 rfl ?_
          refine lv_bipush (v := nI 32) hx hb d_La_law_110 (by decide +kernel) ?_
          refine lv_lshl hx hb d_La_law_112 rfl ?_
          refine lv_aload_n hx hb d_La_law_113 rfl (lv_at hl 1 rfl) ?_
          refine lv_iload hx hb d_La_law_114 (lv_at hl 0 rfl) ?_
          refine lv_iconst (v := nI 3) hx hb d_La_law_116 (by decide +kernel) ?_
          refine n_iadd hx hb d_La_law_117 ?_
          refine sc_ld hx hb hX hbl hbA hS (by omega) (by omega) d_La_law_118 ?_
          refine lv_i2l hx hb d_La_law_119 rfl ?_
          refine lv_ldc2 hx hb hown (hw _ k_317) d_La_law_120 ?_
          refine lv_land hx hb d_La_law_123 ?_
          refine lv_lor hx hb d_La_law_124 ?_
          refine lv_aload_n hx hb d_La_law_125 rfl (lv_at hl 1 rfl) ?_
          refine lv_iload hx hb d_La_law_126 (lv_at hl 0 rfl) ?_
          refine lv_iconst (v := nI 4) hx hb d_La_law_128 (by decide +kernel) ?_
          refine n_iadd hx hb d_La_law_129 ?_
          refine sc_ld hx hb hX hbl hbA hS (by omega) (by omega) d_La_law_130 ?_
          rcases put_cases (xs (i + 4)) ts with ⟨k, hk, ek, hh⟩ | hbad
          · rw [ek]
            refine ip_V (As := [.int (nI 1), .long ((((xs (i + 2)).toInt64) <<< ((nI 32).toInt64 &&& 63)) ||| (((xs (i + 3)).toInt64) &&& 4294967295)), .int (nI k)]) (rest := []) ⟨hx, hb, hml, hown, hw⟩ (c_PW_putT l D cB cI cJ x ba ta ra d (nI bs) (nI rs) (nI ps.length) ts T ((((xs (i + 2)).toInt64) <<< ((nI 32).toInt64 &&& 63)) ||| (((xs (i + 3)).toInt64) &&& 4294967295)) k hk hh) g_La_21 hd_PW_put rfl ⟨rfl, rfl⟩ ⟨by decide, by decide⟩ hP hK hD hS [0, 2] (by decide) rfl [x, ta] rfl (fun _ => rfl) 0 0 rfl rfl rfl hl.1 rfl (Nat.le_of_ble_eq_true rfl) hf d_La_law_131 (fun u_131 H locs hu_131 hP hD hS => ?_)
            refine W.eq (g2 := F0 m 134 ls [.int (nI 1)]) rfl ?_
            have hP : va_P D classes [(x, .inr (0, [.ref ba, .ref ta, .ref ra, .int (nI bs), .int (nI (ts + k)), .int (nI rs), .int (nI ps.length), .ref d])), (ba, .inl (cB, 600, .inl (bA B))), (ta, .inl (cB, 600, .inl (bA (spl T ts (vbl ((((xs (i + 2)).toInt64) <<< ((nI 32).toInt64 &&& 63)) ||| (((xs (i + 3)).toInt64) &&& 4294967295)) k k))))), (ra, .inl (cB, 600, .inl (bA G))), (d, .inr (1, [.ref ah, .ref an, .ref ao, .int (nI ((enc ps).length))])), (ah, .inl (cI, 256, .inl fh)), (an, .inl (cI, 188, .inl fn)), (ao, .inl (cB, 3064, .inl (bA (spl o 0 (enc ps))))), (y, .inr (2, [.int th, .ref yb, .int (nI bs), .ref yt, .int (nI ts), .ref yr, .int (nI ((enc ps).length)), .ref yo, .int (nI rs), .ref yn])), (yb, .inl (cI, 600, .inl (iA B))), (yt, .inl (cI, 600, .inl (iA T))), (yr, .inl (cI, 2000, .inl (iA (spl r 0 (enc ps))))), (yo, .inl (cI, 600, .inl (iA G))), (yn, .inl (cI, 600, .inl (iA X))), (ja, .inl (cJ, 1, .inr (.inl fj)))] H := hP
            have hD : va_D A [(x, .inr (0, [.ref ba, .ref ta, .ref ra, .int (nI bs), .int (nI (ts + k)), .int (nI rs), .int (nI ps.length), .ref d])), (ba, .inl (cB, 600, .inl (bA B))), (ta, .inl (cB, 600, .inl (bA (spl T ts (vbl ((((xs (i + 2)).toInt64) <<< ((nI 32).toInt64 &&& 63)) ||| (((xs (i + 3)).toInt64) &&& 4294967295)) k k))))), (ra, .inl (cB, 600, .inl (bA G))), (d, .inr (1, [.ref ah, .ref an, .ref ao, .int (nI ((enc ps).length))])), (ah, .inl (cI, 256, .inl fh)), (an, .inl (cI, 188, .inl fn)), (ao, .inl (cB, 3064, .inl (bA (spl o 0 (enc ps))))), (y, .inr (2, [.int th, .ref yb, .int (nI bs), .ref yt, .int (nI ts), .ref yr, .int (nI ((enc ps).length)), .ref yo, .int (nI rs), .ref yn])), (yb, .inl (cI, 600, .inl (iA B))), (yt, .inl (cI, 600, .inl (iA T))), (yr, .inl (cI, 2000, .inl (iA (spl r 0 (enc ps))))), (yo, .inl (cI, 600, .inl (iA G))), (yn, .inl (cI, 600, .inl (iA X))), (ja, .inl (cJ, 1, .inr (.inl fj)))] := hD
            refine lv_aload_n hx hb d_La_law_134 rfl (lv_at hl 3 rfl) ?_
            refine lv_aload_n hx hb d_La_law_135 rfl (lv_at hl 1 rfl) ?_
            refine lv_iload hx hb d_La_law_136 (lv_at hl 0 rfl) ?_
            refine lv_iconst (v := nI 1) hx hb d_La_law_138 (by decide +kernel) ?_
            refine n_iadd hx hb d_La_law_139 ?_
            refine sc_ld hx hb hX hbl hbA hS (by omega) (by omega) d_La_law_140 ?_
            refine lv_if_eq (tgt := 148) hx hb d_La_law_141 (by decide) (fun c_141 => ?_) (fun c_141 => ?_)
            · exact absurd c_141 c_95
            · refine lv_iconst (v := nI 1) hx hb d_La_law_144 (by decide +kernel) ?_
              refine lv_goto (tgt := 149) hx hb d_La_law_145 (by decide) ?_
              refine lv_aload_n hx hb d_La_law_149 rfl (lv_at hl 1 rfl) ?_
              refine lv_iload hx hb d_La_law_150 (lv_at hl 0 rfl) ?_
              refine lv_iconst (v := nI 2) hx hb d_La_law_152 (by decide +kernel) ?_
              refine n_iadd hx hb d_La_law_153 ?_
              refine sc_ld hx hb hX hbl hbA hS (by omega) (by omega) d_La_law_154 ?_
              refine lv_i2l hx hb d_La_law_155 rfl ?_
              refine lv_bipush (v := nI 32) hx hb d_La_law_156 (by decide +kernel) ?_
              refine lv_lshl hx hb d_La_law_158 rfl ?_
              refine lv_aload_n hx hb d_La_law_159 rfl (lv_at hl 1 rfl) ?_
              refine lv_iload hx hb d_La_law_160 (lv_at hl 0 rfl) ?_
              refine lv_iconst (v := nI 3) hx hb d_La_law_162 (by decide +kernel) ?_
              refine n_iadd hx hb d_La_law_163 ?_
              refine sc_ld hx hb hX hbl hbA hS (by omega) (by omega) d_La_law_164 ?_
              refine lv_i2l hx hb d_La_law_165 rfl ?_
              refine lv_ldc2 hx hb hown (hw _ k_317) d_La_law_166 ?_
              refine lv_land hx hb d_La_law_169 ?_
              refine lv_lor hx hb d_La_law_170 ?_
              refine lv_aload_n hx hb d_La_law_171 rfl (lv_at hl 1 rfl) ?_
              refine lv_iload hx hb d_La_law_172 (lv_at hl 0 rfl) ?_
              refine lv_iconst (v := nI 4) hx hb d_La_law_174 (by decide +kernel) ?_
              refine n_iadd hx hb d_La_law_175 ?_
              refine sc_ld hx hb hX hbl hbA hS (by omega) (by omega) d_La_law_176 ?_
              rw [ek]
              refine ip_V (As := [.int (nI 1), .long ((((xs (i + 2)).toInt64) <<< ((nI 32).toInt64 &&& 63)) ||| (((xs (i + 3)).toInt64) &&& 4294967295)), .int (nI k)]) (rest := [.int (nI 1)]) ⟨hx, hb, hml, hown, hw⟩ (c_Mo_putT l D cB cI cJ y yb yt yr yo yn th (nI bs) (nI (enc ps).length) (nI rs) ts T ((((xs (i + 2)).toInt64) <<< ((nI 32).toInt64 &&& 63)) ||| (((xs (i + 3)).toInt64) &&& 4294967295)) k hk hh) g_La_25 hd_Mo_put rfl ⟨rfl, rfl⟩ ⟨by decide, by decide⟩ hP hK hD hS [8, 10] (by decide) rfl [y, yt] rfl (fun _ => rfl) 8 2 rfl rfl rfl hl.1 rfl (Nat.le_of_ble_eq_true rfl) hf d_La_law_177 (fun u_177 H locs hu_177 hP hD hS => ?_)
              refine W.eq (g2 := F0 m 180 ls [.int (nI 1), .int (nI 1)]) rfl ?_
              have hP : va_P D classes [(x, .inr (0, [.ref ba, .ref ta, .ref ra, .int (nI bs), .int (nI (ts + k)), .int (nI rs), .int (nI ps.length), .ref d])), (ba, .inl (cB, 600, .inl (bA B))), (ta, .inl (cB, 600, .inl (bA (spl T ts (vbl ((((xs (i + 2)).toInt64) <<< ((nI 32).toInt64 &&& 63)) ||| (((xs (i + 3)).toInt64) &&& 4294967295)) k k))))), (ra, .inl (cB, 600, .inl (bA G))), (d, .inr (1, [.ref ah, .ref an, .ref ao, .int (nI ((enc ps).length))])), (ah, .inl (cI, 256, .inl fh)), (an, .inl (cI, 188, .inl fn)), (ao, .inl (cB, 3064, .inl (bA (spl o 0 (enc ps))))), (y, .inr (2, [.int (nI 0), .ref yb, .int (nI bs), .ref yt, .int (nI (ts + k)), .ref yr, .int (nI ((enc ps).length)), .ref yo, .int (nI rs), .ref yn])), (yb, .inl (cI, 600, .inl (iA B))), (yt, .inl (cI, 600, .inl (iA (spl T ts (vbl ((((xs (i + 2)).toInt64) <<< ((nI 32).toInt64 &&& 63)) ||| (((xs (i + 3)).toInt64) &&& 4294967295)) k k))))), (yr, .inl (cI, 2000, .inl (iA (spl r 0 (enc ps))))), (yo, .inl (cI, 600, .inl (iA G))), (yn, .inl (cI, 600, .inl (iA X))), (ja, .inl (cJ, 1, .inr (.inl fj)))] H := hP
              have hD : va_D A [(x, .inr (0, [.ref ba, .ref ta, .ref ra, .int (nI bs), .int (nI (ts + k)), .int (nI rs), .int (nI ps.length), .ref d])), (ba, .inl (cB, 600, .inl (bA B))), (ta, .inl (cB, 600, .inl (bA (spl T ts (vbl ((((xs (i + 2)).toInt64) <<< ((nI 32).toInt64 &&& 63)) ||| (((xs (i + 3)).toInt64) &&& 4294967295)) k k))))), (ra, .inl (cB, 600, .inl (bA G))), (d, .inr (1, [.ref ah, .ref an, .ref ao, .int (nI ((enc ps).length))])), (ah, .inl (cI, 256, .inl fh)), (an, .inl (cI, 188, .inl fn)), (ao, .inl (cB, 3064, .inl (bA (spl o 0 (enc ps))))), (y, .inr (2, [.int (nI 0), .ref yb, .int (nI bs), .ref yt, .int (nI (ts + k)), .ref yr, .int (nI ((enc ps).length)), .ref yo, .int (nI rs), .ref yn])), (yb, .inl (cI, 600, .inl (iA B))), (yt, .inl (cI, 600, .inl (iA (spl T ts (vbl ((((xs (i + 2)).toInt64) <<< ((nI 32).toInt64 &&& 63)) ||| (((xs (i + 3)).toInt64) &&& 4294967295)) k k))))), (yr, .inl (cI, 2000, .inl (iA (spl r 0 (enc ps))))), (yo, .inl (cI, 600, .inl (iA G))), (yn, .inl (cI, 600, .inl (iA X))), (ja, .inl (cJ, 1, .inr (.inl fj)))] := hD
              refine n_icmp_eq (tgt := 406) hx hb d_La_law_180 (by decide) (by omega) (by omega) (fun c_180 => ?_) (fun c_180 => ?_)
              · refine lv_iinc (v := nI (i + 5)) (lv' := [(4, .int (nI (i + 5))), (0, .ref b), (1, .ref x), (2, .ref y), (3, .ref ja)]) hx hb d_La_law_406 hl (k := 0) rfl (nI_inc5 _) (by decide) rfl (fun ls hl => ?_)
                refine lv_goto (tgt := 23) hx hb d_La_law_409 (by decide) ?_
                refine W.widen (k := 15 + (i + 5)) (n := 9731 + 6 * (i + 5)) (by omega) (by omega) ?_
                exact ih (i + 5) (by omega) (by omega) B (spl T ts (vbl ((((xs (i + 2)).toInt64) <<< ((nI 32).toInt64 &&& 63)) ||| (((xs (i + 3)).toInt64) &&& 4294967295)) k k)) G o r X fh fn fj bs (ts + k) rs ps (nI 0) hB (spl_256 hT (vbl_256 _ _ _)) hG ho hr0 hbs hh hrs hok H locs hP hD hS ls (lv_sub hl [0, 1, 2, 3, 4] rfl)
              · exfalso; omega
          · refine ro_V (As := [.int (nI 1), .long ((((xs (i + 2)).toInt64) <<< ((nI 32).toInt64 &&& 63)) ||| (((xs (i + 3)).toInt64) &&& 4294967295)), .int (xs (i + 4))]) (rest := []) ⟨hx, hb, hml, hown, hw⟩ (c_PW_putTbad l D cB cI cJ x ba ta ra d (nI bs) (nI rs) (nI ps.length) ts hts0 ((((xs (i + 2)).toInt64) <<< ((nI 32).toInt64 &&& 63)) ||| (((xs (i + 3)).toInt64) &&& 4294967295)) (xs (i + 4)) hbad) g_La_21 hd_PW_put rfl ⟨rfl, rfl⟩ ⟨by decide, by decide⟩ hP hK [0] rfl 0 0 rfl rfl rfl hl.1 rfl (Nat.le_of_ble_eq_true rfl) hf d_La_law_131 ?_
            refine lv_aload_n hx hb d_La_law_134 rfl (lv_at hl 3 rfl) ?_
            refine lv_aload_n hx hb d_La_law_135 rfl (lv_at hl 1 rfl) ?_
            refine lv_iload hx hb d_La_law_136 (lv_at hl 0 rfl) ?_
            refine lv_iconst (v := nI 1) hx hb d_La_law_138 (by decide +kernel) ?_
            refine n_iadd hx hb d_La_law_139 ?_
            refine sc_ld hx hb hX hbl hbA hS (by omega) (by omega) d_La_law_140 ?_
            refine lv_if_eq (tgt := 148) hx hb d_La_law_141 (by decide) (fun c_141 => ?_) (fun c_141 => ?_)
            · exact absurd c_141 c_95
            · refine lv_iconst (v := nI 1) hx hb d_La_law_144 (by decide +kernel) ?_
              refine lv_goto (tgt := 149) hx hb d_La_law_145 (by decide) ?_
              refine lv_aload_n hx hb d_La_law_149 rfl (lv_at hl 1 rfl) ?_
              refine lv_iload hx hb d_La_law_150 (lv_at hl 0 rfl) ?_
              refine lv_iconst (v := nI 2) hx hb d_La_law_152 (by decide +kernel) ?_
              refine n_iadd hx hb d_La_law_153 ?_
              refine sc_ld hx hb hX hbl hbA hS (by omega) (by omega) d_La_law_154 ?_
              refine lv_i2l hx hb d_La_law_155 rfl ?_
              refine lv_bipush (v := nI 32) hx hb d_La_law_156 (by decide +kernel) ?_
              refine lv_lshl hx hb d_La_law_158 rfl ?_
              refine lv_aload_n hx hb d_La_law_159 rfl (lv_at hl 1 rfl) ?_
              refine lv_iload hx hb d_La_law_160 (lv_at hl 0 rfl) ?_
              refine lv_iconst (v := nI 3) hx hb d_La_law_162 (by decide +kernel) ?_
              refine n_iadd hx hb d_La_law_163 ?_
              refine sc_ld hx hb hX hbl hbA hS (by omega) (by omega) d_La_law_164 ?_
              refine lv_i2l hx hb d_La_law_165 rfl ?_
              refine lv_ldc2 hx hb hown (hw _ k_317) d_La_law_166 ?_
              refine lv_land hx hb d_La_law_169 ?_
              refine lv_lor hx hb d_La_law_170 ?_
              refine lv_aload_n hx hb d_La_law_171 rfl (lv_at hl 1 rfl) ?_
              refine lv_iload hx hb d_La_law_172 (lv_at hl 0 rfl) ?_
              refine lv_iconst (v := nI 4) hx hb d_La_law_174 (by decide +kernel) ?_
              refine n_iadd hx hb d_La_law_175 ?_
              refine sc_ld hx hb hX hbl hbA hS (by omega) (by omega) d_La_law_176 ?_
              refine ip_V (As := [.int (nI 1), .long ((((xs (i + 2)).toInt64) <<< ((nI 32).toInt64 &&& 63)) ||| (((xs (i + 3)).toInt64) &&& 4294967295)), .int (xs (i + 4))]) (rest := [.int (nI 0)]) ⟨hx, hb, hml, hown, hw⟩ (c_Mo_putTbad l D cB cI cJ y yb yt yr yo yn th (nI bs) (nI (enc ps).length) (nI rs) ts hts0 ((((xs (i + 2)).toInt64) <<< ((nI 32).toInt64 &&& 63)) ||| (((xs (i + 3)).toInt64) &&& 4294967295)) (xs (i + 4)) hbad) g_La_25 hd_Mo_put rfl ⟨rfl, rfl⟩ ⟨by decide, by decide⟩ hP hK hD hS [8] (by decide) rfl [y] rfl (fun _ => rfl) 8 2 rfl rfl rfl hl.1 rfl (Nat.le_of_ble_eq_true rfl) hf d_La_law_177 (fun u_177 H locs hu_177 hP hD hS => ?_)
              refine W.eq (g2 := F0 m 180 ls [.int (nI 0), .int (nI 0)]) rfl ?_
              have hP : va_P D classes [(x, .inr (0, [.ref ba, .ref ta, .ref ra, .int (nI bs), .int (nI ts), .int (nI rs), .int (nI ps.length), .ref d])), (ba, .inl (cB, 600, .inl (bA B))), (ta, .inl (cB, 600, .inl (bA T))), (ra, .inl (cB, 600, .inl (bA G))), (d, .inr (1, [.ref ah, .ref an, .ref ao, .int (nI ((enc ps).length))])), (ah, .inl (cI, 256, .inl fh)), (an, .inl (cI, 188, .inl fn)), (ao, .inl (cB, 3064, .inl (bA (spl o 0 (enc ps))))), (y, .inr (2, [.int (nI 0), .ref yb, .int (nI bs), .ref yt, .int (nI ts), .ref yr, .int (nI ((enc ps).length)), .ref yo, .int (nI rs), .ref yn])), (yb, .inl (cI, 600, .inl (iA B))), (yt, .inl (cI, 600, .inl (iA T))), (yr, .inl (cI, 2000, .inl (iA (spl r 0 (enc ps))))), (yo, .inl (cI, 600, .inl (iA G))), (yn, .inl (cI, 600, .inl (iA X))), (ja, .inl (cJ, 1, .inr (.inl fj)))] H := hP
              have hD : va_D A [(x, .inr (0, [.ref ba, .ref ta, .ref ra, .int (nI bs), .int (nI ts), .int (nI rs), .int (nI ps.length), .ref d])), (ba, .inl (cB, 600, .inl (bA B))), (ta, .inl (cB, 600, .inl (bA T))), (ra, .inl (cB, 600, .inl (bA G))), (d, .inr (1, [.ref ah, .ref an, .ref ao, .int (nI ((enc ps).length))])), (ah, .inl (cI, 256, .inl fh)), (an, .inl (cI, 188, .inl fn)), (ao, .inl (cB, 3064, .inl (bA (spl o 0 (enc ps))))), (y, .inr (2, [.int (nI 0), .ref yb, .int (nI bs), .ref yt, .int (nI ts), .ref yr, .int (nI ((enc ps).length)), .ref yo, .int (nI rs), .ref yn])), (yb, .inl (cI, 600, .inl (iA B))), (yt, .inl (cI, 600, .inl (iA T))), (yr, .inl (cI, 2000, .inl (iA (spl r 0 (enc ps))))), (yo, .inl (cI, 600, .inl (iA G))), (yn, .inl (cI, 600, .inl (iA X))), (ja, .inl (cJ, 1, .inr (.inl fj)))] := hD
              refine n_icmp_eq (tgt := 406) hx hb d_La_law_180 (by decide) (by omega) (by omega) (fun c_180 => ?_) (fun c_180 => ?_)
              · refine lv_iinc (v := nI (i + 5)) (lv' := [(4, .int (nI (i + 5))), (0, .ref b), (1, .ref x), (2, .ref y), (3, .ref ja)]) hx hb d_La_law_406 hl (k := 0) rfl (nI_inc5 _) (by decide) rfl (fun ls hl => ?_)
                refine lv_goto (tgt := 23) hx hb d_La_law_409 (by decide) ?_
                refine W.widen (k := 15 + (i + 5)) (n := 9731 + 6 * (i + 5)) (by omega) (by omega) ?_
                exact ih (i + 5) (by omega) (by omega) B T G o r X fh fn fj bs ts rs ps (nI 0) hB hT hG ho hr0 hbs hts0 hrs hok H locs hP hD hS ls (lv_sub hl [0, 1, 2, 3, 4] rfl)
              · exfalso; omega
      · refine lv_tableIn (off := 146) (tgt := 185) hx hb d_La_law_39 (by decide +kernel) (by decide +kernel) (by decide +kernel) (by decide) ?_
        refine lv_aload_n hx hb d_La_law_185 rfl (lv_at hl 2 rfl) ?_
        refine lv_aload_n hx hb d_La_law_186 rfl (lv_at hl 1 rfl) ?_
        refine lv_iload hx hb d_La_law_187 (lv_at hl 0 rfl) ?_
        refine lv_iconst (v := nI 1) hx hb d_La_law_189 (by decide +kernel) ?_
        refine n_iadd hx hb d_La_law_190 ?_
        refine sc_ld hx hb hX hbl hbA hS (by omega) (by omega) d_La_law_191 ?_
        refine lv_if_eq (tgt := 199) hx hb d_La_law_192 (by decide) (fun c_192 => ?_) (fun c_192 => ?_)
        · refine lv_iconst (v := nI 0) hx hb d_La_law_199 (by decide +kernel) ?_
          refine ip_V (As := [.int (nI 0)]) (rest := []) ⟨hx, hb, hml, hown, hw⟩ (c_PW_clearB l D cB cI cJ x ba ta ra d (nI bs) (nI ts) (nI rs) (nI ps.length)) g_La_26 hd_PW_clear rfl ⟨rfl, rfl⟩ ⟨by decide, by decide⟩ hP hK hD hS [0] (by decide) rfl [x] rfl (fun _ => rfl) 0 0 rfl rfl rfl hl.1 rfl (Nat.le_of_ble_eq_true rfl) hf d_La_law_200 (fun u_200 H locs hu_200 hP hD hS => ?_)
          refine W.eq (g2 := F0 m 203 ls []) rfl ?_
          have hP : va_P D classes [(x, .inr (0, [.ref ba, .ref ta, .ref ra, .int (nI 0), .int (nI ts), .int (nI rs), .int (nI ps.length), .ref d])), (ba, .inl (cB, 600, .inl (bA B))), (ta, .inl (cB, 600, .inl (bA T))), (ra, .inl (cB, 600, .inl (bA G))), (d, .inr (1, [.ref ah, .ref an, .ref ao, .int (nI ((enc ps).length))])), (ah, .inl (cI, 256, .inl fh)), (an, .inl (cI, 188, .inl fn)), (ao, .inl (cB, 3064, .inl (bA (spl o 0 (enc ps))))), (y, .inr (2, [.int th, .ref yb, .int (nI bs), .ref yt, .int (nI ts), .ref yr, .int (nI ((enc ps).length)), .ref yo, .int (nI rs), .ref yn])), (yb, .inl (cI, 600, .inl (iA B))), (yt, .inl (cI, 600, .inl (iA T))), (yr, .inl (cI, 2000, .inl (iA (spl r 0 (enc ps))))), (yo, .inl (cI, 600, .inl (iA G))), (yn, .inl (cI, 600, .inl (iA X))), (ja, .inl (cJ, 1, .inr (.inl fj)))] H := hP
          have hD : va_D A [(x, .inr (0, [.ref ba, .ref ta, .ref ra, .int (nI 0), .int (nI ts), .int (nI rs), .int (nI ps.length), .ref d])), (ba, .inl (cB, 600, .inl (bA B))), (ta, .inl (cB, 600, .inl (bA T))), (ra, .inl (cB, 600, .inl (bA G))), (d, .inr (1, [.ref ah, .ref an, .ref ao, .int (nI ((enc ps).length))])), (ah, .inl (cI, 256, .inl fh)), (an, .inl (cI, 188, .inl fn)), (ao, .inl (cB, 3064, .inl (bA (spl o 0 (enc ps))))), (y, .inr (2, [.int th, .ref yb, .int (nI bs), .ref yt, .int (nI ts), .ref yr, .int (nI ((enc ps).length)), .ref yo, .int (nI rs), .ref yn])), (yb, .inl (cI, 600, .inl (iA B))), (yt, .inl (cI, 600, .inl (iA T))), (yr, .inl (cI, 2000, .inl (iA (spl r 0 (enc ps))))), (yo, .inl (cI, 600, .inl (iA G))), (yn, .inl (cI, 600, .inl (iA X))), (ja, .inl (cJ, 1, .inr (.inl fj)))] := hD
          refine lv_aload_n hx hb d_La_law_203 rfl (lv_at hl 3 rfl) ?_
          refine lv_aload_n hx hb d_La_law_204 rfl (lv_at hl 1 rfl) ?_
          refine lv_iload hx hb d_La_law_205 (lv_at hl 0 rfl) ?_
          refine lv_iconst (v := nI 1) hx hb d_La_law_207 (by decide +kernel) ?_
          refine n_iadd hx hb d_La_law_208 ?_
          refine sc_ld hx hb hX hbl hbA hS (by omega) (by omega) d_La_law_209 ?_
          refine lv_if_eq (tgt := 217) hx hb d_La_law_210 (by decide) (fun c_210 => ?_) (fun c_210 => ?_)
          · refine lv_iconst (v := nI 0) hx hb d_La_law_217 (by decide +kernel) ?_
            refine ip_V (As := [.int (nI 0)]) (rest := []) ⟨hx, hb, hml, hown, hw⟩ (c_Mo_clearB l D cB cI cJ y yb yt yr yo yn th (nI bs) (nI ts) (nI (enc ps).length) (nI rs)) g_La_30 hd_Mo_clear rfl ⟨rfl, rfl⟩ ⟨by decide, by decide⟩ hP hK hD hS [8] (by decide) rfl [y] rfl (fun _ => rfl) 8 2 rfl rfl rfl hl.1 rfl (Nat.le_of_ble_eq_true rfl) hf d_La_law_218 (fun u_218 H locs hu_218 hP hD hS => ?_)
            refine W.eq (g2 := F0 m 221 ls []) rfl ?_
            have hP : va_P D classes [(x, .inr (0, [.ref ba, .ref ta, .ref ra, .int (nI 0), .int (nI ts), .int (nI rs), .int (nI ps.length), .ref d])), (ba, .inl (cB, 600, .inl (bA B))), (ta, .inl (cB, 600, .inl (bA T))), (ra, .inl (cB, 600, .inl (bA G))), (d, .inr (1, [.ref ah, .ref an, .ref ao, .int (nI ((enc ps).length))])), (ah, .inl (cI, 256, .inl fh)), (an, .inl (cI, 188, .inl fn)), (ao, .inl (cB, 3064, .inl (bA (spl o 0 (enc ps))))), (y, .inr (2, [.int (nI 0), .ref yb, .int (nI 0), .ref yt, .int (nI ts), .ref yr, .int (nI ((enc ps).length)), .ref yo, .int (nI rs), .ref yn])), (yb, .inl (cI, 600, .inl (iA B))), (yt, .inl (cI, 600, .inl (iA T))), (yr, .inl (cI, 2000, .inl (iA (spl r 0 (enc ps))))), (yo, .inl (cI, 600, .inl (iA G))), (yn, .inl (cI, 600, .inl (iA X))), (ja, .inl (cJ, 1, .inr (.inl fj)))] H := hP
            have hD : va_D A [(x, .inr (0, [.ref ba, .ref ta, .ref ra, .int (nI 0), .int (nI ts), .int (nI rs), .int (nI ps.length), .ref d])), (ba, .inl (cB, 600, .inl (bA B))), (ta, .inl (cB, 600, .inl (bA T))), (ra, .inl (cB, 600, .inl (bA G))), (d, .inr (1, [.ref ah, .ref an, .ref ao, .int (nI ((enc ps).length))])), (ah, .inl (cI, 256, .inl fh)), (an, .inl (cI, 188, .inl fn)), (ao, .inl (cB, 3064, .inl (bA (spl o 0 (enc ps))))), (y, .inr (2, [.int (nI 0), .ref yb, .int (nI 0), .ref yt, .int (nI ts), .ref yr, .int (nI ((enc ps).length)), .ref yo, .int (nI rs), .ref yn])), (yb, .inl (cI, 600, .inl (iA B))), (yt, .inl (cI, 600, .inl (iA T))), (yr, .inl (cI, 2000, .inl (iA (spl r 0 (enc ps))))), (yo, .inl (cI, 600, .inl (iA G))), (yn, .inl (cI, 600, .inl (iA X))), (ja, .inl (cJ, 1, .inr (.inl fj)))] := hD
            refine lv_goto (tgt := 406) hx hb d_La_law_221 (by decide) ?_
            refine lv_iinc (v := nI (i + 5)) (lv' := [(4, .int (nI (i + 5))), (0, .ref b), (1, .ref x), (2, .ref y), (3, .ref ja)]) hx hb d_La_law_406 hl (k := 0) rfl (nI_inc5 _) (by decide) rfl (fun ls hl => ?_)
            refine lv_goto (tgt := 23) hx hb d_La_law_409 (by decide) ?_
            refine W.widen (k := 15 + (i + 5)) (n := 9731 + 6 * (i + 5)) (by omega) (by omega) ?_
            exact ih (i + 5) (by omega) (by omega) B T G o r X fh fn fj 0 ts rs ps (nI 0) hB hT hG ho hr0 (Nat.zero_le _) hts0 hrs hok H locs hP hD hS ls (lv_sub hl [0, 1, 2, 3, 4] rfl)
          · exact absurd c_192 c_210
        · refine lv_iconst (v := nI 1) hx hb d_La_law_195 (by decide +kernel) ?_
          refine lv_goto (tgt := 200) hx hb d_La_law_196 (by decide) ?_
          refine ip_V (As := [.int (nI 1)]) (rest := []) ⟨hx, hb, hml, hown, hw⟩ (c_PW_clearT l D cB cI cJ x ba ta ra d (nI bs) (nI ts) (nI rs) (nI ps.length)) g_La_26 hd_PW_clear rfl ⟨rfl, rfl⟩ ⟨by decide, by decide⟩ hP hK hD hS [0] (by decide) rfl [x] rfl (fun _ => rfl) 0 0 rfl rfl rfl hl.1 rfl (Nat.le_of_ble_eq_true rfl) hf d_La_law_200 (fun u_200 H locs hu_200 hP hD hS => ?_)
          refine W.eq (g2 := F0 m 203 ls []) rfl ?_
          have hP : va_P D classes [(x, .inr (0, [.ref ba, .ref ta, .ref ra, .int (nI bs), .int (nI 0), .int (nI rs), .int (nI ps.length), .ref d])), (ba, .inl (cB, 600, .inl (bA B))), (ta, .inl (cB, 600, .inl (bA T))), (ra, .inl (cB, 600, .inl (bA G))), (d, .inr (1, [.ref ah, .ref an, .ref ao, .int (nI ((enc ps).length))])), (ah, .inl (cI, 256, .inl fh)), (an, .inl (cI, 188, .inl fn)), (ao, .inl (cB, 3064, .inl (bA (spl o 0 (enc ps))))), (y, .inr (2, [.int th, .ref yb, .int (nI bs), .ref yt, .int (nI ts), .ref yr, .int (nI ((enc ps).length)), .ref yo, .int (nI rs), .ref yn])), (yb, .inl (cI, 600, .inl (iA B))), (yt, .inl (cI, 600, .inl (iA T))), (yr, .inl (cI, 2000, .inl (iA (spl r 0 (enc ps))))), (yo, .inl (cI, 600, .inl (iA G))), (yn, .inl (cI, 600, .inl (iA X))), (ja, .inl (cJ, 1, .inr (.inl fj)))] H := hP
          have hD : va_D A [(x, .inr (0, [.ref ba, .ref ta, .ref ra, .int (nI bs), .int (nI 0), .int (nI rs), .int (nI ps.length), .ref d])), (ba, .inl (cB, 600, .inl (bA B))), (ta, .inl (cB, 600, .inl (bA T))), (ra, .inl (cB, 600, .inl (bA G))), (d, .inr (1, [.ref ah, .ref an, .ref ao, .int (nI ((enc ps).length))])), (ah, .inl (cI, 256, .inl fh)), (an, .inl (cI, 188, .inl fn)), (ao, .inl (cB, 3064, .inl (bA (spl o 0 (enc ps))))), (y, .inr (2, [.int th, .ref yb, .int (nI bs), .ref yt, .int (nI ts), .ref yr, .int (nI ((enc ps).length)), .ref yo, .int (nI rs), .ref yn])), (yb, .inl (cI, 600, .inl (iA B))), (yt, .inl (cI, 600, .inl (iA T))), (yr, .inl (cI, 2000, .inl (iA (spl r 0 (enc ps))))), (yo, .inl (cI, 600, .inl (iA G))), (yn, .inl (cI, 600, .inl (iA X))), (ja, .inl (cJ, 1, .inr (.inl fj)))] := hD
          refine lv_aload_n hx hb d_La_law_203 rfl (lv_at hl 3 rfl) ?_
          refine lv_aload_n hx hb d_La_law_204 rfl (lv_at hl 1 rfl) ?_
          refine lv_iload hx hb d_La_law_205 (lv_at hl 0 rfl) ?_
          refine lv_iconst (v := nI 1) hx hb d_La_law_207 (by decide +kernel) ?_
          refine n_iadd hx hb d_La_law_208 ?_
          refine sc_ld hx hb hX hbl hbA hS (by omega) (by omega) d_La_law_209 ?_
          refine lv_if_eq (tgt := 217) hx hb d_La_law_210 (by decide) (fun c_210 => ?_) (fun c_210 => ?_)
          · exact absurd c_210 c_192
          · refine lv_iconst (v := nI 1) hx hb d_La_law_213 (by decide +kernel) ?_
            refine lv_goto (tgt := 218) hx hb d_La_law_214 (by decide) ?_
            refine ip_V (As := [.int (nI 1)]) (rest := []) ⟨hx, hb, hml, hown, hw⟩ (c_Mo_clearT l D cB cI cJ y yb yt yr yo yn th (nI bs) (nI ts) (nI (enc ps).length) (nI rs)) g_La_30 hd_Mo_clear rfl ⟨rfl, rfl⟩ ⟨by decide, by decide⟩ hP hK hD hS [8] (by decide) rfl [y] rfl (fun _ => rfl) 8 2 rfl rfl rfl hl.1 rfl (Nat.le_of_ble_eq_true rfl) hf d_La_law_218 (fun u_218 H locs hu_218 hP hD hS => ?_)
            refine W.eq (g2 := F0 m 221 ls []) rfl ?_
            have hP : va_P D classes [(x, .inr (0, [.ref ba, .ref ta, .ref ra, .int (nI bs), .int (nI 0), .int (nI rs), .int (nI ps.length), .ref d])), (ba, .inl (cB, 600, .inl (bA B))), (ta, .inl (cB, 600, .inl (bA T))), (ra, .inl (cB, 600, .inl (bA G))), (d, .inr (1, [.ref ah, .ref an, .ref ao, .int (nI ((enc ps).length))])), (ah, .inl (cI, 256, .inl fh)), (an, .inl (cI, 188, .inl fn)), (ao, .inl (cB, 3064, .inl (bA (spl o 0 (enc ps))))), (y, .inr (2, [.int (nI 0), .ref yb, .int (nI bs), .ref yt, .int (nI 0), .ref yr, .int (nI ((enc ps).length)), .ref yo, .int (nI rs), .ref yn])), (yb, .inl (cI, 600, .inl (iA B))), (yt, .inl (cI, 600, .inl (iA T))), (yr, .inl (cI, 2000, .inl (iA (spl r 0 (enc ps))))), (yo, .inl (cI, 600, .inl (iA G))), (yn, .inl (cI, 600, .inl (iA X))), (ja, .inl (cJ, 1, .inr (.inl fj)))] H := hP
            have hD : va_D A [(x, .inr (0, [.ref ba, .ref ta, .ref ra, .int (nI bs), .int (nI 0), .int (nI rs), .int (nI ps.length), .ref d])), (ba, .inl (cB, 600, .inl (bA B))), (ta, .inl (cB, 600, .inl (bA T))), (ra, .inl (cB, 600, .inl (bA G))), (d, .inr (1, [.ref ah, .ref an, .ref ao, .int (nI ((enc ps).length))])), (ah, .inl (cI, 256, .inl fh)), (an, .inl (cI, 188, .inl fn)), (ao, .inl (cB, 3064, .inl (bA (spl o 0 (enc ps))))), (y, .inr (2, [.int (nI 0), .ref yb, .int (nI bs), .ref yt, .int (nI 0), .ref yr, .int (nI ((enc ps).length)), .ref yo, .int (nI rs), .ref yn])), (yb, .inl (cI, 600, .inl (iA B))), (yt, .inl (cI, 600, .inl (iA T))), (yr, .inl (cI, 2000, .inl (iA (spl r 0 (enc ps))))), (yo, .inl (cI, 600, .inl (iA G))), (yn, .inl (cI, 600, .inl (iA X))), (ja, .inl (cJ, 1, .inr (.inl fj)))] := hD
            refine lv_goto (tgt := 406) hx hb d_La_law_221 (by decide) ?_
            refine lv_iinc (v := nI (i + 5)) (lv' := [(4, .int (nI (i + 5))), (0, .ref b), (1, .ref x), (2, .ref y), (3, .ref ja)]) hx hb d_La_law_406 hl (k := 0) rfl (nI_inc5 _) (by decide) rfl (fun ls hl => ?_)
            refine lv_goto (tgt := 23) hx hb d_La_law_409 (by decide) ?_
            refine W.widen (k := 15 + (i + 5)) (n := 9731 + 6 * (i + 5)) (by omega) (by omega) ?_
            exact ih (i + 5) (by omega) (by omega) B T G o r X fh fn fj bs 0 rs ps (nI 0) hB hT hG ho hr0 hbs (Nat.zero_le _) hrs hok H locs hP hD hS ls (lv_sub hl [0, 1, 2, 3, 4] rfl)
      · refine lv_tableIn (off := 185) (tgt := 224) hx hb d_La_law_39 (by decide +kernel) (by decide +kernel) (by decide +kernel) (by decide) ?_
        refine lv_aload_n hx hb d_La_law_224 rfl (lv_at hl 2 rfl) ?_
        refine ip_V (As := []) (rest := []) ⟨hx, hb, hml, hown, hw⟩ (c_PW_make l D cB cI cJ x ba ta ra d ah an ao (nI rs) (nI ps.length) (nI (enc ps).length) fh fn (spl o 0 (enc ps)) B T ho2 hB hT bs ts hbs hts0) g_La_31 hd_PW_make rfl ⟨rfl, rfl⟩ ⟨by decide, by decide⟩ hP hK hD hS [0, 1, 2, 4, 5, 6, 7] (by decide) rfl [x, ba, ta, d, ah, an, ao] rfl (fun _ => rfl) 0 0 rfl rfl rfl hl.1 rfl (Nat.le_of_ble_eq_true rfl) hf d_La_law_225 (fun u_225 H locs hu_225 hP hD hS => ?_)
        refine W.eq (g2 := F0 m 228 ls [.int (nI ((way B bs T ts).length))]) rfl ?_
        have hP : va_P D classes [(x, .inr (0, [.ref ba, .ref ta, .ref ra, .int (nI bs), .int (nI ts), .int (nI rs), .int (nI ((way B bs T ts).length)), .ref d])), (ba, .inl (cB, 600, .inl (bA B))), (ta, .inl (cB, 600, .inl (bA T))), (ra, .inl (cB, 600, .inl (bA G))), (d, .inr (1, [.ref ah, .ref an, .ref ao, .int (nI ((enc (way B bs T ts)).length))])), (ah, .inl (cI, 256, .inl u_225.1)), (an, .inl (cI, 188, .inl u_225.2)), (ao, .inl (cB, 3064, .inl (bA (spl (spl o 0 (enc ps)) 0 (enc (way B bs T ts)))))), (y, .inr (2, [.int th, .ref yb, .int (nI bs), .ref yt, .int (nI ts), .ref yr, .int (nI ((enc ps).length)), .ref yo, .int (nI rs), .ref yn])), (yb, .inl (cI, 600, .inl (iA B))), (yt, .inl (cI, 600, .inl (iA T))), (yr, .inl (cI, 2000, .inl (iA (spl r 0 (enc ps))))), (yo, .inl (cI, 600, .inl (iA G))), (yn, .inl (cI, 600, .inl (iA X))), (ja, .inl (cJ, 1, .inr (.inl fj)))] H := hP
        have hD : va_D A [(x, .inr (0, [.ref ba, .ref ta, .ref ra, .int (nI bs), .int (nI ts), .int (nI rs), .int (nI ((way B bs T ts).length)), .ref d])), (ba, .inl (cB, 600, .inl (bA B))), (ta, .inl (cB, 600, .inl (bA T))), (ra, .inl (cB, 600, .inl (bA G))), (d, .inr (1, [.ref ah, .ref an, .ref ao, .int (nI ((enc (way B bs T ts)).length))])), (ah, .inl (cI, 256, .inl u_225.1)), (an, .inl (cI, 188, .inl u_225.2)), (ao, .inl (cB, 3064, .inl (bA (spl (spl o 0 (enc ps)) 0 (enc (way B bs T ts)))))), (y, .inr (2, [.int th, .ref yb, .int (nI bs), .ref yt, .int (nI ts), .ref yr, .int (nI ((enc ps).length)), .ref yo, .int (nI rs), .ref yn])), (yb, .inl (cI, 600, .inl (iA B))), (yt, .inl (cI, 600, .inl (iA T))), (yr, .inl (cI, 2000, .inl (iA (spl r 0 (enc ps))))), (yo, .inl (cI, 600, .inl (iA G))), (yn, .inl (cI, 600, .inl (iA X))), (ja, .inl (cJ, 1, .inr (.inl fj)))] := hD
        refine lv_aload_n hx hb d_La_law_228 rfl (lv_at hl 3 rfl) ?_
        refine ip_V (As := []) (rest := [.int (nI ((way B bs T ts).length))]) ⟨hx, hb, hml, hown, hw⟩ (c_Mo_make l D cB cI cJ y yb yt yr yo yn th (nI (enc ps).length) (nI rs) (spl r 0 (enc ps)) B T hB hT bs ts hbs hts0) g_La_34 hd_Mo_make rfl ⟨rfl, rfl⟩ ⟨by decide, by decide⟩ hP hK hD hS [8, 9, 10, 11] (by decide) rfl [y, yb, yt, yr] rfl (fun _ => rfl) 8 2 rfl rfl rfl hl.1 rfl (Nat.le_of_ble_eq_true rfl) hf d_La_law_229 (fun u_229 H locs hu_229 hP hD hS => ?_)
        refine W.eq (g2 := F0 m 232 ls [.int (nI ((way B bs T ts).length)), .int (nI ((way B bs T ts).length))]) rfl ?_
        have hP : va_P D classes [(x, .inr (0, [.ref ba, .ref ta, .ref ra, .int (nI bs), .int (nI ts), .int (nI rs), .int (nI ((way B bs T ts).length)), .ref d])), (ba, .inl (cB, 600, .inl (bA B))), (ta, .inl (cB, 600, .inl (bA T))), (ra, .inl (cB, 600, .inl (bA G))), (d, .inr (1, [.ref ah, .ref an, .ref ao, .int (nI ((enc (way B bs T ts)).length))])), (ah, .inl (cI, 256, .inl u_225.1)), (an, .inl (cI, 188, .inl u_225.2)), (ao, .inl (cB, 3064, .inl (bA (spl (spl o 0 (enc ps)) 0 (enc (way B bs T ts)))))), (y, .inr (2, [.int (nI 0), .ref yb, .int (nI bs), .ref yt, .int (nI ts), .ref yr, .int (nI ((enc (way B bs T ts)).length)), .ref yo, .int (nI rs), .ref yn])), (yb, .inl (cI, 600, .inl (iA B))), (yt, .inl (cI, 600, .inl (iA T))), (yr, .inl (cI, 2000, .inl (iA (spl (spl r 0 (enc ps)) 0 (enc (way B bs T ts)))))), (yo, .inl (cI, 600, .inl (iA G))), (yn, .inl (cI, 600, .inl (iA X))), (ja, .inl (cJ, 1, .inr (.inl fj)))] H := hP
        have hD : va_D A [(x, .inr (0, [.ref ba, .ref ta, .ref ra, .int (nI bs), .int (nI ts), .int (nI rs), .int (nI ((way B bs T ts).length)), .ref d])), (ba, .inl (cB, 600, .inl (bA B))), (ta, .inl (cB, 600, .inl (bA T))), (ra, .inl (cB, 600, .inl (bA G))), (d, .inr (1, [.ref ah, .ref an, .ref ao, .int (nI ((enc (way B bs T ts)).length))])), (ah, .inl (cI, 256, .inl u_225.1)), (an, .inl (cI, 188, .inl u_225.2)), (ao, .inl (cB, 3064, .inl (bA (spl (spl o 0 (enc ps)) 0 (enc (way B bs T ts)))))), (y, .inr (2, [.int (nI 0), .ref yb, .int (nI bs), .ref yt, .int (nI ts), .ref yr, .int (nI ((enc (way B bs T ts)).length)), .ref yo, .int (nI rs), .ref yn])), (yb, .inl (cI, 600, .inl (iA B))), (yt, .inl (cI, 600, .inl (iA T))), (yr, .inl (cI, 2000, .inl (iA (spl (spl r 0 (enc ps)) 0 (enc (way B bs T ts)))))), (yo, .inl (cI, 600, .inl (iA G))), (yn, .inl (cI, 600, .inl (iA X))), (ja, .inl (cJ, 1, .inr (.inl fj)))] := hD
        have hwl := okW_len (way_ok (B := B) hbs hts0 hT)
        refine n_icmp_eq (tgt := 406) hx hb d_La_law_232 (by decide) (by omega) (by omega) (fun c_232 => ?_) (fun c_232 => ?_)
        · refine lv_iinc (v := nI (i + 5)) (lv' := [(4, .int (nI (i + 5))), (0, .ref b), (1, .ref x), (2, .ref y), (3, .ref ja)]) hx hb d_La_law_406 hl (k := 0) rfl (nI_inc5 _) (by decide) rfl (fun ls hl => ?_)
          refine lv_goto (tgt := 23) hx hb d_La_law_409 (by decide) ?_
          refine W.widen (k := 15 + (i + 5)) (n := 9731 + 6 * (i + 5)) (by omega) (by omega) ?_
          exact ih (i + 5) (by omega) (by omega) B T G (spl o 0 (enc ps)) (spl r 0 (enc ps)) X u_225.1 u_225.2 fj bs ts rs (way B bs T ts) (nI 0) hB hT hG ho2 hr2 hbs hts0 hrs (way_ok hbs hts0 hT) H locs hP hD hS ls (lv_sub hl [0, 1, 2, 3, 4] rfl)
        · exfalso; omega
      · refine lv_tableIn (off := 198) (tgt := 237) hx hb d_La_law_39 (by decide +kernel) (by decide +kernel) (by decide +kernel) (by decide) ?_
        refine lv_aload_n hx hb d_La_law_237 rfl (lv_at hl 2 rfl) ?_
        refine lv_aload_n hx hb d_La_law_238 rfl (lv_at hl 1 rfl) ?_
        refine lv_iload hx hb d_La_law_239 (lv_at hl 0 rfl) ?_
        refine lv_iconst (v := nI 1) hx hb d_La_law_241 (by decide +kernel) ?_
        refine n_iadd hx hb d_La_law_242 ?_
        refine sc_ld hx hb hX hbl hbA hS (by omega) (by omega) d_La_law_243 ?_
        refine lv_aload_n hx hb d_La_law_244 rfl (lv_at hl 1 rfl) ?_
        refine lv_iload hx hb d_La_law_245 (lv_at hl 0 rfl) ?_
        refine lv_iconst (v := nI 2) hx hb d_La_law_247 (by decide +kernel) ?_
        refine n_iadd hx hb d_La_law_248 ?_
        refine sc_ld hx hb hX hbl hbA hS (by omega) (by omega) d_La_law_249 ?_
        refine ro_V (As := [.int (xs (i + 1)), .int (xs (i + 2))]) (rest := []) ⟨hx, hb, hml, hown, hw⟩ (c_PW_piece l D cB cI cJ x ba ta ra d ah an ao (nI bs) (nI ts) (nI rs) (nI (enc ps).length) (spl o 0 (enc ps)) ho2 ps hok hRo (xs (i + 1)) (xs (i + 2))) g_La_35 hd_PW_piece rfl ⟨rfl, rfl⟩ ⟨by decide, by decide⟩ hP hK [0, 4, 7] rfl 0 0 rfl rfl rfl hl.1 rfl (Nat.le_of_ble_eq_true rfl) hf d_La_law_250 ?_
        refine lv_aload_n hx hb d_La_law_253 rfl (lv_at hl 3 rfl) ?_
        refine lv_aload_n hx hb d_La_law_254 rfl (lv_at hl 1 rfl) ?_
        refine lv_iload hx hb d_La_law_255 (lv_at hl 0 rfl) ?_
        refine lv_iconst (v := nI 1) hx hb d_La_law_257 (by decide +kernel) ?_
        refine n_iadd hx hb d_La_law_258 ?_
        refine sc_ld hx hb hX hbl hbA hS (by omega) (by omega) d_La_law_259 ?_
        refine lv_aload_n hx hb d_La_law_260 rfl (lv_at hl 1 rfl) ?_
        refine lv_iload hx hb d_La_law_261 (lv_at hl 0 rfl) ?_
        refine lv_iconst (v := nI 2) hx hb d_La_law_263 (by decide +kernel) ?_
        refine n_iadd hx hb d_La_law_264 ?_
        refine sc_ld hx hb hX hbl hbA hS (by omega) (by omega) d_La_law_265 ?_
        refine ip_V (As := [.int (xs (i + 1)), .int (xs (i + 2))]) (rest := [.int (pcV ps (xs (i + 1)) (xs (i + 2)))]) ⟨hx, hb, hml, hown, hw⟩ (c_Mo_piece l D cB cI cJ y yb yt yr yo yn th (nI bs) (nI ts) (nI rs) (spl r 0 (enc ps)) hr2 ps hok hRr (xs (i + 1)) (xs (i + 2))) g_La_39 hd_Mo_piece rfl ⟨rfl, rfl⟩ ⟨by decide, by decide⟩ hP hK hD hS [8, 11] (by decide) rfl [y, yr] rfl (fun _ => rfl) 8 2 rfl rfl rfl hl.1 rfl (Nat.le_of_ble_eq_true rfl) hf d_La_law_266 (fun u_266 H locs hu_266 hP hD hS => ?_)
        refine W.eq (g2 := F0 m 269 ls [.int (pcV ps (xs (i + 1)) (xs (i + 2))), .int (pcV ps (xs (i + 1)) (xs (i + 2)))]) rfl ?_
        have hP : va_P D classes [(x, .inr (0, [.ref ba, .ref ta, .ref ra, .int (nI bs), .int (nI ts), .int (nI rs), .int (nI ps.length), .ref d])), (ba, .inl (cB, 600, .inl (bA B))), (ta, .inl (cB, 600, .inl (bA T))), (ra, .inl (cB, 600, .inl (bA G))), (d, .inr (1, [.ref ah, .ref an, .ref ao, .int (nI ((enc ps).length))])), (ah, .inl (cI, 256, .inl fh)), (an, .inl (cI, 188, .inl fn)), (ao, .inl (cB, 3064, .inl (bA (spl o 0 (enc ps))))), (y, .inr (2, [.int (nI 0), .ref yb, .int (nI bs), .ref yt, .int (nI ts), .ref yr, .int (nI ((enc ps).length)), .ref yo, .int (nI rs), .ref yn])), (yb, .inl (cI, 600, .inl (iA B))), (yt, .inl (cI, 600, .inl (iA T))), (yr, .inl (cI, 2000, .inl (iA (spl r 0 (enc ps))))), (yo, .inl (cI, 600, .inl (iA G))), (yn, .inl (cI, 600, .inl (iA X))), (ja, .inl (cJ, 1, .inr (.inl fj)))] H := hP
        have hD : va_D A [(x, .inr (0, [.ref ba, .ref ta, .ref ra, .int (nI bs), .int (nI ts), .int (nI rs), .int (nI ps.length), .ref d])), (ba, .inl (cB, 600, .inl (bA B))), (ta, .inl (cB, 600, .inl (bA T))), (ra, .inl (cB, 600, .inl (bA G))), (d, .inr (1, [.ref ah, .ref an, .ref ao, .int (nI ((enc ps).length))])), (ah, .inl (cI, 256, .inl fh)), (an, .inl (cI, 188, .inl fn)), (ao, .inl (cB, 3064, .inl (bA (spl o 0 (enc ps))))), (y, .inr (2, [.int (nI 0), .ref yb, .int (nI bs), .ref yt, .int (nI ts), .ref yr, .int (nI ((enc ps).length)), .ref yo, .int (nI rs), .ref yn])), (yb, .inl (cI, 600, .inl (iA B))), (yt, .inl (cI, 600, .inl (iA T))), (yr, .inl (cI, 2000, .inl (iA (spl r 0 (enc ps))))), (yo, .inl (cI, 600, .inl (iA G))), (yn, .inl (cI, 600, .inl (iA X))), (ja, .inl (cJ, 1, .inr (.inl fj)))] := hD
        refine lv_icmp_eq (tgt := 406) hx hb d_La_law_269 (by decide) (fun c_269 => ?_) (fun c_269 => ?_)
        · refine lv_iinc (v := nI (i + 5)) (lv' := [(4, .int (nI (i + 5))), (0, .ref b), (1, .ref x), (2, .ref y), (3, .ref ja)]) hx hb d_La_law_406 hl (k := 0) rfl (nI_inc5 _) (by decide) rfl (fun ls hl => ?_)
          refine lv_goto (tgt := 23) hx hb d_La_law_409 (by decide) ?_
          refine W.widen (k := 15 + (i + 5)) (n := 9731 + 6 * (i + 5)) (by omega) (by omega) ?_
          exact ih (i + 5) (by omega) (by omega) B T G o r X fh fn fj bs ts rs ps (nI 0) hB hT hG ho hr0 hbs hts0 hrs hok H locs hP hD hS ls (lv_sub hl [0, 1, 2, 3, 4] rfl)
        · exact absurd rfl c_269
      · refine lv_tableIn (off := 235) (tgt := 274) hx hb d_La_law_39 (by decide +kernel) (by decide +kernel) (by decide +kernel) (by decide) ?_
        refine lv_aload_n hx hb d_La_law_274 rfl (lv_at hl 2 rfl) ?_
        refine ro_V (As := []) (rest := []) ⟨hx, hb, hml, hown, hw⟩ (c_PW_size l D cB cI cJ x ba ta ra d ah an ao (nI bs) (nI ts) (nI rs) (nI ps.length) (nI (enc ps).length)) g_La_40 hd_PW_size rfl ⟨rfl, rfl⟩ ⟨by decide, by decide⟩ hP hK [0, 4] rfl 0 0 rfl rfl rfl hl.1 rfl (Nat.le_of_ble_eq_true rfl) hf d_La_law_275 ?_
        refine lv_aload_n hx hb d_La_law_278 rfl (lv_at hl 3 rfl) ?_
        refine ip_V (As := []) (rest := [.int (nI ((enc ps).length))]) ⟨hx, hb, hml, hown, hw⟩ (c_Mo_size l D cB cI cJ y yb yt yr yo yn th (nI bs) (nI ts) (nI (enc ps).length) (nI rs)) g_La_43 hd_Mo_size rfl ⟨rfl, rfl⟩ ⟨by decide, by decide⟩ hP hK hD hS [8] (by decide) rfl [y] rfl (fun _ => rfl) 8 2 rfl rfl rfl hl.1 rfl (Nat.le_of_ble_eq_true rfl) hf d_La_law_279 (fun u_279 H locs hu_279 hP hD hS => ?_)
        refine W.eq (g2 := F0 m 282 ls [.int (nI ((enc ps).length)), .int (nI ((enc ps).length))]) rfl ?_
        have hP : va_P D classes [(x, .inr (0, [.ref ba, .ref ta, .ref ra, .int (nI bs), .int (nI ts), .int (nI rs), .int (nI ps.length), .ref d])), (ba, .inl (cB, 600, .inl (bA B))), (ta, .inl (cB, 600, .inl (bA T))), (ra, .inl (cB, 600, .inl (bA G))), (d, .inr (1, [.ref ah, .ref an, .ref ao, .int (nI ((enc ps).length))])), (ah, .inl (cI, 256, .inl fh)), (an, .inl (cI, 188, .inl fn)), (ao, .inl (cB, 3064, .inl (bA (spl o 0 (enc ps))))), (y, .inr (2, [.int (nI 0), .ref yb, .int (nI bs), .ref yt, .int (nI ts), .ref yr, .int (nI ((enc ps).length)), .ref yo, .int (nI rs), .ref yn])), (yb, .inl (cI, 600, .inl (iA B))), (yt, .inl (cI, 600, .inl (iA T))), (yr, .inl (cI, 2000, .inl (iA (spl r 0 (enc ps))))), (yo, .inl (cI, 600, .inl (iA G))), (yn, .inl (cI, 600, .inl (iA X))), (ja, .inl (cJ, 1, .inr (.inl fj)))] H := hP
        have hD : va_D A [(x, .inr (0, [.ref ba, .ref ta, .ref ra, .int (nI bs), .int (nI ts), .int (nI rs), .int (nI ps.length), .ref d])), (ba, .inl (cB, 600, .inl (bA B))), (ta, .inl (cB, 600, .inl (bA T))), (ra, .inl (cB, 600, .inl (bA G))), (d, .inr (1, [.ref ah, .ref an, .ref ao, .int (nI ((enc ps).length))])), (ah, .inl (cI, 256, .inl fh)), (an, .inl (cI, 188, .inl fn)), (ao, .inl (cB, 3064, .inl (bA (spl o 0 (enc ps))))), (y, .inr (2, [.int (nI 0), .ref yb, .int (nI bs), .ref yt, .int (nI ts), .ref yr, .int (nI ((enc ps).length)), .ref yo, .int (nI rs), .ref yn])), (yb, .inl (cI, 600, .inl (iA B))), (yt, .inl (cI, 600, .inl (iA T))), (yr, .inl (cI, 2000, .inl (iA (spl r 0 (enc ps))))), (yo, .inl (cI, 600, .inl (iA G))), (yn, .inl (cI, 600, .inl (iA X))), (ja, .inl (cJ, 1, .inr (.inl fj)))] := hD
        refine n_icmp_eq (tgt := 406) hx hb d_La_law_282 (by decide) (by omega) (by omega) (fun c_282 => ?_) (fun c_282 => ?_)
        · refine lv_iinc (v := nI (i + 5)) (lv' := [(4, .int (nI (i + 5))), (0, .ref b), (1, .ref x), (2, .ref y), (3, .ref ja)]) hx hb d_La_law_406 hl (k := 0) rfl (nI_inc5 _) (by decide) rfl (fun ls hl => ?_)
          refine lv_goto (tgt := 23) hx hb d_La_law_409 (by decide) ?_
          refine W.widen (k := 15 + (i + 5)) (n := 9731 + 6 * (i + 5)) (by omega) (by omega) ?_
          exact ih (i + 5) (by omega) (by omega) B T G o r X fh fn fj bs ts rs ps (nI 0) hB hT hG ho hr0 hbs hts0 hrs hok H locs hP hD hS ls (lv_sub hl [0, 1, 2, 3, 4] rfl)
        · exfalso; omega
      · refine lv_tableIn (off := 248) (tgt := 287) hx hb d_La_law_39 (by decide +kernel) (by decide +kernel) (by decide +kernel) (by decide) ?_
        refine lv_aload_n hx hb d_La_law_287 rfl (lv_at hl 2 rfl) ?_
        refine lv_aload_n hx hb d_La_law_288 rfl (lv_at hl 1 rfl) ?_
        refine lv_iload hx hb d_La_law_289 (lv_at hl 0 rfl) ?_
        refine lv_iconst (v := nI 1) hx hb d_La_law_291 (by decide +kernel) ?_
        refine n_iadd hx hb d_La_law_292 ?_
        refine sc_ld hx hb hX hbl hbA hS (by omega) (by omega) d_La_law_293 ?_
        refine ro_V (As := [.int (xs (i + 1))]) (rest := []) ⟨hx, hb, hml, hown, hw⟩ (c_PW_way l D cB cI cJ x ba ta ra d ah an ao (nI bs) (nI ts) (nI rs) (nI ps.length) (spl o 0 (enc ps)) ho2 (enc ps).length (by omega) (xs (i + 1))) g_La_44 hd_PW_way rfl ⟨rfl, rfl⟩ ⟨by decide, by decide⟩ hP hK [0, 4, 7] rfl 0 0 rfl rfl rfl hl.1 rfl (Nat.le_of_ble_eq_true rfl) hf d_La_law_294 ?_
        refine lv_aload_n hx hb d_La_law_297 rfl (lv_at hl 3 rfl) ?_
        refine lv_aload_n hx hb d_La_law_298 rfl (lv_at hl 1 rfl) ?_
        refine lv_iload hx hb d_La_law_299 (lv_at hl 0 rfl) ?_
        refine lv_iconst (v := nI 1) hx hb d_La_law_301 (by decide +kernel) ?_
        refine n_iadd hx hb d_La_law_302 ?_
        refine sc_ld hx hb hX hbl hbA hS (by omega) (by omega) d_La_law_303 ?_
        refine ip_V (As := [.int (xs (i + 1))]) (rest := [.int (ixV (spl o 0 (enc ps)) (enc ps).length (xs (i + 1)))]) ⟨hx, hb, hml, hown, hw⟩ (c_Mo_way l D cB cI cJ y yb yt yr yo yn th (nI bs) (nI ts) (nI rs) (spl r 0 (enc ps)) (enc ps).length (by omega) (xs (i + 1))) g_La_48 hd_Mo_way rfl ⟨rfl, rfl⟩ ⟨by decide, by decide⟩ hP hK hD hS [8, 11] (by decide) rfl [y, yr] rfl (fun _ => rfl) 8 2 rfl rfl rfl hl.1 rfl (Nat.le_of_ble_eq_true rfl) hf d_La_law_304 (fun u_304 H locs hu_304 hP hD hS => ?_)
        refine W.eq (g2 := F0 m 307 ls [.int (ixV (spl r 0 (enc ps)) (enc ps).length (xs (i + 1))), .int (ixV (spl o 0 (enc ps)) (enc ps).length (xs (i + 1)))]) rfl ?_
        have hP : va_P D classes [(x, .inr (0, [.ref ba, .ref ta, .ref ra, .int (nI bs), .int (nI ts), .int (nI rs), .int (nI ps.length), .ref d])), (ba, .inl (cB, 600, .inl (bA B))), (ta, .inl (cB, 600, .inl (bA T))), (ra, .inl (cB, 600, .inl (bA G))), (d, .inr (1, [.ref ah, .ref an, .ref ao, .int (nI ((enc ps).length))])), (ah, .inl (cI, 256, .inl fh)), (an, .inl (cI, 188, .inl fn)), (ao, .inl (cB, 3064, .inl (bA (spl o 0 (enc ps))))), (y, .inr (2, [.int (nI 0), .ref yb, .int (nI bs), .ref yt, .int (nI ts), .ref yr, .int (nI ((enc ps).length)), .ref yo, .int (nI rs), .ref yn])), (yb, .inl (cI, 600, .inl (iA B))), (yt, .inl (cI, 600, .inl (iA T))), (yr, .inl (cI, 2000, .inl (iA (spl r 0 (enc ps))))), (yo, .inl (cI, 600, .inl (iA G))), (yn, .inl (cI, 600, .inl (iA X))), (ja, .inl (cJ, 1, .inr (.inl fj)))] H := hP
        have hD : va_D A [(x, .inr (0, [.ref ba, .ref ta, .ref ra, .int (nI bs), .int (nI ts), .int (nI rs), .int (nI ps.length), .ref d])), (ba, .inl (cB, 600, .inl (bA B))), (ta, .inl (cB, 600, .inl (bA T))), (ra, .inl (cB, 600, .inl (bA G))), (d, .inr (1, [.ref ah, .ref an, .ref ao, .int (nI ((enc ps).length))])), (ah, .inl (cI, 256, .inl fh)), (an, .inl (cI, 188, .inl fn)), (ao, .inl (cB, 3064, .inl (bA (spl o 0 (enc ps))))), (y, .inr (2, [.int (nI 0), .ref yb, .int (nI bs), .ref yt, .int (nI ts), .ref yr, .int (nI ((enc ps).length)), .ref yo, .int (nI rs), .ref yn])), (yb, .inl (cI, 600, .inl (iA B))), (yt, .inl (cI, 600, .inl (iA T))), (yr, .inl (cI, 2000, .inl (iA (spl r 0 (enc ps))))), (yo, .inl (cI, 600, .inl (iA G))), (yn, .inl (cI, 600, .inl (iA X))), (ja, .inl (cJ, 1, .inr (.inl fj)))] := hD
        refine lv_icmp_eq (tgt := 406) hx hb d_La_law_307 (by decide) (fun c_307 => ?_) (fun c_307 => ?_)
        · refine lv_iinc (v := nI (i + 5)) (lv' := [(4, .int (nI (i + 5))), (0, .ref b), (1, .ref x), (2, .ref y), (3, .ref ja)]) hx hb d_La_law_406 hl (k := 0) rfl (nI_inc5 _) (by decide) rfl (fun ls hl => ?_)
          refine lv_goto (tgt := 23) hx hb d_La_law_409 (by decide) ?_
          refine W.widen (k := 15 + (i + 5)) (n := 9731 + 6 * (i + 5)) (by omega) (by omega) ?_
          exact ih (i + 5) (by omega) (by omega) B T G o r X fh fn fj bs ts rs ps (nI 0) hB hT hG ho hr0 hbs hts0 hrs hok H locs hP hD hS ls (lv_sub hl [0, 1, 2, 3, 4] rfl)
        · exact absurd (ixV_congr (by omega) (fun j hj => by rw [spl_0 hj, spl_0 hj]) _) c_307
      · refine lv_tableIn (off := 273) (tgt := 312) hx hb d_La_law_39 (by decide +kernel) (by decide +kernel) (by decide +kernel) (by decide) ?_
        refine lv_aload_n hx hb d_La_law_312 rfl (lv_at hl 2 rfl) ?_
        refine lv_aload_n hx hb d_La_law_313 rfl (lv_at hl 4 rfl) ?_
        by_cases hf9 : fits_W bs ps
        · refine ip_end (rest := []) (run_La (As := [.ref x, .ref ja]) (rest := []) ⟨hx, hb, hml, hown, hw⟩ (c_La_go l D cB cI cJ x ba ta ra d ah an ao (nI ts) (nI rs) (nI ps.length) (spl o 0 (enc ps)) B G ho2 ps hok hRo bs hbs ja fj hf9) ⟨rfl, rfl⟩ ⟨by decide, by decide⟩ ⟨ip_blind, fun U hU hW => ⟨rfl, by rw [hU]; exact hP.sub [0, 1, 3, 4, 7, 14] rfl, hK.warm hW, (hD.sub [0, 1, 3, 4, 7, 14] (by decide) rfl).weaken (fun _ _ _ _ => trivial)⟩⟩ rfl rfl hl.1 rfl (lv_room (Nat.le_of_ble_eq_true rfl)) d_La_law_314 hf) hP hD hS [0, 1, 3, 4, 7, 14] rfl (fun _ => Eq.trans (b := [x, ba, ra, d, ao, ja]) rfl rfl) (fun u_314 H locs hu_314 hP hD hS => ?_)
          refine W.eq (g2 := F0 m 317 ls [.int (nI 0)]) rfl ?_
          have hP : va_P D classes [(x, .inr (0, [.ref ba, .ref ta, .ref ra, .int (nI bs), .int (nI ts), .int (nI (sN ps)), .int (nI ps.length), .ref d])), (ba, .inl (cB, 600, .inl (bA B))), (ta, .inl (cB, 600, .inl (bA T))), (ra, .inl (cB, 600, .inl (bA (spl G 0 (outs B ps))))), (d, .inr (1, [.ref ah, .ref an, .ref ao, .int (nI ((enc ps).length))])), (ah, .inl (cI, 256, .inl fh)), (an, .inl (cI, 188, .inl fn)), (ao, .inl (cB, 3064, .inl (bA (spl o 0 (enc ps))))), (y, .inr (2, [.int th, .ref yb, .int (nI bs), .ref yt, .int (nI ts), .ref yr, .int (nI ((enc ps).length)), .ref yo, .int (nI rs), .ref yn])), (yb, .inl (cI, 600, .inl (iA B))), (yt, .inl (cI, 600, .inl (iA T))), (yr, .inl (cI, 2000, .inl (iA (spl r 0 (enc ps))))), (yo, .inl (cI, 600, .inl (iA G))), (yn, .inl (cI, 600, .inl (iA X))), (ja, .inl (cJ, 1, .inr (.inl (vp_updL fj 0 (nI (sN ps)).toInt64))))] H := hP
          have hD : va_D A [(x, .inr (0, [.ref ba, .ref ta, .ref ra, .int (nI bs), .int (nI ts), .int (nI (sN ps)), .int (nI ps.length), .ref d])), (ba, .inl (cB, 600, .inl (bA B))), (ta, .inl (cB, 600, .inl (bA T))), (ra, .inl (cB, 600, .inl (bA (spl G 0 (outs B ps))))), (d, .inr (1, [.ref ah, .ref an, .ref ao, .int (nI ((enc ps).length))])), (ah, .inl (cI, 256, .inl fh)), (an, .inl (cI, 188, .inl fn)), (ao, .inl (cB, 3064, .inl (bA (spl o 0 (enc ps))))), (y, .inr (2, [.int th, .ref yb, .int (nI bs), .ref yt, .int (nI ts), .ref yr, .int (nI ((enc ps).length)), .ref yo, .int (nI rs), .ref yn])), (yb, .inl (cI, 600, .inl (iA B))), (yt, .inl (cI, 600, .inl (iA T))), (yr, .inl (cI, 2000, .inl (iA (spl r 0 (enc ps))))), (yo, .inl (cI, 600, .inl (iA G))), (yn, .inl (cI, 600, .inl (iA X))), (ja, .inl (cJ, 1, .inr (.inl (vp_updL fj 0 (nI (sN ps)).toInt64))))] := hD
          refine lv_istore (lv' := [(5, .int (nI 0)), (4, .int (nI i)), (0, .ref b), (1, .ref x), (2, .ref y), (3, .ref ja)]) hx hb d_La_law_317 hl (by decide) rfl (fun ls hl => ?_)
          refine lv_aload_n hx hb d_La_law_319 rfl (lv_at hl 4 rfl) ?_
          refine ip_V (As := []) (rest := []) ⟨hx, hb, hml, hown, hw⟩ (c_Mo_go l D cB cI cJ y yb yt yr yo yn th (nI ts) (nI rs) (spl r 0 (enc ps)) B G X hr2 ps hok hRr bs hbs hf9) g_La_54 hd_Mo_go rfl ⟨rfl, rfl⟩ ⟨by decide, by decide⟩ hP hK hD hS [8, 9, 11, 12, 13] (by decide) rfl [y, yb, yr, yo, yn] rfl (fun _ => rfl) 8 2 rfl rfl rfl hl.1 rfl (Nat.le_of_ble_eq_true rfl) hf d_La_law_320 (fun u_320 H locs hu_320 hP hD hS => ?_)
          refine W.eq (g2 := F0 m 323 ls [.int (nI (sN ps))]) rfl ?_
          have hP : va_P D classes [(x, .inr (0, [.ref ba, .ref ta, .ref ra, .int (nI bs), .int (nI ts), .int (nI (sN ps)), .int (nI ps.length), .ref d])), (ba, .inl (cB, 600, .inl (bA B))), (ta, .inl (cB, 600, .inl (bA T))), (ra, .inl (cB, 600, .inl (bA (spl G 0 (outs B ps))))), (d, .inr (1, [.ref ah, .ref an, .ref ao, .int (nI ((enc ps).length))])), (ah, .inl (cI, 256, .inl fh)), (an, .inl (cI, 188, .inl fn)), (ao, .inl (cB, 3064, .inl (bA (spl o 0 (enc ps))))), (y, .inr (2, [.int (nI 0), .ref yb, .int (nI bs), .ref yt, .int (nI ts), .ref yr, .int (nI ((enc ps).length)), .ref yo, .int (nI (sN ps)), .ref yn])), (yb, .inl (cI, 600, .inl (iA B))), (yt, .inl (cI, 600, .inl (iA T))), (yr, .inl (cI, 2000, .inl (iA (spl r 0 (enc ps))))), (yo, .inl (cI, 600, .inl (iA (spl G 0 (outs B ps))))), (yn, .inl (cI, 600, .inl (iA (spl X 0 (outs B ps))))), (ja, .inl (cJ, 1, .inr (.inl (vp_updL fj 0 (nI (sN ps)).toInt64))))] H := hP
          have hD : va_D A [(x, .inr (0, [.ref ba, .ref ta, .ref ra, .int (nI bs), .int (nI ts), .int (nI (sN ps)), .int (nI ps.length), .ref d])), (ba, .inl (cB, 600, .inl (bA B))), (ta, .inl (cB, 600, .inl (bA T))), (ra, .inl (cB, 600, .inl (bA (spl G 0 (outs B ps))))), (d, .inr (1, [.ref ah, .ref an, .ref ao, .int (nI ((enc ps).length))])), (ah, .inl (cI, 256, .inl fh)), (an, .inl (cI, 188, .inl fn)), (ao, .inl (cB, 3064, .inl (bA (spl o 0 (enc ps))))), (y, .inr (2, [.int (nI 0), .ref yb, .int (nI bs), .ref yt, .int (nI ts), .ref yr, .int (nI ((enc ps).length)), .ref yo, .int (nI (sN ps)), .ref yn])), (yb, .inl (cI, 600, .inl (iA B))), (yt, .inl (cI, 600, .inl (iA T))), (yr, .inl (cI, 2000, .inl (iA (spl r 0 (enc ps))))), (yo, .inl (cI, 600, .inl (iA (spl G 0 (outs B ps))))), (yn, .inl (cI, 600, .inl (iA (spl X 0 (outs B ps))))), (ja, .inl (cJ, 1, .inr (.inl (vp_updL fj 0 (nI (sN ps)).toInt64))))] := hD
          refine lv_istore (lv' := [(6, .int (nI (sN ps))), (5, .int (nI 0)), (4, .int (nI i)), (0, .ref b), (1, .ref x), (2, .ref y), (3, .ref ja)]) hx hb d_La_law_323 hl (by decide) rfl (fun ls hl => ?_)
          refine lv_aload_n hx hb d_La_law_325 rfl (lv_at hl 5 rfl) ?_
          refine ro_V (As := []) (rest := []) ⟨hx, hb, hml, hown, hw⟩ (c_Mo_thrown l D cB cI cJ y yb yt yr yo yn (nI 0) (nI bs) (nI ts) (nI (enc ps).length) (nI (sN ps))) g_La_55 hd_Mo_thrown rfl ⟨rfl, rfl⟩ ⟨by decide, by decide⟩ hP hK [8] rfl 8 2 rfl rfl rfl hl.1 rfl (Nat.le_of_ble_eq_true rfl) hf d_La_law_326 ?_
          refine lv_iload hx hb d_La_law_329 (lv_at hl 1 rfl) ?_
          refine n_icmp_eq (tgt := 336) hx hb d_La_law_331 (by decide) (by omega) (by omega) (fun c_331 => ?_) (fun c_331 => ?_)
          · refine lv_iload hx hb d_La_law_336 (lv_at hl 1 rfl) ?_
            refine n_if_ne (tgt := 353) hx hb d_La_law_338 (by decide) (by omega) (fun c_338 => ?_) (fun c_338 => ?_)
            · exfalso; omega
            · refine lv_aload_n hx hb d_La_law_341 rfl (lv_at hl 6 rfl) ?_
              refine lv_iconst (v := nI 0) hx hb d_La_law_342 (by decide +kernel) ?_
              refine la_ld hx hb hK.1 hP 14 2 rfl rfl (by decide) (by decide) d_La_law_343 ?_
              refine lv_iload hx hb d_La_law_344 (lv_at hl 0 rfl) ?_
              refine lv_i2l hx hb d_La_law_346 rfl ?_
              refine W.lcmp hx hb d_La_law_347 ?_
              rw [pk_uLs, lg_self]
              refine lv_if_eq (tgt := 353) hx hb d_La_law_348 (by decide) (fun c_348 => ?_) (fun c_348 => absurd rfl c_348)
              refine lv_goto (tgt := 406) hx hb d_La_law_353 (by decide) ?_
              refine lv_iinc (v := nI (i + 5)) (lv' := [(4, .int (nI (i + 5))), (6, .int (nI (sN ps))), (5, .int (nI 0)), (0, .ref b), (1, .ref x), (2, .ref y), (3, .ref ja)]) hx hb d_La_law_406 hl (k := 2) rfl (nI_inc5 _) (by decide) rfl (fun ls hl => ?_)
              refine lv_goto (tgt := 23) hx hb d_La_law_409 (by decide) ?_
              refine W.widen (k := 15 + (i + 5)) (n := 9731 + 6 * (i + 5)) (by omega) (by omega) ?_
              exact ih (i + 5) (by omega) (by omega) B T (spl G 0 (outs B ps)) o r (spl X 0 (outs B ps)) fh fn (vp_updL fj 0 (nI (sN ps)).toInt64) bs ts (sN ps) ps (nI 0) hB hT (spl_256 hG (outs_256 hB hok.1)) ho hr0 hbs hts0 hsum hok H locs hP hD hS ls (lv_sub hl [0, 3, 4, 5, 6] rfl)
          · exfalso; omega
        · obtain ⟨qs, q, rs9, hps, hfq, hbadq⟩ := no_fit hf9
          refine lx_end (rest := []) (run_La (As := [.ref x, .ref ja]) (rest := []) ⟨hx, hb, hml, hown, hw⟩ (c_La_goX l hfl D cB cI cJ x ba ta ra d ah an ao (nI ts) (nI rs) (nI ps.length) (spl o 0 (enc ps)) B G ho2 ps hok hRo bs hbs qs rs9 q hps hfq hbadq ja) ⟨rfl, rfl⟩ ⟨by decide, by decide⟩ ⟨lx_blind, fun U hU hW => ⟨rfl, by rw [hU]; exact hP.sub [0, 1, 3, 4, 7] rfl, hK.warm hW, EX.warm hW (fun q9 h9 => by rw [hU]; exact hS.2.1 q9 h9 (by rw [hAe]; exact Nat.not_le.mpr h9)) hEX⟩⟩ rfl rfl hl.1 rfl (lv_room (Nat.le_of_ble_eq_true rfl)) d_La_law_314 ⟨by show 15 + i + 1 ≤ 601024; omega, by show 9731 + 6 * i + 6 ≤ 7293034; omega⟩) (fun H9 hz hkp => ?_)
          have hS : va_S A s.heap H9 locs := ⟨Nat.le_trans hS.1 hz, fun q9 h1 h2 => (hkp q9 (Nat.lt_of_lt_of_le h1 hS.1)).trans (hS.2.1 q9 h1 h2), hS.2.2⟩
          have hP : va_P D classes [(x, .inr (0, [.ref ba, .ref ta, .ref ra, .int (nI bs), .int (nI ts), .int (nI rs), .int (nI ps.length), .ref d])), (ba, .inl (cB, 600, .inl (bA B))), (ta, .inl (cB, 600, .inl (bA T))), (ra, .inl (cB, 600, .inl (bA G))), (d, .inr (1, [.ref ah, .ref an, .ref ao, .int (nI ((enc ps).length))])), (ah, .inl (cI, 256, .inl fh)), (an, .inl (cI, 188, .inl fn)), (ao, .inl (cB, 3064, .inl (bA (spl o 0 (enc ps))))), (y, .inr (2, [.int th, .ref yb, .int (nI bs), .ref yt, .int (nI ts), .ref yr, .int (nI ((enc ps).length)), .ref yo, .int (nI rs), .ref yn])), (yb, .inl (cI, 600, .inl (iA B))), (yt, .inl (cI, 600, .inl (iA T))), (yr, .inl (cI, 2000, .inl (iA (spl r 0 (enc ps))))), (yo, .inl (cI, 600, .inl (iA G))), (yn, .inl (cI, 600, .inl (iA X))), (ja, .inl (cJ, 1, .inr (.inl fj)))] H9 := hP.kept (fun k9 q9 hk9 => hkp q9.1 (hP k9 q9 hk9).lt)
          have hf1 : 15 + i + 1 ≤ room_1.cells ∧ 9731 + 6 * i + 6 ≤ room_1.slots := ⟨by show 15 + i + 1 ≤ 601024; omega, by show 9731 + 6 * i + 6 ≤ 7293034; omega⟩
          refine lv_istore (lv' := [(5, .int (nI 1)), (4, .int (nI i)), (0, .ref b), (1, .ref x), (2, .ref y), (3, .ref ja)]) hx hb d_La_law_317 hl (by decide) rfl (fun ls hl => ?_)
          refine lv_aload_n hx hb d_La_law_319 rfl (lv_at hl 4 rfl) ?_
          refine ip_V (As := []) (rest := []) ⟨hx, hb, hml, hown, hw⟩ (c_Mo_goX l D cB cI cJ y yb yt yr yo yn th (nI ts) (nI rs) (spl r 0 (enc ps)) B G X hr2 ps hok hRr bs hbs qs rs9 q hps hfq hbadq) g_La_54 hd_Mo_go rfl ⟨rfl, rfl⟩ ⟨by decide, by decide⟩ hP hK hD hS [8, 9, 11, 12, 13] (by decide) rfl [y, yb, yr, yo, yn] rfl (fun _ => rfl) 8 2 rfl rfl rfl hl.1 rfl (Nat.le_of_ble_eq_true rfl) hf1 d_La_law_320 (fun u_320 H locs hu_320 hP hD hS => ?_)
          refine W.eq (g2 := F0 m 323 ls [.int (nI 0)]) rfl ?_
          have hP : va_P D classes [(x, .inr (0, [.ref ba, .ref ta, .ref ra, .int (nI bs), .int (nI ts), .int (nI rs), .int (nI ps.length), .ref d])), (ba, .inl (cB, 600, .inl (bA B))), (ta, .inl (cB, 600, .inl (bA T))), (ra, .inl (cB, 600, .inl (bA G))), (d, .inr (1, [.ref ah, .ref an, .ref ao, .int (nI ((enc ps).length))])), (ah, .inl (cI, 256, .inl fh)), (an, .inl (cI, 188, .inl fn)), (ao, .inl (cB, 3064, .inl (bA (spl o 0 (enc ps))))), (y, .inr (2, [.int (nI 1), .ref yb, .int (nI bs), .ref yt, .int (nI ts), .ref yr, .int (nI ((enc ps).length)), .ref yo, .int (nI rs), .ref yn])), (yb, .inl (cI, 600, .inl (iA B))), (yt, .inl (cI, 600, .inl (iA T))), (yr, .inl (cI, 2000, .inl (iA (spl r 0 (enc ps))))), (yo, .inl (cI, 600, .inl (iA G))), (yn, .inl (cI, 600, .inl (iA u_320))), (ja, .inl (cJ, 1, .inr (.inl fj)))] H := hP
          have hD : va_D A [(x, .inr (0, [.ref ba, .ref ta, .ref ra, .int (nI bs), .int (nI ts), .int (nI rs), .int (nI ps.length), .ref d])), (ba, .inl (cB, 600, .inl (bA B))), (ta, .inl (cB, 600, .inl (bA T))), (ra, .inl (cB, 600, .inl (bA G))), (d, .inr (1, [.ref ah, .ref an, .ref ao, .int (nI ((enc ps).length))])), (ah, .inl (cI, 256, .inl fh)), (an, .inl (cI, 188, .inl fn)), (ao, .inl (cB, 3064, .inl (bA (spl o 0 (enc ps))))), (y, .inr (2, [.int (nI 1), .ref yb, .int (nI bs), .ref yt, .int (nI ts), .ref yr, .int (nI ((enc ps).length)), .ref yo, .int (nI rs), .ref yn])), (yb, .inl (cI, 600, .inl (iA B))), (yt, .inl (cI, 600, .inl (iA T))), (yr, .inl (cI, 2000, .inl (iA (spl r 0 (enc ps))))), (yo, .inl (cI, 600, .inl (iA G))), (yn, .inl (cI, 600, .inl (iA u_320))), (ja, .inl (cJ, 1, .inr (.inl fj)))] := hD
          refine lv_istore (lv' := [(6, .int (nI 0)), (5, .int (nI 1)), (4, .int (nI i)), (0, .ref b), (1, .ref x), (2, .ref y), (3, .ref ja)]) hx hb d_La_law_323 hl (by decide) rfl (fun ls hl => ?_)
          refine lv_aload_n hx hb d_La_law_325 rfl (lv_at hl 5 rfl) ?_
          refine ro_V (As := []) (rest := []) ⟨hx, hb, hml, hown, hw⟩ (c_Mo_thrown l D cB cI cJ y yb yt yr yo yn (nI 1) (nI bs) (nI ts) (nI (enc ps).length) (nI rs)) g_La_55 hd_Mo_thrown rfl ⟨rfl, rfl⟩ ⟨by decide, by decide⟩ hP hK [8] rfl 8 2 rfl rfl rfl hl.1 rfl (Nat.le_of_ble_eq_true rfl) hf1 d_La_law_326 ?_
          refine lv_iload hx hb d_La_law_329 (lv_at hl 1 rfl) ?_
          refine n_icmp_eq (tgt := 336) hx hb d_La_law_331 (by decide) (by omega) (by omega) (fun c_331 => ?_) (fun c_331 => ?_)
          · refine lv_iload hx hb d_La_law_336 (lv_at hl 1 rfl) ?_
            refine n_if_ne (tgt := 353) hx hb d_La_law_338 (by decide) (by omega) (fun c_338 => ?_) (fun c_338 => ?_)
            · refine lv_goto (tgt := 406) hx hb d_La_law_353 (by decide) ?_
              refine lv_iinc (v := nI (i + 5)) (lv' := [(4, .int (nI (i + 5))), (6, .int (nI 0)), (5, .int (nI 1)), (0, .ref b), (1, .ref x), (2, .ref y), (3, .ref ja)]) hx hb d_La_law_406 hl (k := 2) rfl (nI_inc5 _) (by decide) rfl (fun ls hl => ?_)
              refine lv_goto (tgt := 23) hx hb d_La_law_409 (by decide) ?_
              refine W.widen (k := 15 + (i + 5)) (n := 9731 + 6 * (i + 5)) (by omega) (by omega) ?_
              exact ih (i + 5) (by omega) (by omega) B T G o r u_320 fh fn fj bs ts rs ps (nI 1) hB hT hG ho hr0 hbs hts0 hrs hok H locs hP hD hS ls (lv_sub hl [0, 3, 4, 5, 6] rfl)
            · exfalso; omega
          · exfalso; omega
      · refine lv_tableIn (off := 317) (tgt := 356) hx hb d_La_law_39 (by decide +kernel) (by decide +kernel) (by decide +kernel) (by decide) ?_
        refine lv_aload_n hx hb d_La_law_356 rfl (lv_at hl 2 rfl) ?_
        refine lv_aload_n hx hb d_La_law_357 rfl (lv_at hl 1 rfl) ?_
        refine lv_iload hx hb d_La_law_358 (lv_at hl 0 rfl) ?_
        refine lv_iconst (v := nI 1) hx hb d_La_law_360 (by decide +kernel) ?_
        refine n_iadd hx hb d_La_law_361 ?_
        refine sc_ld hx hb hX hbl hbA hS (by omega) (by omega) d_La_law_362 ?_
        refine ro_V (As := [.int (xs (i + 1))]) (rest := []) ⟨hx, hb, hml, hown, hw⟩ (c_PW_result l D cB cI cJ x ba ta ra d (nI bs) (nI ts) (nI ps.length) G hG rs hrs (xs (i + 1))) g_La_58 hd_PW_result rfl ⟨rfl, rfl⟩ ⟨by decide, by decide⟩ hP hK [0, 3] rfl 0 0 rfl rfl rfl hl.1 rfl (Nat.le_of_ble_eq_true rfl) hf d_La_law_363 ?_
        refine lv_aload_n hx hb d_La_law_366 rfl (lv_at hl 3 rfl) ?_
        refine lv_aload_n hx hb d_La_law_367 rfl (lv_at hl 1 rfl) ?_
        refine lv_iload hx hb d_La_law_368 (lv_at hl 0 rfl) ?_
        refine lv_iconst (v := nI 1) hx hb d_La_law_370 (by decide +kernel) ?_
        refine n_iadd hx hb d_La_law_371 ?_
        refine sc_ld hx hb hX hbl hbA hS (by omega) (by omega) d_La_law_372 ?_
        refine ip_V (As := [.int (xs (i + 1))]) (rest := [.int (ixV G rs (xs (i + 1)))]) ⟨hx, hb, hml, hown, hw⟩ (c_Mo_result l D cB cI cJ y yb yt yr yo yn th (nI bs) (nI ts) (nI (enc ps).length) G rs hrs (xs (i + 1))) g_La_61 hd_Mo_result rfl ⟨rfl, rfl⟩ ⟨by decide, by decide⟩ hP hK hD hS [8, 12] (by decide) rfl [y, yo] rfl (fun _ => rfl) 8 2 rfl rfl rfl hl.1 rfl (Nat.le_of_ble_eq_true rfl) hf d_La_law_373 (fun u_373 H locs hu_373 hP hD hS => ?_)
        refine W.eq (g2 := F0 m 376 ls [.int (ixV G rs (xs (i + 1))), .int (ixV G rs (xs (i + 1)))]) rfl ?_
        have hP : va_P D classes [(x, .inr (0, [.ref ba, .ref ta, .ref ra, .int (nI bs), .int (nI ts), .int (nI rs), .int (nI ps.length), .ref d])), (ba, .inl (cB, 600, .inl (bA B))), (ta, .inl (cB, 600, .inl (bA T))), (ra, .inl (cB, 600, .inl (bA G))), (d, .inr (1, [.ref ah, .ref an, .ref ao, .int (nI ((enc ps).length))])), (ah, .inl (cI, 256, .inl fh)), (an, .inl (cI, 188, .inl fn)), (ao, .inl (cB, 3064, .inl (bA (spl o 0 (enc ps))))), (y, .inr (2, [.int (nI 0), .ref yb, .int (nI bs), .ref yt, .int (nI ts), .ref yr, .int (nI ((enc ps).length)), .ref yo, .int (nI rs), .ref yn])), (yb, .inl (cI, 600, .inl (iA B))), (yt, .inl (cI, 600, .inl (iA T))), (yr, .inl (cI, 2000, .inl (iA (spl r 0 (enc ps))))), (yo, .inl (cI, 600, .inl (iA G))), (yn, .inl (cI, 600, .inl (iA X))), (ja, .inl (cJ, 1, .inr (.inl fj)))] H := hP
        have hD : va_D A [(x, .inr (0, [.ref ba, .ref ta, .ref ra, .int (nI bs), .int (nI ts), .int (nI rs), .int (nI ps.length), .ref d])), (ba, .inl (cB, 600, .inl (bA B))), (ta, .inl (cB, 600, .inl (bA T))), (ra, .inl (cB, 600, .inl (bA G))), (d, .inr (1, [.ref ah, .ref an, .ref ao, .int (nI ((enc ps).length))])), (ah, .inl (cI, 256, .inl fh)), (an, .inl (cI, 188, .inl fn)), (ao, .inl (cB, 3064, .inl (bA (spl o 0 (enc ps))))), (y, .inr (2, [.int (nI 0), .ref yb, .int (nI bs), .ref yt, .int (nI ts), .ref yr, .int (nI ((enc ps).length)), .ref yo, .int (nI rs), .ref yn])), (yb, .inl (cI, 600, .inl (iA B))), (yt, .inl (cI, 600, .inl (iA T))), (yr, .inl (cI, 2000, .inl (iA (spl r 0 (enc ps))))), (yo, .inl (cI, 600, .inl (iA G))), (yn, .inl (cI, 600, .inl (iA X))), (ja, .inl (cJ, 1, .inr (.inl fj)))] := hD
        refine lv_icmp_eq (tgt := 406) hx hb d_La_law_376 (by decide) (fun c_376 => ?_) (fun c_376 => ?_)
        · refine lv_iinc (v := nI (i + 5)) (lv' := [(4, .int (nI (i + 5))), (0, .ref b), (1, .ref x), (2, .ref y), (3, .ref ja)]) hx hb d_La_law_406 hl (k := 0) rfl (nI_inc5 _) (by decide) rfl (fun ls hl => ?_)
          refine lv_goto (tgt := 23) hx hb d_La_law_409 (by decide) ?_
          refine W.widen (k := 15 + (i + 5)) (n := 9731 + 6 * (i + 5)) (by omega) (by omega) ?_
          exact ih (i + 5) (by omega) (by omega) B T G o r X fh fn fj bs ts rs ps (nI 0) hB hT hG ho hr0 hbs hts0 hrs hok H locs hP hD hS ls (lv_sub hl [0, 1, 2, 3, 4] rfl)
        · exact absurd rfl c_376
      · refine lv_tableIn (off := 342) (tgt := 381) hx hb d_La_law_39 (by decide +kernel) (by decide +kernel) (by decide +kernel) (by decide) ?_
        refine lv_aload_n hx hb d_La_law_381 rfl (lv_at hl 2 rfl) ?_
        refine lv_aload_n hx hb d_La_law_382 rfl (lv_at hl 1 rfl) ?_
        refine lv_iload hx hb d_La_law_383 (lv_at hl 0 rfl) ?_
        refine lv_iconst (v := nI 1) hx hb d_La_law_385 (by decide +kernel) ?_
        refine n_iadd hx hb d_La_law_386 ?_
        refine sc_ld hx hb hX hbl hbA hS (by omega) (by omega) d_La_law_387 ?_
        refine ro_V (As := [.int (xs (i + 1))]) (rest := []) ⟨hx, hb, hml, hown, hw⟩ (c_PW_count l D cB cI cJ x ba ta ra d (nI bs) (nI ts) (nI rs) (nI ps.length) (xs (i + 1))) g_La_62 hd_PW_count rfl ⟨rfl, rfl⟩ ⟨by decide, by decide⟩ hP hK [0] rfl 0 0 rfl rfl rfl hl.1 rfl (Nat.le_of_ble_eq_true rfl) hf d_La_law_388 ?_
        refine lv_aload_n hx hb d_La_law_391 rfl (lv_at hl 3 rfl) ?_
        refine lv_aload_n hx hb d_La_law_392 rfl (lv_at hl 1 rfl) ?_
        refine lv_iload hx hb d_La_law_393 (lv_at hl 0 rfl) ?_
        refine lv_iconst (v := nI 1) hx hb d_La_law_395 (by decide +kernel) ?_
        refine n_iadd hx hb d_La_law_396 ?_
        refine sc_ld hx hb hX hbl hbA hS (by omega) (by omega) d_La_law_397 ?_
        refine ip_V (As := [.int (xs (i + 1))]) (rest := [.int (cnV (nI bs) (nI ts) (nI rs) (xs (i + 1)))]) ⟨hx, hb, hml, hown, hw⟩ (c_Mo_count l D cB cI cJ y yb yt yr yo yn th (nI bs) (nI ts) (nI (enc ps).length) (nI rs) (xs (i + 1))) g_La_65 hd_Mo_count rfl ⟨rfl, rfl⟩ ⟨by decide, by decide⟩ hP hK hD hS [8] (by decide) rfl [y] rfl (fun _ => rfl) 8 2 rfl rfl rfl hl.1 rfl (Nat.le_of_ble_eq_true rfl) hf d_La_law_398 (fun u_398 H locs hu_398 hP hD hS => ?_)
        refine W.eq (g2 := F0 m 401 ls [.int (cnV (nI bs) (nI ts) (nI rs) (xs (i + 1))), .int (cnV (nI bs) (nI ts) (nI rs) (xs (i + 1)))]) rfl ?_
        have hP : va_P D classes [(x, .inr (0, [.ref ba, .ref ta, .ref ra, .int (nI bs), .int (nI ts), .int (nI rs), .int (nI ps.length), .ref d])), (ba, .inl (cB, 600, .inl (bA B))), (ta, .inl (cB, 600, .inl (bA T))), (ra, .inl (cB, 600, .inl (bA G))), (d, .inr (1, [.ref ah, .ref an, .ref ao, .int (nI ((enc ps).length))])), (ah, .inl (cI, 256, .inl fh)), (an, .inl (cI, 188, .inl fn)), (ao, .inl (cB, 3064, .inl (bA (spl o 0 (enc ps))))), (y, .inr (2, [.int (nI 0), .ref yb, .int (nI bs), .ref yt, .int (nI ts), .ref yr, .int (nI ((enc ps).length)), .ref yo, .int (nI rs), .ref yn])), (yb, .inl (cI, 600, .inl (iA B))), (yt, .inl (cI, 600, .inl (iA T))), (yr, .inl (cI, 2000, .inl (iA (spl r 0 (enc ps))))), (yo, .inl (cI, 600, .inl (iA G))), (yn, .inl (cI, 600, .inl (iA X))), (ja, .inl (cJ, 1, .inr (.inl fj)))] H := hP
        have hD : va_D A [(x, .inr (0, [.ref ba, .ref ta, .ref ra, .int (nI bs), .int (nI ts), .int (nI rs), .int (nI ps.length), .ref d])), (ba, .inl (cB, 600, .inl (bA B))), (ta, .inl (cB, 600, .inl (bA T))), (ra, .inl (cB, 600, .inl (bA G))), (d, .inr (1, [.ref ah, .ref an, .ref ao, .int (nI ((enc ps).length))])), (ah, .inl (cI, 256, .inl fh)), (an, .inl (cI, 188, .inl fn)), (ao, .inl (cB, 3064, .inl (bA (spl o 0 (enc ps))))), (y, .inr (2, [.int (nI 0), .ref yb, .int (nI bs), .ref yt, .int (nI ts), .ref yr, .int (nI ((enc ps).length)), .ref yo, .int (nI rs), .ref yn])), (yb, .inl (cI, 600, .inl (iA B))), (yt, .inl (cI, 600, .inl (iA T))), (yr, .inl (cI, 2000, .inl (iA (spl r 0 (enc ps))))), (yo, .inl (cI, 600, .inl (iA G))), (yn, .inl (cI, 600, .inl (iA X))), (ja, .inl (cJ, 1, .inr (.inl fj)))] := hD
        refine lv_icmp_eq (tgt := 406) hx hb d_La_law_401 (by decide) (fun c_401 => ?_) (fun c_401 => ?_)
        · refine lv_iinc (v := nI (i + 5)) (lv' := [(4, .int (nI (i + 5))), (0, .ref b), (1, .ref x), (2, .ref y), (3, .ref ja)]) hx hb d_La_law_406 hl (k := 0) rfl (nI_inc5 _) (by decide) rfl (fun ls hl => ?_)
          refine lv_goto (tgt := 23) hx hb d_La_law_409 (by decide) ?_
          refine W.widen (k := 15 + (i + 5)) (n := 9731 + 6 * (i + 5)) (by omega) (by omega) ?_
          exact ih (i + 5) (by omega) (by omega) B T G o r X fh fn fj bs ts rs ps (nI 0) hB hT hG ho hr0 hbs hts0 hrs hok H locs hP hD hS ls (lv_sub hl [0, 1, 2, 3, 4] rfl)
        · exact absurd rfl c_401
      · refine lv_tableOut (tgt := 406) hx hb d_La_law_39 (Or.inr (by rw [nI_toInt (by omega)]; omega)) (by decide) ?_
        refine lv_iinc (v := nI (i + 5)) (lv' := [(4, .int (nI (i + 5))), (0, .ref b), (1, .ref x), (2, .ref y), (3, .ref ja)]) hx hb d_La_law_406 hl (k := 0) rfl (nI_inc5 _) (by decide) rfl (fun ls hl => ?_)
        refine lv_goto (tgt := 23) hx hb d_La_law_409 (by decide) ?_
        refine W.widen (k := 15 + (i + 5)) (n := 9731 + 6 * (i + 5)) (by omega) (by omega) ?_
        exact ih (i + 5) (by omega) (by omega) B T G o r X fh fn fj bs ts rs ps th hB hT hG ho hr0 hbs hts0 hrs hok H locs hP hD hS ls (lv_sub hl [0, 1, 2, 3, 4] rfl)
end
section
theorem ar_K {s : State} {a : Array Value} {ty : FieldType} (h : (Cond.arrayClass ty).before a s = true) : ∃ cA : ClassId, ArrOfT s cA ty ∧ s.vm.findClass ("[" ++ ty.toString) = some cA := by
  obtain ⟨cA, kA, comp, h1, h2, h3⟩ := Cond.arrayClass_spec h
  exact ⟨cA, fun n z => ⟨fun k h => (by cases h), kA, h2, comp, h3⟩, h1⟩
/-- what the tables say at the law's entry -/
theorem st_K {s : State} {b : Nat} (hts : ∀ w ∈ lw_tbl, w.before #[Value.ref b] s = true) : ∃ (D : va_G) (cB cI cJ : ClassId), KX D cB cI cJ s := by
  have hw := gw_of hts
  obtain ⟨c0, iS0, hKn0⟩ := u_known (C := R_PW) (T := F_PW) (N := 8) hw i_PW (hw _ k_9)
  obtain ⟨c1, iS1, hKn1⟩ := u_known (C := R_De) (T := F_De) (N := 4) hw i_De (hw _ k_17)
  obtain ⟨c2, iS2, hKn2⟩ := u_known (C := R_Mo) (T := F_Mo) (N := 10) hw i_Mo (hw _ k_217)
  obtain ⟨cB, hB1, hB2⟩ := ar_K (hw _ k_35)
  obtain ⟨cI, hI1, hI2⟩ := ar_K (hw _ k_36)
  obtain ⟨cJ, hJ1, hJ2⟩ := ar_K (hw _ k_318)
  refine ⟨(fun k => if k = 0 then c0 else if k = 1 then c1 else c2, fun k => if k = 0 then iS0 else if k = 1 then iS1 else iS2), cB, cI, cJ, ⟨?_, ?_⟩, va_Nw.of rfl (hts _ (List.mem_of_getElem? (i := 134) (by decide +kernel))), va_Nw.of rfl (hts _ (List.mem_of_getElem? (i := 32) (by decide +kernel))), va_Nw.of rfl (hts _ (List.mem_of_getElem? (i := 167) (by decide +kernel)))⟩
  · intro k q hq
    match k, hq with
    | 0, hq => cases hq; exact hKn0
    | 1, hq => cases hq; exact hKn1
    | 2, hq => cases hq; exact hKn2
    | k + 3, hq => simp [classes] at hq
  · intro k q hq
    match k, hq with
    | 0, hq => cases hq; exact ⟨hB1, hB2⟩
    | 1, hq => cases hq; exact ⟨hI1, hI2⟩
    | 2, hq => cases hq; exact ⟨hJ1, hJ2⟩
    | k + 3, hq => simp [TYs] at hq
/-- what a throw needs, at the law's entry -/
theorem st_X {s : State} {b : Nat} (hts : ∀ w ∈ lw_tbl, w.before #[Value.ref b] s = true) (hgv : (Jvm.Cond.and given_1 narrow_1).before #[Value.ref b] s = true) : EX s :=
  ⟨SZ.of (hts _ (List.mem_of_getElem? (i := 192) (by decide +kernel))) (flat_of_before _ hgv _ (by decide +kernel)), SZ.of (hts _ (List.mem_of_getElem? (i := 194) (by decide +kernel))) (flat_of_before _ hgv _ (by decide +kernel)), va_Nw.of rfl (hts _ (List.mem_of_getElem? (i := 168) (by decide +kernel))), va_Nw.of rfl (hts _ (List.mem_of_getElem? (i := 170) (by decide +kernel))), va_Nw.of rfl (hts _ (List.mem_of_getElem? (i := 172) (by decide +kernel)))⟩
theorem z256 : ∀ i : Nat, (fun _ => 0 : Nat → Nat) i < 256 := fun _ => Nat.zero_lt_succ 255
theorem okW_nil : okW [] := ⟨fun p hp => (by cases hp), Nat.zero_le _, Nat.zero_le _⟩
theorem st_eq {cB cI cJ : ClassId} {q_0 q_8 q_17 : Nat} {u_4 : Nat × Nat × Nat × Nat × Nat × Nat × Nat} {u_12 : Nat × Nat × Nat × Nat × Nat} : ([(q_0, .inr (0, [.ref u_4.1, .ref u_4.2.1, .ref u_4.2.2.1, .int (nI 0), .int (nI 0), .int (nI 0), .int (nI (([] : List Pce).length)), .ref u_4.2.2.2.1])), (u_4.1, .inl (cB, 600, .inl (bA (fun _ => 0)))), (u_4.2.1, .inl (cB, 600, .inl (bA (fun _ => 0)))), (u_4.2.2.1, .inl (cB, 600, .inl (bA (fun _ => 0)))), (u_4.2.2.2.1, .inr (1, [.ref u_4.2.2.2.2.1, .ref u_4.2.2.2.2.2.1, .ref u_4.2.2.2.2.2.2, .int (nI ((enc []).length))])), (u_4.2.2.2.2.1, .inl (cI, 256, .inl (fun _ => 0))), (u_4.2.2.2.2.2.1, .inl (cI, 188, .inl (fun _ => 0))), (u_4.2.2.2.2.2.2, .inl (cB, 3064, .inl (bA (spl (fun _ => 0) 0 (enc []))))), (q_8, .inr (2, [.int (nI 0), .ref u_12.1, .int (nI 0), .ref u_12.2.1, .int (nI 0), .ref u_12.2.2.1, .int (nI ((enc []).length)), .ref u_12.2.2.2.1, .int (nI 0), .ref u_12.2.2.2.2])), (u_12.1, .inl (cI, 600, .inl (iA (fun _ => 0)))), (u_12.2.1, .inl (cI, 600, .inl (iA (fun _ => 0)))), (u_12.2.2.1, .inl (cI, 2000, .inl (iA (spl (fun _ => 0) 0 (enc []))))), (u_12.2.2.2.1, .inl (cI, 600, .inl (iA (fun _ => 0)))), (u_12.2.2.2.2, .inl (cI, 600, .inl (iA (fun _ => 0)))), (q_17, .inl (cJ, 1, .inr (.inl (fun _ => 0))))] : va_W) = [(q_0, .inr (0, [.ref u_4.1, .ref u_4.2.1, .ref u_4.2.2.1, .int 0, .int 0, .int 0, .int 0, .ref u_4.2.2.2.1])), (u_4.1, .inl (cB, 600, .inl (bA (fun _ => 0)))), (u_4.2.1, .inl (cB, 600, .inl (bA (fun _ => 0)))), (u_4.2.2.1, .inl (cB, 600, .inl (bA (fun _ => 0)))), (u_4.2.2.2.1, .inr (1, [.ref u_4.2.2.2.2.1, .ref u_4.2.2.2.2.2.1, .ref u_4.2.2.2.2.2.2, .int 0])), (u_4.2.2.2.2.1, .inl (cI, 256, .inl (fun _ => 0))), (u_4.2.2.2.2.2.1, .inl (cI, 188, .inl (fun _ => 0))), (u_4.2.2.2.2.2.2, .inl (cB, 3064, .inl (bA (fun _ => 0)))), (q_8, .inr (2, [.int (nI 0), .ref u_12.1, .int (nI 0), .ref u_12.2.1, .int (nI 0), .ref u_12.2.2.1, .int (nI 0), .ref u_12.2.2.2.1, .int (nI 0), .ref u_12.2.2.2.2])), (u_12.1, .inl (cI, 600, .inl (iA (fun _ => 0)))), (u_12.2.1, .inl (cI, 600, .inl (iA (fun _ => 0)))), (u_12.2.2.1, .inl (cI, 2000, .inl (iA (fun _ => 0)))), (u_12.2.2.2.1, .inl (cI, 600, .inl (iA (fun _ => 0)))), (u_12.2.2.2.2, .inl (cI, 600, .inl (iA (fun _ => 0)))), (q_17, .inl (cJ, 1, .inr (.inl (fun _ => 0))))] := by
  rw [show enc [] = [] from rfl, spl_nil]
  rfl
set_option maxHeartbeats 4000000 in
set_option maxRecDepth 100000 in
/-- from the entry, for every script of at most 2560 ints, the law comes to its end with true -/
theorem whole_start {p : Program} {e : Env} {s : State} {m : MethodId} {below : List Frame} {meth : Method} {c : Code} (l : Launch) (hfl : l.flags = flags0) {b L : Nat} {xs : Nat → Int32} (hL : L ≤ 2560) (C0 : lw_At p s m meth c b L xs) : W p l e room_1 s m #[Value.ref b] below meth c s.heap [] 0 0 (lw_Z below #[Value.ref b] s) (entryFrame m ([Value.ref b] : List Value).toArray 7) := by
  obtain ⟨hx, hb, hr, hml, hown, hts, hX, hbl, hlocks, hgv⟩ := id C0
  have hw := gw_of hts
  obtain ⟨D, cB, cI, cJ, hK⟩ := st_K hts
  have hEX := st_X hts hgv
  obtain ⟨A, hAe⟩ : ∃ A : Nat → Prop, A = (fun q : Nat => s.heap.size ≤ q) := ⟨_, rfl⟩
  have hA : ∀ q : Nat, s.heap.size ≤ q → A q := by rw [hAe]; exact fun _ h => h
  have hS : va_S A s.heap s.heap [] := va_S.rf
  have hP : va_P D classes [] s.heap := fun k q h => by simp at h
  have hD : va_D A [] := ⟨fun i j p q h => by simp at h, fun k q h => by simp at h⟩
  have hl := lv_entry ([.ref b]) (n := 7) (Nat.le_of_ble_eq_true rfl)
  rw [lg_entry_eq]
  generalize (lg_sl ([.ref b]) ++ List.replicate (7 - (lg_sl ([.ref b])).length) Slot.unset).toArray = ls at hl ⊢
  have hl : lv_has ls 7 [(0, .ref b)] := hl
  refine va_new (D := D) (ci := 0) (fs := [.null, .null, .null, .int 0, .int 0, .int 0, .int 0, .null]) (C := R_PW) (T := F_PW) (N := 8) hx hb hw i_PW t_PW t_PW_ok hown (hw _ k_8) (hw _ k_9) (hw _ k_1) hK.1 hP hD hS hA rfl (fun j hj => by rcases (show j = 0 ∨ j = 1 ∨ j = 2 ∨ j = 3 ∨ j = 4 ∨ j = 5 ∨ j = 6 ∨ j = 7 by omega) with rfl | rfl | rfl | rfl | rfl | rfl | rfl | rfl <;> rfl) (by decide) (by decide) d_La_law_0 (fun q_0 H hP hD hS => ?_)
  refine W.widen (k := 1) (n := 8) (by decide) (by decide) ?_
  have hP : va_P D classes [(q_0, .inr (0, [.null, .null, .null, .int 0, .int 0, .int 0, .int 0, .null]))] H := hP
  have hD : va_D A [(q_0, .inr (0, [.null, .null, .null, .int 0, .int 0, .int 0, .int 0, .null]))] := hD
  refine lv_dup hx hb d_La_law_3 rfl ?_
  refine al_I (As := []) (rest := [.ref q_0]) (wr := []) ⟨hx, hb, hml, hown, hw⟩ (c_PW_init l D cB cI cJ q_0 0 0 0 0 H.size) g_La_15 hd_PW_init k_1 k_10 k_11 rfl ⟨rfl, rfl⟩ ⟨by decide, by decide⟩ hP hK hD hS hA [0] [] (by decide) rfl rfl (by decide) (by decide) rfl hl.1 rfl (Nat.le_of_ble_eq_true rfl) ⟨by decide, by decide⟩ d_La_law_4 (fun u_4 H locs hP hD hS => ?_)
  refine W.widen (k := 8) (n := 5320) (by decide) (by decide) ?_
  have hP : va_P D classes [(q_0, .inr (0, [.ref u_4.1, .ref u_4.2.1, .ref u_4.2.2.1, .int 0, .int 0, .int 0, .int 0, .ref u_4.2.2.2.1])), (u_4.1, .inl (cB, 600, .inl (bA (fun _ => 0)))), (u_4.2.1, .inl (cB, 600, .inl (bA (fun _ => 0)))), (u_4.2.2.1, .inl (cB, 600, .inl (bA (fun _ => 0)))), (u_4.2.2.2.1, .inr (1, [.ref u_4.2.2.2.2.1, .ref u_4.2.2.2.2.2.1, .ref u_4.2.2.2.2.2.2, .int 0])), (u_4.2.2.2.2.1, .inl (cI, 256, .inl (fun _ => 0))), (u_4.2.2.2.2.2.1, .inl (cI, 188, .inl (fun _ => 0))), (u_4.2.2.2.2.2.2, .inl (cB, 3064, .inl (bA (fun _ => 0))))] H := hP
  have hD : va_D A [(q_0, .inr (0, [.ref u_4.1, .ref u_4.2.1, .ref u_4.2.2.1, .int 0, .int 0, .int 0, .int 0, .ref u_4.2.2.2.1])), (u_4.1, .inl (cB, 600, .inl (bA (fun _ => 0)))), (u_4.2.1, .inl (cB, 600, .inl (bA (fun _ => 0)))), (u_4.2.2.1, .inl (cB, 600, .inl (bA (fun _ => 0)))), (u_4.2.2.2.1, .inr (1, [.ref u_4.2.2.2.2.1, .ref u_4.2.2.2.2.2.1, .ref u_4.2.2.2.2.2.2, .int 0])), (u_4.2.2.2.2.1, .inl (cI, 256, .inl (fun _ => 0))), (u_4.2.2.2.2.2.1, .inl (cI, 188, .inl (fun _ => 0))), (u_4.2.2.2.2.2.2, .inl (cB, 3064, .inl (bA (fun _ => 0))))] := hD
  refine lv_astore_n (lv' := [(1, .ref q_0), (0, .ref b)]) hx hb d_La_law_7 rfl hl (by decide) rfl (fun ls hl => ?_)
  refine va_new (D := D) (ci := 2) (fs := [.int 0, .null, .int 0, .null, .int 0, .null, .int 0, .null, .int 0, .null]) (C := R_Mo) (T := F_Mo) (N := 10) hx hb hw i_Mo t_Mo t_Mo_ok hown (hw _ k_216) (hw _ k_217) (hw _ k_3) hK.1 hP hD hS hA rfl (fun j hj => by rcases (show j = 0 ∨ j = 1 ∨ j = 2 ∨ j = 3 ∨ j = 4 ∨ j = 5 ∨ j = 6 ∨ j = 7 ∨ j = 8 ∨ j = 9 by omega) with rfl | rfl | rfl | rfl | rfl | rfl | rfl | rfl | rfl | rfl <;> rfl) (by decide) (by decide) d_La_law_8 (fun q_8 H hP hD hS => ?_)
  refine W.widen (k := 9) (n := 5330) (by decide) (by decide) ?_
  have hP : va_P D classes [(q_0, .inr (0, [.ref u_4.1, .ref u_4.2.1, .ref u_4.2.2.1, .int 0, .int 0, .int 0, .int 0, .ref u_4.2.2.2.1])), (u_4.1, .inl (cB, 600, .inl (bA (fun _ => 0)))), (u_4.2.1, .inl (cB, 600, .inl (bA (fun _ => 0)))), (u_4.2.2.1, .inl (cB, 600, .inl (bA (fun _ => 0)))), (u_4.2.2.2.1, .inr (1, [.ref u_4.2.2.2.2.1, .ref u_4.2.2.2.2.2.1, .ref u_4.2.2.2.2.2.2, .int 0])), (u_4.2.2.2.2.1, .inl (cI, 256, .inl (fun _ => 0))), (u_4.2.2.2.2.2.1, .inl (cI, 188, .inl (fun _ => 0))), (u_4.2.2.2.2.2.2, .inl (cB, 3064, .inl (bA (fun _ => 0)))), (q_8, .inr (2, [.int 0, .null, .int 0, .null, .int 0, .null, .int 0, .null, .int 0, .null]))] H := hP
  have hD : va_D A [(q_0, .inr (0, [.ref u_4.1, .ref u_4.2.1, .ref u_4.2.2.1, .int 0, .int 0, .int 0, .int 0, .ref u_4.2.2.2.1])), (u_4.1, .inl (cB, 600, .inl (bA (fun _ => 0)))), (u_4.2.1, .inl (cB, 600, .inl (bA (fun _ => 0)))), (u_4.2.2.1, .inl (cB, 600, .inl (bA (fun _ => 0)))), (u_4.2.2.2.1, .inr (1, [.ref u_4.2.2.2.2.1, .ref u_4.2.2.2.2.2.1, .ref u_4.2.2.2.2.2.2, .int 0])), (u_4.2.2.2.2.1, .inl (cI, 256, .inl (fun _ => 0))), (u_4.2.2.2.2.2.1, .inl (cI, 188, .inl (fun _ => 0))), (u_4.2.2.2.2.2.2, .inl (cB, 3064, .inl (bA (fun _ => 0)))), (q_8, .inr (2, [.int 0, .null, .int 0, .null, .int 0, .null, .int 0, .null, .int 0, .null]))] := hD
  refine lv_dup hx hb d_La_law_11 rfl ?_
  refine al_I (As := []) (rest := [.ref q_8]) (wr := [(q_0, .inr (0, [.ref u_4.1, .ref u_4.2.1, .ref u_4.2.2.1, .int 0, .int 0, .int 0, .int 0, .ref u_4.2.2.2.1])), (u_4.1, .inl (cB, 600, .inl (bA (fun _ => 0)))), (u_4.2.1, .inl (cB, 600, .inl (bA (fun _ => 0)))), (u_4.2.2.1, .inl (cB, 600, .inl (bA (fun _ => 0)))), (u_4.2.2.2.1, .inr (1, [.ref u_4.2.2.2.2.1, .ref u_4.2.2.2.2.2.1, .ref u_4.2.2.2.2.2.2, .int 0])), (u_4.2.2.2.2.1, .inl (cI, 256, .inl (fun _ => 0))), (u_4.2.2.2.2.2.1, .inl (cI, 188, .inl (fun _ => 0))), (u_4.2.2.2.2.2.2, .inl (cB, 3064, .inl (bA (fun _ => 0))))]) ⟨hx, hb, hml, hown, hw⟩ (c_Mo_init l D cB cI cJ q_8 0 0 0 0 0 H.size) g_La_18 hd_Mo_init k_3 k_218 k_219 rfl ⟨rfl, rfl⟩ ⟨by decide, by decide⟩ hP hK hD hS hA [8] [0, 1, 2, 3, 4, 5, 6, 7] (by decide) rfl rfl (by decide) (by decide) rfl hl.1 rfl (Nat.le_of_ble_eq_true rfl) ⟨by decide, by decide⟩ d_La_law_12 (fun u_12 H locs hP hD hS => ?_)
  refine W.widen (k := 14) (n := 9730) (by decide) (by decide) ?_
  have hP : va_P D classes [(q_0, .inr (0, [.ref u_4.1, .ref u_4.2.1, .ref u_4.2.2.1, .int 0, .int 0, .int 0, .int 0, .ref u_4.2.2.2.1])), (u_4.1, .inl (cB, 600, .inl (bA (fun _ => 0)))), (u_4.2.1, .inl (cB, 600, .inl (bA (fun _ => 0)))), (u_4.2.2.1, .inl (cB, 600, .inl (bA (fun _ => 0)))), (u_4.2.2.2.1, .inr (1, [.ref u_4.2.2.2.2.1, .ref u_4.2.2.2.2.2.1, .ref u_4.2.2.2.2.2.2, .int 0])), (u_4.2.2.2.2.1, .inl (cI, 256, .inl (fun _ => 0))), (u_4.2.2.2.2.2.1, .inl (cI, 188, .inl (fun _ => 0))), (u_4.2.2.2.2.2.2, .inl (cB, 3064, .inl (bA (fun _ => 0)))), (q_8, .inr (2, [.int (nI 0), .ref u_12.1, .int (nI 0), .ref u_12.2.1, .int (nI 0), .ref u_12.2.2.1, .int (nI 0), .ref u_12.2.2.2.1, .int (nI 0), .ref u_12.2.2.2.2])), (u_12.1, .inl (cI, 600, .inl (iA (fun _ => 0)))), (u_12.2.1, .inl (cI, 600, .inl (iA (fun _ => 0)))), (u_12.2.2.1, .inl (cI, 2000, .inl (iA (fun _ => 0)))), (u_12.2.2.2.1, .inl (cI, 600, .inl (iA (fun _ => 0)))), (u_12.2.2.2.2, .inl (cI, 600, .inl (iA (fun _ => 0))))] H := hP
  have hD : va_D A [(q_0, .inr (0, [.ref u_4.1, .ref u_4.2.1, .ref u_4.2.2.1, .int 0, .int 0, .int 0, .int 0, .ref u_4.2.2.2.1])), (u_4.1, .inl (cB, 600, .inl (bA (fun _ => 0)))), (u_4.2.1, .inl (cB, 600, .inl (bA (fun _ => 0)))), (u_4.2.2.1, .inl (cB, 600, .inl (bA (fun _ => 0)))), (u_4.2.2.2.1, .inr (1, [.ref u_4.2.2.2.2.1, .ref u_4.2.2.2.2.2.1, .ref u_4.2.2.2.2.2.2, .int 0])), (u_4.2.2.2.2.1, .inl (cI, 256, .inl (fun _ => 0))), (u_4.2.2.2.2.2.1, .inl (cI, 188, .inl (fun _ => 0))), (u_4.2.2.2.2.2.2, .inl (cB, 3064, .inl (bA (fun _ => 0)))), (q_8, .inr (2, [.int (nI 0), .ref u_12.1, .int (nI 0), .ref u_12.2.1, .int (nI 0), .ref u_12.2.2.1, .int (nI 0), .ref u_12.2.2.2.1, .int (nI 0), .ref u_12.2.2.2.2])), (u_12.1, .inl (cI, 600, .inl (iA (fun _ => 0)))), (u_12.2.1, .inl (cI, 600, .inl (iA (fun _ => 0)))), (u_12.2.2.1, .inl (cI, 2000, .inl (iA (fun _ => 0)))), (u_12.2.2.2.1, .inl (cI, 600, .inl (iA (fun _ => 0)))), (u_12.2.2.2.2, .inl (cI, 600, .inl (iA (fun _ => 0))))] := hD
  refine lv_astore_n (lv' := [(2, .ref q_8), (1, .ref q_0), (0, .ref b)]) hx hb d_La_law_15 rfl hl (by decide) rfl (fun ls hl => ?_)
  refine lv_iconst (v := nI 1) hx hb d_La_law_16 (by decide +kernel) ?_
  refine al_newa (atype := .long) (ty := .long) (a0 := (1, .inr (.inl (fun _ => 0)))) (N := 1) (N' := 1) hx hb rfl (hw _ k_318) hK hP hD hS hA 2 rfl (fun _ h9 => h9) (na_l _) rfl (by decide) (by decide +kernel) (by decide) (by decide) d_La_law_17 (fun q_17 H hP hD hS => ?_)
  refine W.widen (k := 15) (n := 9731) (by decide) (by decide) ?_
  have hP : va_P D classes [(q_0, .inr (0, [.ref u_4.1, .ref u_4.2.1, .ref u_4.2.2.1, .int 0, .int 0, .int 0, .int 0, .ref u_4.2.2.2.1])), (u_4.1, .inl (cB, 600, .inl (bA (fun _ => 0)))), (u_4.2.1, .inl (cB, 600, .inl (bA (fun _ => 0)))), (u_4.2.2.1, .inl (cB, 600, .inl (bA (fun _ => 0)))), (u_4.2.2.2.1, .inr (1, [.ref u_4.2.2.2.2.1, .ref u_4.2.2.2.2.2.1, .ref u_4.2.2.2.2.2.2, .int 0])), (u_4.2.2.2.2.1, .inl (cI, 256, .inl (fun _ => 0))), (u_4.2.2.2.2.2.1, .inl (cI, 188, .inl (fun _ => 0))), (u_4.2.2.2.2.2.2, .inl (cB, 3064, .inl (bA (fun _ => 0)))), (q_8, .inr (2, [.int (nI 0), .ref u_12.1, .int (nI 0), .ref u_12.2.1, .int (nI 0), .ref u_12.2.2.1, .int (nI 0), .ref u_12.2.2.2.1, .int (nI 0), .ref u_12.2.2.2.2])), (u_12.1, .inl (cI, 600, .inl (iA (fun _ => 0)))), (u_12.2.1, .inl (cI, 600, .inl (iA (fun _ => 0)))), (u_12.2.2.1, .inl (cI, 2000, .inl (iA (fun _ => 0)))), (u_12.2.2.2.1, .inl (cI, 600, .inl (iA (fun _ => 0)))), (u_12.2.2.2.2, .inl (cI, 600, .inl (iA (fun _ => 0)))), (q_17, .inl (cJ, 1, .inr (.inl (fun _ => 0))))] H := hP
  have hD : va_D A [(q_0, .inr (0, [.ref u_4.1, .ref u_4.2.1, .ref u_4.2.2.1, .int 0, .int 0, .int 0, .int 0, .ref u_4.2.2.2.1])), (u_4.1, .inl (cB, 600, .inl (bA (fun _ => 0)))), (u_4.2.1, .inl (cB, 600, .inl (bA (fun _ => 0)))), (u_4.2.2.1, .inl (cB, 600, .inl (bA (fun _ => 0)))), (u_4.2.2.2.1, .inr (1, [.ref u_4.2.2.2.2.1, .ref u_4.2.2.2.2.2.1, .ref u_4.2.2.2.2.2.2, .int 0])), (u_4.2.2.2.2.1, .inl (cI, 256, .inl (fun _ => 0))), (u_4.2.2.2.2.2.1, .inl (cI, 188, .inl (fun _ => 0))), (u_4.2.2.2.2.2.2, .inl (cB, 3064, .inl (bA (fun _ => 0)))), (q_8, .inr (2, [.int (nI 0), .ref u_12.1, .int (nI 0), .ref u_12.2.1, .int (nI 0), .ref u_12.2.2.1, .int (nI 0), .ref u_12.2.2.2.1, .int (nI 0), .ref u_12.2.2.2.2])), (u_12.1, .inl (cI, 600, .inl (iA (fun _ => 0)))), (u_12.2.1, .inl (cI, 600, .inl (iA (fun _ => 0)))), (u_12.2.2.1, .inl (cI, 2000, .inl (iA (fun _ => 0)))), (u_12.2.2.2.1, .inl (cI, 600, .inl (iA (fun _ => 0)))), (u_12.2.2.2.2, .inl (cI, 600, .inl (iA (fun _ => 0)))), (q_17, .inl (cJ, 1, .inr (.inl (fun _ => 0))))] := hD
  refine lv_astore_n (lv' := [(3, .ref q_17), (2, .ref q_8), (1, .ref q_0), (0, .ref b)]) hx hb d_La_law_19 rfl hl (by decide) rfl (fun ls hl => ?_)
  refine lv_iconst (v := nI 0) hx hb d_La_law_20 (by decide +kernel) ?_
  refine lv_istore (lv' := [(4, .int (nI 0)), (3, .ref q_17), (2, .ref q_8), (1, .ref q_0), (0, .ref b)]) hx hb d_La_law_21 hl (by decide) rfl (fun ls hl => ?_)
  have hn0 : (nI 0 : Int32) = 0 := nI_0
  refine law_loop hfl hL C0 hK hEX q_0 u_4.1 u_4.2.1 u_4.2.2.1 u_4.2.2.2.1 u_4.2.2.2.2.1 u_4.2.2.2.2.2.1 u_4.2.2.2.2.2.2 q_8 u_12.1 u_12.2.1 u_12.2.2.1 u_12.2.2.2.1 u_12.2.2.2.2 q_17 A hAe (L + 1) 0 (Nat.zero_le _) (by omega) (fun _ => 0) (fun _ => 0) (fun _ => 0) (fun _ => 0) (fun _ => 0) (fun _ => 0) (fun _ => 0) (fun _ => 0) (fun _ => 0) 0 0 0 [] (nI 0) z256 z256 z256 z256 z256 (by decide) (by decide) (by decide) okW_nil H locs ?_ ?_ hS ls (lv_sub hl [0, 4, 3, 2, 1] rfl)
  · exact (by rw [st_eq]; exact hP)
  · exact (by rw [st_eq]; exact hD)
set_option maxHeartbeats 4000000 in
theorem lw_walk (l : Launch) (hfl : l.flags = flags0) (b : Addr) (xs : List Int32) : MetFree l x (headSpec (Jvm.Cond.code x code maxLocals ret :: tables_1) room_1) (lw_P b xs) (fun _ _ _ _ _ => True) lw_Q := by
  refine MetFree.of_bodyS (code := code) (maxLocals := maxLocals) (ret := ret) (by decide) ?_ ?_
  · intro args s m h hn
    obtain ⟨meth, c, h1, h2, h3, h4, h5, h6, -, -⟩ := Cond.code_spec hn (atoms_spec (ws := Jvm.Cond.code x code maxLocals ret :: tables_1) h _ List.mem_cons_self)
    exact ⟨meth, c, h1, h2, h3, h4, h5, h6⟩
  · intro p e s m args below meth c s₁ B hml0 hP _
    obtain ⟨rfl, hx, hbd, hgv⟩ := hP
    obtain ⟨scr, harrAt, hlist, hof, hsmall⟩ := hx
    obtain ⟨hcb, hkn, -, -⟩ := State.arrayAt?_spec harrAt
    have hown : s.vm.findClass R_law = some m.cls := findClass_of_methodNamed B.named
    have hts0 : ∀ c ∈ (Jvm.Cond.code x code maxLocals ret :: tables_1), c.before #[Value.ref b] s = true := atoms_spec (ws := Jvm.Cond.code x code maxLocals ret :: tables_1) B.pre
    have hts : ∀ w ∈ lw_tbl, w.before #[Value.ref b] s = true := k2_hts_sels lw_privs (fun w hw => hts0 w (List.mem_cons_of_mem _ hw)) lw_privs_ok
    have hml : c.maxLocals = 7 := B.maxLocals_eq (hts0 _ List.mem_cons_self)
    have X₀ : Stand p l e room_1 s m #[Value.ref b] below meth c s₁ [] 0 0 := Stand.of_body B
    have hh0 : s₁.heap = s.heap := by rw [B.state]; rfl
    have hsz : scr.slots.size = xs.length := by rw [← Array.length_toList, hlist, List.length_map]
    have hval : ∀ j : Nat, j < xs.length → scr.slots[j]? = some (.int (xs.getD j 0)) := fun j hj => by
      rw [← Array.getElem?_toList, hlist]
      simp [hj]
    have hbl : b < s.heap.size := (Array.getElem?_eq_some_iff.mp hcb).1
    have hX : va_X b xs.length (fun j => xs.getD j 0) s s.heap := ⟨scr, hcb, hof, hkn, hsz, hval⟩
    have K : W p l e room_1 s m #[Value.ref b] below meth c s₁.heap [] 0 0 (lw_Z below #[Value.ref b] s) (entryFrame m ([Value.ref b] : List Value).toArray 7) := by
      rw [hh0]
      exact whole_start l hfl hbd ⟨B.exec, B.bytes, B.returns, hml, hown, hts, hX, hbl, B.notSynchronized, hgv⟩
    obtain ⟨t, a1, o, b1, b2, b3⟩ := K s₁ rfl X₀
    exact ⟨t, o, a1, b1, b2, b3⟩
theorem lw_pre_spec {args : Array Value} {s : State} (h : (Jvm.Cond.and given_1 narrow_1).before args s = true) (hr : rest_1_c.before args s = true) : ∃ (b : Addr) (xs : List Int32), lw_P b xs args s := by
  have hs := flat_of_before _ h
  have hq := flat_of_before _ hr
  have hc : (Cond.count 1).before args s = true := hs _ (by decide +kernel)
  have harr : (Cond.arrayOf (.arg 0) .int).before args s = true := hs _ (by decide +kernel)
  have hle : (Cond.le (.length (.arg 0)) (.int 2560)).before args s = true := hs _ (by decide +kernel)
  have hlen : (Cond.isInt (.length (.arg 0))).before args s = true := hq _ (by decide +kernel)
  have hall : (Cond.all (.arg 0) (.isInt (.elem (.arg 0) (.index 0)))).before args s = true := hq _ (by decide +kernel)
  obtain ⟨b, xs, hb, hx⟩ := State.ints_of_pre rfl harr hlen hall
  have hsm : xs.length < 2 ^ 31 := hx.choose_spec.2.2.2
  have hev : (Term.length (.arg 0)).eval args s none [] s = some (.int xs.length.toInt32) := hx.length_eval hb
  have hv := Cond.le_ints hev (show (Term.int 2560).eval args s none [] s = some (.int 2560) from rfl)
  have hd : xs.length.toInt32 ≤ 2560 := by
    simpa [Cond.before, Cond.holds, hv] using hle
  have hN : xs.length ≤ 2560 := (Int32.ofNat_le_ofNat hsm (by decide)).mp (show Int32.ofNat xs.length ≤ Int32.ofNat 2560 from hd)
  exact ⟨b, xs, Cond.one_arg hc (show args[0]? = some (.ref b) from hb), hx, hN, h⟩
theorem lw_comes (l : Launch) (hfl : l.flags = flags0) : Comes l x (Jvm.Cond.code x code maxLocals ret :: tables_1) room_1 (fun tb e args s => Calls_1 tb e args s ∧ rest_1 tb e args s ∧ Pre_1 tb e args s)
    (fun _ _ args s o t => lw_Q args s o t) := by
  intro p e ha hc hk s m args below hf hfit hheap happ hpre
  obtain ⟨b, xs, hP⟩ := lw_pre_spec hpre.2.2 hpre.2.1
  obtain ⟨k, o, h1, h2, h3, hQ⟩ := lw_walk l hfl b xs p e ha hc hk s m args below hf ((Spec.applies_iff_loose hf).mp happ).1 hP trivial
  exact ⟨k, o, h1, h2, h3, hQ⟩
theorem lw_frame {s t : State} {o : Outcome} {args : Array Value} (h : Framed s o t [] 601024 7293034) :
    Framed s o t (fieldLocs frame_1_writes args s ++ arrayLocs frame_1_arrays args s ++ staticLocs frame_1_statics s) 601024 7293034 := h
theorem lw_limb (L : Cond) (hL : ∀ (args : Array Value) (s t : State), L.after args s (.returned (some (.int 1))) t = true) :
    ArmFor flags0 classFile x code maxLocals ret World_1 tables_1 room_1 Calls_1 rest_1 Pre_1
      (fun tb e a s o t => postC L tb e a s o t ∧ Framed s o t (fieldLocs frame_1_writes a s ++ arrayLocs frame_1_arrays a s ++ staticLocs frame_1_statics s) 601024 7293034) := by
  intro l hfl _ _ p e ha hc hk s m args below hf hfit hheap happ hpre
  obtain ⟨k, o, h1, h2, h3, rfl, hF⟩ := lw_comes l hfl p e ha hc hk s m args below hf hfit hheap happ hpre
  exact ⟨k, _, h1, h2, h3, hL args s _, lw_frame hF⟩
theorem i_vc : Claimed_1_1 ∧ Claimed_1_2 := ⟨lw_limb limb_1_1 (fun args s t => by simp [limb_1_1, Cond.after, Cond.holds, Cond.value]), lw_limb limb_1_2 (fun args s t => Cond.after_iff.mpr (by
  first | (rw [show limb_1_2 = Cond.eq .result (.int 1) from rfl, Cond.eq_ints (x := 1) (y := 1) rfl rfl]; simp; done) | (simp [limb_1_2, Cond.value, Term.eval]; done)))⟩
end
