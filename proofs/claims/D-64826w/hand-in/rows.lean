section
-- ===== PART A of the skeleton (a starting text): the tables' words =====
/-- a private method of a class that the tables say can be made, by its rows of tables_1 -/
def lw_okq (q : MethodName × Nat) : Prop := (q.1.cls ≠ "java/lang/invoke/MethodHandle" ∧ q.1.cls ≠ "java/lang/invoke/VarHandle") ∧ Cond.instantiable q.1.cls q.2 ∈ tables_1 ∧ Cond.privateMethod q.1 ∈ tables_1 ∧ Cond.instanceMethod q.1 ∈ tables_1
theorem lw_p0 : lw_okq (⟨"DropCode", "draw", "()I"⟩, 16) := ⟨⟨by decide +kernel, by decide +kernel⟩, List.mem_of_getElem? (i := 4) (by decide +kernel), List.mem_of_getElem? (i := 68) (by decide +kernel), List.mem_of_getElem? (i := 69) (by decide +kernel)⟩
theorem lw_p1 : lw_okq (⟨"DropCode", "isWord", "(I)Z"⟩, 16) := ⟨⟨by decide +kernel, by decide +kernel⟩, List.mem_of_getElem? (i := 4) (by decide +kernel), List.mem_of_getElem? (i := 86) (by decide +kernel), List.mem_of_getElem? (i := 87) (by decide +kernel)⟩
theorem lw_p2 : lw_okq (⟨"DropCode", "look", "(I)V"⟩, 16) := ⟨⟨by decide +kernel, by decide +kernel⟩, List.mem_of_getElem? (i := 4) (by decide +kernel), List.mem_of_getElem? (i := 101) (by decide +kernel), List.mem_of_getElem? (i := 102) (by decide +kernel)⟩
theorem lw_p3 : lw_okq (⟨"DropCode", "turn", "()V"⟩, 16) := ⟨⟨by decide +kernel, by decide +kernel⟩, List.mem_of_getElem? (i := 4) (by decide +kernel), List.mem_of_getElem? (i := 105) (by decide +kernel), List.mem_of_getElem? (i := 106) (by decide +kernel)⟩
theorem lw_p4 : lw_okq (⟨"DropCodeModel", "draw", "(I)I"⟩, 14) := ⟨⟨by decide +kernel, by decide +kernel⟩, List.mem_of_getElem? (i := 144) (by decide +kernel), List.mem_of_getElem? (i := 201) (by decide +kernel), List.mem_of_getElem? (i := 202) (by decide +kernel)⟩
theorem lw_p5 : lw_okq (⟨"DropCodeModel", "drawn", "()I"⟩, 14) := ⟨⟨by decide +kernel, by decide +kernel⟩, List.mem_of_getElem? (i := 144) (by decide +kernel), List.mem_of_getElem? (i := 205) (by decide +kernel), List.mem_of_getElem? (i := 206) (by decide +kernel)⟩
theorem lw_p6 : lw_okq (⟨"DropCodeModel", "isOpen", "(I)I"⟩, 14) := ⟨⟨by decide +kernel, by decide +kernel⟩, List.mem_of_getElem? (i := 144) (by decide +kernel), List.mem_of_getElem? (i := 224) (by decide +kernel), List.mem_of_getElem? (i := 225) (by decide +kernel)⟩
theorem lw_p7 : lw_okq (⟨"DropCodeModel", "await", "(I)V"⟩, 14) := ⟨⟨by decide +kernel, by decide +kernel⟩, List.mem_of_getElem? (i := 144) (by decide +kernel), List.mem_of_getElem? (i := 228) (by decide +kernel), List.mem_of_getElem? (i := 229) (by decide +kernel)⟩
theorem lw_p8 : lw_okq (⟨"DropCodeModel", "off", "(I)I"⟩, 14) := ⟨⟨by decide +kernel, by decide +kernel⟩, List.mem_of_getElem? (i := 144) (by decide +kernel), List.mem_of_getElem? (i := 232) (by decide +kernel), List.mem_of_getElem? (i := 233) (by decide +kernel)⟩
theorem lw_p9 : lw_okq (⟨"DropCodeModel", "first", "()I"⟩, 14) := ⟨⟨by decide +kernel, by decide +kernel⟩, List.mem_of_getElem? (i := 144) (by decide +kernel), List.mem_of_getElem? (i := 236) (by decide +kernel), List.mem_of_getElem? (i := 237) (by decide +kernel)⟩
theorem lw_p10 : lw_okq (⟨"DropCodeModel", "learn", "(I)V"⟩, 14) := ⟨⟨by decide +kernel, by decide +kernel⟩, List.mem_of_getElem? (i := 144) (by decide +kernel), List.mem_of_getElem? (i := 240) (by decide +kernel), List.mem_of_getElem? (i := 241) (by decide +kernel)⟩
def lw_privs_1 : List (MethodName × Nat) := [(⟨"DropCode", "draw", "()I"⟩, 16), (⟨"DropCode", "isWord", "(I)Z"⟩, 16), (⟨"DropCode", "look", "(I)V"⟩, 16), (⟨"DropCode", "turn", "()V"⟩, 16), (⟨"DropCodeModel", "draw", "(I)I"⟩, 14), (⟨"DropCodeModel", "drawn", "()I"⟩, 14), (⟨"DropCodeModel", "isOpen", "(I)I"⟩, 14), (⟨"DropCodeModel", "await", "(I)V"⟩, 14), (⟨"DropCodeModel", "off", "(I)I"⟩, 14), (⟨"DropCodeModel", "first", "()I"⟩, 14), (⟨"DropCodeModel", "learn", "(I)V"⟩, 14)]
theorem lw_r1 : ∀ q ∈ lw_privs_1, lw_okq q := List.forall_mem_cons.mpr ⟨lw_p0, List.forall_mem_cons.mpr ⟨lw_p1, List.forall_mem_cons.mpr ⟨lw_p2, List.forall_mem_cons.mpr ⟨lw_p3, List.forall_mem_cons.mpr ⟨lw_p4, List.forall_mem_cons.mpr ⟨lw_p5, List.forall_mem_cons.mpr ⟨lw_p6, List.forall_mem_cons.mpr ⟨lw_p7, List.forall_mem_cons.mpr ⟨lw_p8, List.forall_mem_cons.mpr ⟨lw_p9, List.forall_mem_cons.mpr ⟨lw_p10, fun _ h => absurd h List.not_mem_nil⟩⟩⟩⟩⟩⟩⟩⟩⟩⟩⟩
def lw_privs : List (MethodName × Nat) := lw_privs_1
def lw_tbl : List Cond := k2_sels lw_privs ++ tables_1
theorem lw_privs_ok : ∀ q ∈ lw_privs, lw_okq q := lw_r1
-- ===== names =====
def R_X : String := "DropCode"
def F_X : u_T := fun k => match k with
  | 0 => ("DropCode", "row", "[I", true)
  | 1 => ("DropCode", "table", "[I", true)
  | 2 => ("DropCode", "k", "I", true)
  | 3 => ("DropCode", "lefts", "[I", true)
  | 4 => ("DropCode", "rests", "[I", true)
  | 5 => ("DropCode", "waits", "[Z", true)
  | 6 => ("DropCode", "drops", "I", false)
  | 7 => ("DropCode", "queue", "[I", true)
  | 8 => ("DropCode", "head", "I", false)
  | 9 => ("DropCode", "tail", "I", false)
  | 10 => ("DropCode", "words", "[I", true)
  | 11 => ("DropCode", "orders", "[I", true)
  | 12 => ("DropCode", "have", "I", false)
  | 13 => ("DropCode", "count", "I", false)
  | 14 => ("DropCode", "clashes", "I", false)
  | _ => ("DropCode", "state", "I", false)
def t_X : Nat → FieldType := fun k => match k with
  | 0 => .array .int
  | 1 => .array .int
  | 2 => .int
  | 3 => .array .int
  | 4 => .array .int
  | 5 => .array .boolean
  | 6 => .int
  | 7 => .array .int
  | 8 => .int
  | 9 => .int
  | 10 => .array .int
  | 11 => .array .int
  | 12 => .int
  | 13 => .int
  | 14 => .int
  | _ => .int
def R_M : String := "DropCodeModel"
def F_M : u_T := fun k => match k with
  | 0 => ("DropCodeModel", "words", "I", true)
  | 1 => ("DropCodeModel", "row", "[I", true)
  | 2 => ("DropCodeModel", "came", "I", false)
  | 3 => ("DropCodeModel", "seeds", "[I", true)
  | 4 => ("DropCodeModel", "values", "[I", true)
  | 5 => ("DropCodeModel", "waits", "[I", true)
  | 6 => ("DropCodeModel", "turns", "I", false)
  | 7 => ("DropCodeModel", "known", "[Z", true)
  | 8 => ("DropCodeModel", "told", "[I", true)
  | 9 => ("DropCodeModel", "order", "[I", true)
  | 10 => ("DropCodeModel", "found", "I", false)
  | 11 => ("DropCodeModel", "clashes", "I", false)
  | 12 => ("DropCodeModel", "in", "[Z", true)
  | _ => ("DropCodeModel", "state", "I", false)
def t_M : Nat → FieldType := fun k => match k with
  | 0 => .int
  | 1 => .array .int
  | 2 => .int
  | 3 => .array .int
  | 4 => .array .int
  | 5 => .array .int
  | 6 => .int
  | 7 => .array .boolean
  | 8 => .array .int
  | 9 => .array .int
  | 10 => .int
  | 11 => .int
  | 12 => .array .boolean
  | _ => .int
def R_law : String := "DropCodeLaw"
abbrev classes : List vw_C := [(R_X, F_X, 16), (R_M, F_M, 14)]
abbrev b_X_init : ByteArray := prog_1_method_1_code
def y_X_init : MethodName := ⟨R_X, "<init>", "(I)V"⟩
abbrev b_X_set : ByteArray := prog_1_method_4_code
def y_X_set : MethodName := ⟨R_X, "set", "(I)I"⟩
abbrev b_X_draw : ByteArray := prog_1_method_3_code
def y_X_draw : MethodName := ⟨R_X, "draw", "()I"⟩
abbrev b_X_bits : ByteArray := prog_1_method_2_code
def y_X_bits : MethodName := ⟨R_X, "bits", "(I)I"⟩
abbrev b_X_degree : ByteArray := prog_1_method_5_code
def y_X_degree : MethodName := ⟨R_X, "degree", "(I)I"⟩
abbrev b_X_put : ByteArray := prog_1_method_7_code
def y_X_put : MethodName := ⟨R_X, "put", "(II)I"⟩
abbrev b_X_isWord : ByteArray := prog_1_method_6_code
def y_X_isWord : MethodName := ⟨R_X, "isWord", "(I)Z"⟩
abbrev b_X_drop : ByteArray := prog_1_method_9_code
def y_X_drop : MethodName := ⟨R_X, "drop", "(I)I"⟩
abbrev b_X_xor : ByteArray := prog_1_method_8_code
def y_X_xor : MethodName := ⟨R_X, "xor", "([II)I"⟩
abbrev b_X_receive : ByteArray := prog_1_method_10_code
def y_X_receive : MethodName := ⟨R_X, "receive", "(II)I"⟩
abbrev b_X_look : ByteArray := prog_1_method_11_code
def y_X_look : MethodName := ⟨R_X, "look", "(I)V"⟩
abbrev b_X_turn : ByteArray := prog_1_method_12_code
def y_X_turn : MethodName := ⟨R_X, "turn", "()V"⟩
abbrev b_X_known : ByteArray := prog_1_method_13_code
def y_X_known : MethodName := ⟨R_X, "known", "(I)I"⟩
abbrev b_X_word : ByteArray := prog_1_method_14_code
def y_X_word : MethodName := ⟨R_X, "word", "(I)I"⟩
abbrev b_X_order : ByteArray := prog_1_method_15_code
def y_X_order : MethodName := ⟨R_X, "order", "(I)I"⟩
abbrev b_X_open : ByteArray := prog_1_method_16_code
def y_X_open : MethodName := ⟨R_X, "open", "(I)I"⟩
abbrev b_X_drops : ByteArray := prog_1_method_17_code
def y_X_drops : MethodName := ⟨R_X, "drops", "()I"⟩
abbrev b_X_count : ByteArray := prog_1_method_18_code
def y_X_count : MethodName := ⟨R_X, "count", "()I"⟩
abbrev b_X_clashes : ByteArray := prog_1_method_19_code
def y_X_clashes : MethodName := ⟨R_X, "clashes", "()I"⟩
abbrev b_X_forget : ByteArray := prog_1_method_20_code
def y_X_forget : MethodName := ⟨R_X, "forget", "()I"⟩
abbrev b_L_cell : ByteArray := method_2_code
def y_L_cell : MethodName := ⟨R_law, "cell", "([II)I"⟩
abbrev b_M_init : ByteArray := prog_3_method_1_code
def y_M_init : MethodName := ⟨R_M, "<init>", "(I)V"⟩
abbrev b_M_put : ByteArray := prog_3_method_4_code
def y_M_put : MethodName := ⟨R_M, "put", "(II)I"⟩
abbrev b_M_drop : ByteArray := prog_3_method_5_code
def y_M_drop : MethodName := ⟨R_M, "drop", "(I)I"⟩
abbrev b_M_draw : ByteArray := prog_3_method_3_code
def y_M_draw : MethodName := ⟨R_M, "draw", "(I)I"⟩
abbrev b_M_drawn : ByteArray := prog_3_method_2_code
def y_M_drawn : MethodName := ⟨R_M, "drawn", "()I"⟩
abbrev b_M_degree : ByteArray := prog_3_method_6_code
def y_M_degree : MethodName := ⟨R_M, "degree", "(I)I"⟩
abbrev b_M_set : ByteArray := prog_3_method_7_code
def y_M_set : MethodName := ⟨R_M, "set", "(I)I"⟩
abbrev b_M_receive : ByteArray := prog_3_method_13_code
def y_M_receive : MethodName := ⟨R_M, "receive", "(II)I"⟩
abbrev b_M_isOpen : ByteArray := prog_3_method_8_code
def y_M_isOpen : MethodName := ⟨R_M, "isOpen", "(I)I"⟩
abbrev b_M_await : ByteArray := prog_3_method_10_code
def y_M_await : MethodName := ⟨R_M, "await", "(I)V"⟩
abbrev b_M_off : ByteArray := prog_3_method_9_code
def y_M_off : MethodName := ⟨R_M, "off", "(I)I"⟩
abbrev b_M_first : ByteArray := prog_3_method_11_code
def y_M_first : MethodName := ⟨R_M, "first", "()I"⟩
abbrev b_M_learn : ByteArray := prog_3_method_12_code
def y_M_learn : MethodName := ⟨R_M, "learn", "(I)V"⟩
abbrev b_M_known : ByteArray := prog_3_method_14_code
def y_M_known : MethodName := ⟨R_M, "known", "(I)I"⟩
abbrev b_M_word : ByteArray := prog_3_method_15_code
def y_M_word : MethodName := ⟨R_M, "word", "(I)I"⟩
abbrev b_M_order : ByteArray := prog_3_method_16_code
def y_M_order : MethodName := ⟨R_M, "order", "(I)I"⟩
abbrev b_M_open : ByteArray := prog_3_method_17_code
def y_M_open : MethodName := ⟨R_M, "open", "(I)I"⟩
abbrev b_M_drops : ByteArray := prog_3_method_18_code
def y_M_drops : MethodName := ⟨R_M, "drops", "()I"⟩
abbrev b_M_count : ByteArray := prog_3_method_19_code
def y_M_count : MethodName := ⟨R_M, "count", "()I"⟩
abbrev b_M_clashes : ByteArray := prog_3_method_20_code
def y_M_clashes : MethodName := ⟨R_M, "clashes", "()I"⟩
abbrev b_M_forget : ByteArray := prog_3_method_21_code
def y_M_forget : MethodName := ⟨R_M, "forget", "()I"⟩
/-- the words that a callee may carry -/
def gw_tbl : List Cond := lw_tbl.filter goodWord
theorem gw_in {w : Cond} (h : w ∈ lw_tbl) (hg : goodWord w = true) : w ∈ gw_tbl := List.mem_filter.mpr ⟨h, hg⟩
theorem n_X : ∀ a, a < 16 → ∀ b, b < 16 → a ≠ b → (F_X a).2.1 ≠ (F_X b).2.1 := by decide +kernel
theorem t_X_ok : ∀ k, k < 16 → parseFieldDescriptor (F_X k).2.2.1 = some (t_X k) := by decide +kernel
theorem o_X : ∀ k, k < 16 → (F_X k).1 = R_X := by decide +kernel
set_option maxRecDepth 20000 in
theorem i_X : ∀ w ∈ u_ws R_X F_X 16, w ∈ gw_tbl := by decide +kernel
theorem n_M : ∀ a, a < 14 → ∀ b, b < 14 → a ≠ b → (F_M a).2.1 ≠ (F_M b).2.1 := by decide +kernel
theorem t_M_ok : ∀ k, k < 14 → parseFieldDescriptor (F_M k).2.2.1 = some (t_M k) := by decide +kernel
theorem o_M : ∀ k, k < 14 → (F_M k).1 = R_M := by decide +kernel
set_option maxRecDepth 20000 in
theorem i_M : ∀ w ∈ u_ws R_M F_M 14, w ∈ gw_tbl := by decide +kernel
set_option maxRecDepth 20000 in
theorem lw_good : ∀ w ∈ gw_tbl, (w.onTables && w.keeps) = true ∨ ∃ ty, w = .arrayClass ty := fun w hw => good_of_word (List.mem_filter.mp hw).2
/-- a virtual method as the tables have it -/
def mk_V (y : MethodName) (b : ByteArray) (n : Nat) (ret : Option FieldType) (np : Nat) : Prop := Cond.code y b n ret ∈ gw_tbl ∧ Cond.instanceMethod y ∈ gw_tbl ∧ Cond.selects y.cls y y ∈ gw_tbl ∧ Cond.initialized y.cls ∈ gw_tbl ∧ (y.cls ≠ "java/lang/invoke/MethodHandle" ∧ y.cls ≠ "java/lang/invoke/VarHandle" ∧ (parseMethodDescriptor y.desc).map (fun d => d.parameters.length) = some np)
def mk_S (y : MethodName) (b : ByteArray) (n : Nat) (ret : Option FieldType) (np : Nat) : Prop := Cond.code y b n ret ∈ gw_tbl ∧ Cond.static y ∈ gw_tbl ∧ Cond.initialized y.cls ∈ gw_tbl ∧ (y.cls ≠ "java/lang/invoke/MethodHandle" ∧ y.cls ≠ "java/lang/invoke/VarHandle" ∧ (parseMethodDescriptor y.desc).map (fun d => d.parameters.length) = some np)
def mk_I (y : MethodName) (b : ByteArray) (n : Nat) (np : Nat) : Prop := Cond.code y b n none ∈ gw_tbl ∧ Cond.instanceMethod y ∈ gw_tbl ∧ Cond.initialized y.cls ∈ gw_tbl ∧ y.name = "<init>" ∧ (y.cls ≠ "java/lang/invoke/MethodHandle" ∧ y.cls ≠ "java/lang/invoke/VarHandle" ∧ (parseMethodDescriptor y.desc).map (fun d => d.parameters.length) = some np)
set_option maxRecDepth 20000 in
theorem ok_X_init : mk_I y_X_init b_X_init 5 1 := ⟨gw_in (List.mem_of_getElem? (i := 18) rfl) rfl, gw_in (List.mem_of_getElem? (i := 17) rfl) rfl, gw_in (List.mem_of_getElem? (i := 12) rfl) rfl, rfl, by decide +kernel⟩
set_option maxRecDepth 20000 in
theorem ok_X_set : mk_V y_X_set b_X_set 5 (some .int) 1 := ⟨gw_in (List.mem_of_getElem? (i := 77) rfl) rfl, gw_in (List.mem_of_getElem? (i := 75) rfl) rfl, gw_in (List.mem_of_getElem? (i := 76) rfl) rfl, gw_in (List.mem_of_getElem? (i := 12) rfl) rfl, by decide +kernel⟩
set_option maxRecDepth 20000 in
theorem ok_X_draw : mk_V y_X_draw b_X_draw 1 (some .int) 0 := ⟨gw_in (List.mem_of_getElem? (i := 81) rfl) rfl, gw_in (List.mem_of_getElem? (i := 80) rfl) rfl, gw_in (List.mem_of_getElem? (i := 0) rfl) rfl, gw_in (List.mem_of_getElem? (i := 12) rfl) rfl, by decide +kernel⟩
set_option maxRecDepth 20000 in
theorem ok_X_bits : mk_S y_X_bits b_X_bits 3 (some .int) 1 := ⟨gw_in (List.mem_of_getElem? (i := 86) rfl) rfl, gw_in (List.mem_of_getElem? (i := 85) rfl) rfl, gw_in (List.mem_of_getElem? (i := 12) rfl) rfl, by decide +kernel⟩
set_option maxRecDepth 20000 in
theorem ok_X_degree : mk_V y_X_degree b_X_degree 2 (some .int) 1 := ⟨gw_in (List.mem_of_getElem? (i := 90) rfl) rfl, gw_in (List.mem_of_getElem? (i := 88) rfl) rfl, gw_in (List.mem_of_getElem? (i := 89) rfl) rfl, gw_in (List.mem_of_getElem? (i := 12) rfl) rfl, by decide +kernel⟩
set_option maxRecDepth 20000 in
theorem ok_X_put : mk_V y_X_put b_X_put 3 (some .int) 2 := ⟨gw_in (List.mem_of_getElem? (i := 95) rfl) rfl, gw_in (List.mem_of_getElem? (i := 93) rfl) rfl, gw_in (List.mem_of_getElem? (i := 94) rfl) rfl, gw_in (List.mem_of_getElem? (i := 12) rfl) rfl, by decide +kernel⟩
set_option maxRecDepth 20000 in
theorem ok_X_isWord : mk_V y_X_isWord b_X_isWord 2 (some .boolean) 1 := ⟨gw_in (List.mem_of_getElem? (i := 99) rfl) rfl, gw_in (List.mem_of_getElem? (i := 98) rfl) rfl, gw_in (List.mem_of_getElem? (i := 1) rfl) rfl, gw_in (List.mem_of_getElem? (i := 12) rfl) rfl, by decide +kernel⟩
set_option maxRecDepth 20000 in
theorem ok_X_drop : mk_V y_X_drop b_X_drop 2 (some .int) 1 := ⟨gw_in (List.mem_of_getElem? (i := 103) rfl) rfl, gw_in (List.mem_of_getElem? (i := 101) rfl) rfl, gw_in (List.mem_of_getElem? (i := 102) rfl) rfl, gw_in (List.mem_of_getElem? (i := 12) rfl) rfl, by decide +kernel⟩
set_option maxRecDepth 20000 in
theorem ok_X_xor : mk_S y_X_xor b_X_xor 4 (some .int) 2 := ⟨gw_in (List.mem_of_getElem? (i := 106) rfl) rfl, gw_in (List.mem_of_getElem? (i := 105) rfl) rfl, gw_in (List.mem_of_getElem? (i := 12) rfl) rfl, by decide +kernel⟩
set_option maxRecDepth 20000 in
theorem ok_X_receive : mk_V y_X_receive b_X_receive 4 (some .int) 2 := ⟨gw_in (List.mem_of_getElem? (i := 110) rfl) rfl, gw_in (List.mem_of_getElem? (i := 108) rfl) rfl, gw_in (List.mem_of_getElem? (i := 109) rfl) rfl, gw_in (List.mem_of_getElem? (i := 12) rfl) rfl, by decide +kernel⟩
set_option maxRecDepth 20000 in
theorem ok_X_look : mk_V y_X_look b_X_look 3 none 1 := ⟨gw_in (List.mem_of_getElem? (i := 114) rfl) rfl, gw_in (List.mem_of_getElem? (i := 113) rfl) rfl, gw_in (List.mem_of_getElem? (i := 2) rfl) rfl, gw_in (List.mem_of_getElem? (i := 12) rfl) rfl, by decide +kernel⟩
set_option maxRecDepth 20000 in
theorem ok_X_turn : mk_V y_X_turn b_X_turn 5 none 0 := ⟨gw_in (List.mem_of_getElem? (i := 118) rfl) rfl, gw_in (List.mem_of_getElem? (i := 117) rfl) rfl, gw_in (List.mem_of_getElem? (i := 3) rfl) rfl, gw_in (List.mem_of_getElem? (i := 12) rfl) rfl, by decide +kernel⟩
set_option maxRecDepth 20000 in
theorem ok_X_known : mk_V y_X_known b_X_known 2 (some .int) 1 := ⟨gw_in (List.mem_of_getElem? (i := 122) rfl) rfl, gw_in (List.mem_of_getElem? (i := 120) rfl) rfl, gw_in (List.mem_of_getElem? (i := 121) rfl) rfl, gw_in (List.mem_of_getElem? (i := 12) rfl) rfl, by decide +kernel⟩
set_option maxRecDepth 20000 in
theorem ok_X_word : mk_V y_X_word b_X_word 2 (some .int) 1 := ⟨gw_in (List.mem_of_getElem? (i := 126) rfl) rfl, gw_in (List.mem_of_getElem? (i := 124) rfl) rfl, gw_in (List.mem_of_getElem? (i := 125) rfl) rfl, gw_in (List.mem_of_getElem? (i := 12) rfl) rfl, by decide +kernel⟩
set_option maxRecDepth 20000 in
theorem ok_X_order : mk_V y_X_order b_X_order 2 (some .int) 1 := ⟨gw_in (List.mem_of_getElem? (i := 130) rfl) rfl, gw_in (List.mem_of_getElem? (i := 128) rfl) rfl, gw_in (List.mem_of_getElem? (i := 129) rfl) rfl, gw_in (List.mem_of_getElem? (i := 12) rfl) rfl, by decide +kernel⟩
set_option maxRecDepth 20000 in
theorem ok_X_open : mk_V y_X_open b_X_open 2 (some .int) 1 := ⟨gw_in (List.mem_of_getElem? (i := 134) rfl) rfl, gw_in (List.mem_of_getElem? (i := 132) rfl) rfl, gw_in (List.mem_of_getElem? (i := 133) rfl) rfl, gw_in (List.mem_of_getElem? (i := 12) rfl) rfl, by decide +kernel⟩
set_option maxRecDepth 20000 in
theorem ok_X_drops : mk_V y_X_drops b_X_drops 1 (some .int) 0 := ⟨gw_in (List.mem_of_getElem? (i := 138) rfl) rfl, gw_in (List.mem_of_getElem? (i := 136) rfl) rfl, gw_in (List.mem_of_getElem? (i := 137) rfl) rfl, gw_in (List.mem_of_getElem? (i := 12) rfl) rfl, by decide +kernel⟩
set_option maxRecDepth 20000 in
theorem ok_X_count : mk_V y_X_count b_X_count 1 (some .int) 0 := ⟨gw_in (List.mem_of_getElem? (i := 142) rfl) rfl, gw_in (List.mem_of_getElem? (i := 140) rfl) rfl, gw_in (List.mem_of_getElem? (i := 141) rfl) rfl, gw_in (List.mem_of_getElem? (i := 12) rfl) rfl, by decide +kernel⟩
set_option maxRecDepth 20000 in
theorem ok_X_clashes : mk_V y_X_clashes b_X_clashes 1 (some .int) 0 := ⟨gw_in (List.mem_of_getElem? (i := 146) rfl) rfl, gw_in (List.mem_of_getElem? (i := 144) rfl) rfl, gw_in (List.mem_of_getElem? (i := 145) rfl) rfl, gw_in (List.mem_of_getElem? (i := 12) rfl) rfl, by decide +kernel⟩
set_option maxRecDepth 20000 in
theorem ok_X_forget : mk_V y_X_forget b_X_forget 3 (some .int) 0 := ⟨gw_in (List.mem_of_getElem? (i := 150) rfl) rfl, gw_in (List.mem_of_getElem? (i := 148) rfl) rfl, gw_in (List.mem_of_getElem? (i := 149) rfl) rfl, gw_in (List.mem_of_getElem? (i := 12) rfl) rfl, by decide +kernel⟩
set_option maxRecDepth 20000 in
theorem ok_L_cell : mk_S y_L_cell b_L_cell 2 (some .int) 2 := ⟨gw_in (List.mem_of_getElem? (i := 153) rfl) rfl, gw_in (List.mem_of_getElem? (i := 152) rfl) rfl, gw_in (List.mem_of_getElem? (i := 11) rfl) rfl, by decide +kernel⟩
set_option maxRecDepth 20000 in
theorem ok_M_init : mk_I y_M_init b_M_init 3 1 := ⟨gw_in (List.mem_of_getElem? (i := 158) rfl) rfl, gw_in (List.mem_of_getElem? (i := 157) rfl) rfl, gw_in (List.mem_of_getElem? (i := 13) rfl) rfl, rfl, by decide +kernel⟩
set_option maxRecDepth 20000 in
theorem ok_M_put : mk_V y_M_put b_M_put 3 (some .int) 2 := ⟨gw_in (List.mem_of_getElem? (i := 206) rfl) rfl, gw_in (List.mem_of_getElem? (i := 204) rfl) rfl, gw_in (List.mem_of_getElem? (i := 205) rfl) rfl, gw_in (List.mem_of_getElem? (i := 13) rfl) rfl, by decide +kernel⟩
set_option maxRecDepth 20000 in
theorem ok_M_drop : mk_V y_M_drop b_M_drop 5 (some .int) 1 := ⟨gw_in (List.mem_of_getElem? (i := 210) rfl) rfl, gw_in (List.mem_of_getElem? (i := 208) rfl) rfl, gw_in (List.mem_of_getElem? (i := 209) rfl) rfl, gw_in (List.mem_of_getElem? (i := 13) rfl) rfl, by decide +kernel⟩
set_option maxRecDepth 20000 in
theorem ok_M_draw : mk_V y_M_draw b_M_draw 7 (some .int) 1 := ⟨gw_in (List.mem_of_getElem? (i := 214) rfl) rfl, gw_in (List.mem_of_getElem? (i := 213) rfl) rfl, gw_in (List.mem_of_getElem? (i := 4) rfl) rfl, gw_in (List.mem_of_getElem? (i := 13) rfl) rfl, by decide +kernel⟩
set_option maxRecDepth 20000 in
theorem ok_M_drawn : mk_V y_M_drawn b_M_drawn 1 (some .int) 0 := ⟨gw_in (List.mem_of_getElem? (i := 218) rfl) rfl, gw_in (List.mem_of_getElem? (i := 217) rfl) rfl, gw_in (List.mem_of_getElem? (i := 5) rfl) rfl, gw_in (List.mem_of_getElem? (i := 13) rfl) rfl, by decide +kernel⟩
set_option maxRecDepth 20000 in
theorem ok_M_degree : mk_V y_M_degree b_M_degree 2 (some .int) 1 := ⟨gw_in (List.mem_of_getElem? (i := 225) rfl) rfl, gw_in (List.mem_of_getElem? (i := 223) rfl) rfl, gw_in (List.mem_of_getElem? (i := 224) rfl) rfl, gw_in (List.mem_of_getElem? (i := 13) rfl) rfl, by decide +kernel⟩
set_option maxRecDepth 20000 in
theorem ok_M_set : mk_V y_M_set b_M_set 5 (some .int) 1 := ⟨gw_in (List.mem_of_getElem? (i := 229) rfl) rfl, gw_in (List.mem_of_getElem? (i := 227) rfl) rfl, gw_in (List.mem_of_getElem? (i := 228) rfl) rfl, gw_in (List.mem_of_getElem? (i := 13) rfl) rfl, by decide +kernel⟩
set_option maxRecDepth 20000 in
theorem ok_M_receive : mk_V y_M_receive b_M_receive 6 (some .int) 2 := ⟨gw_in (List.mem_of_getElem? (i := 233) rfl) rfl, gw_in (List.mem_of_getElem? (i := 231) rfl) rfl, gw_in (List.mem_of_getElem? (i := 232) rfl) rfl, gw_in (List.mem_of_getElem? (i := 13) rfl) rfl, by decide +kernel⟩
set_option maxRecDepth 20000 in
theorem ok_M_isOpen : mk_V y_M_isOpen b_M_isOpen 5 (some .int) 1 := ⟨gw_in (List.mem_of_getElem? (i := 237) rfl) rfl, gw_in (List.mem_of_getElem? (i := 236) rfl) rfl, gw_in (List.mem_of_getElem? (i := 6) rfl) rfl, gw_in (List.mem_of_getElem? (i := 13) rfl) rfl, by decide +kernel⟩
set_option maxRecDepth 20000 in
theorem ok_M_await : mk_V y_M_await b_M_await 2 none 1 := ⟨gw_in (List.mem_of_getElem? (i := 241) rfl) rfl, gw_in (List.mem_of_getElem? (i := 240) rfl) rfl, gw_in (List.mem_of_getElem? (i := 7) rfl) rfl, gw_in (List.mem_of_getElem? (i := 13) rfl) rfl, by decide +kernel⟩
set_option maxRecDepth 20000 in
theorem ok_M_off : mk_V y_M_off b_M_off 5 (some .int) 1 := ⟨gw_in (List.mem_of_getElem? (i := 245) rfl) rfl, gw_in (List.mem_of_getElem? (i := 244) rfl) rfl, gw_in (List.mem_of_getElem? (i := 8) rfl) rfl, gw_in (List.mem_of_getElem? (i := 13) rfl) rfl, by decide +kernel⟩
set_option maxRecDepth 20000 in
theorem ok_M_first : mk_V y_M_first b_M_first 3 (some .int) 0 := ⟨gw_in (List.mem_of_getElem? (i := 249) rfl) rfl, gw_in (List.mem_of_getElem? (i := 248) rfl) rfl, gw_in (List.mem_of_getElem? (i := 9) rfl) rfl, gw_in (List.mem_of_getElem? (i := 13) rfl) rfl, by decide +kernel⟩
set_option maxRecDepth 20000 in
theorem ok_M_learn : mk_V y_M_learn b_M_learn 7 none 1 := ⟨gw_in (List.mem_of_getElem? (i := 253) rfl) rfl, gw_in (List.mem_of_getElem? (i := 252) rfl) rfl, gw_in (List.mem_of_getElem? (i := 10) rfl) rfl, gw_in (List.mem_of_getElem? (i := 13) rfl) rfl, by decide +kernel⟩
set_option maxRecDepth 20000 in
theorem ok_M_known : mk_V y_M_known b_M_known 2 (some .int) 1 := ⟨gw_in (List.mem_of_getElem? (i := 257) rfl) rfl, gw_in (List.mem_of_getElem? (i := 255) rfl) rfl, gw_in (List.mem_of_getElem? (i := 256) rfl) rfl, gw_in (List.mem_of_getElem? (i := 13) rfl) rfl, by decide +kernel⟩
set_option maxRecDepth 20000 in
theorem ok_M_word : mk_V y_M_word b_M_word 2 (some .int) 1 := ⟨gw_in (List.mem_of_getElem? (i := 261) rfl) rfl, gw_in (List.mem_of_getElem? (i := 259) rfl) rfl, gw_in (List.mem_of_getElem? (i := 260) rfl) rfl, gw_in (List.mem_of_getElem? (i := 13) rfl) rfl, by decide +kernel⟩
set_option maxRecDepth 20000 in
theorem ok_M_order : mk_V y_M_order b_M_order 2 (some .int) 1 := ⟨gw_in (List.mem_of_getElem? (i := 265) rfl) rfl, gw_in (List.mem_of_getElem? (i := 263) rfl) rfl, gw_in (List.mem_of_getElem? (i := 264) rfl) rfl, gw_in (List.mem_of_getElem? (i := 13) rfl) rfl, by decide +kernel⟩
set_option maxRecDepth 20000 in
theorem ok_M_open : mk_V y_M_open b_M_open 2 (some .int) 1 := ⟨gw_in (List.mem_of_getElem? (i := 269) rfl) rfl, gw_in (List.mem_of_getElem? (i := 267) rfl) rfl, gw_in (List.mem_of_getElem? (i := 268) rfl) rfl, gw_in (List.mem_of_getElem? (i := 13) rfl) rfl, by decide +kernel⟩
set_option maxRecDepth 20000 in
theorem ok_M_drops : mk_V y_M_drops b_M_drops 1 (some .int) 0 := ⟨gw_in (List.mem_of_getElem? (i := 273) rfl) rfl, gw_in (List.mem_of_getElem? (i := 271) rfl) rfl, gw_in (List.mem_of_getElem? (i := 272) rfl) rfl, gw_in (List.mem_of_getElem? (i := 13) rfl) rfl, by decide +kernel⟩
set_option maxRecDepth 20000 in
theorem ok_M_count : mk_V y_M_count b_M_count 1 (some .int) 0 := ⟨gw_in (List.mem_of_getElem? (i := 277) rfl) rfl, gw_in (List.mem_of_getElem? (i := 275) rfl) rfl, gw_in (List.mem_of_getElem? (i := 276) rfl) rfl, gw_in (List.mem_of_getElem? (i := 13) rfl) rfl, by decide +kernel⟩
set_option maxRecDepth 20000 in
theorem ok_M_clashes : mk_V y_M_clashes b_M_clashes 1 (some .int) 0 := ⟨gw_in (List.mem_of_getElem? (i := 281) rfl) rfl, gw_in (List.mem_of_getElem? (i := 279) rfl) rfl, gw_in (List.mem_of_getElem? (i := 280) rfl) rfl, gw_in (List.mem_of_getElem? (i := 13) rfl) rfl, by decide +kernel⟩
set_option maxRecDepth 20000 in
theorem ok_M_forget : mk_V y_M_forget b_M_forget 3 (some .int) 0 := ⟨gw_in (List.mem_of_getElem? (i := 285) rfl) rfl, gw_in (List.mem_of_getElem? (i := 283) rfl) rfl, gw_in (List.mem_of_getElem? (i := 284) rfl) rfl, gw_in (List.mem_of_getElem? (i := 13) rfl) rfl, by decide +kernel⟩
set_option maxRecDepth 20000 in
theorem ml_L_15 : Cond.methodLink R_law 15 y_X_init ∈ gw_tbl := gw_in (List.mem_of_getElem? (i := 16) rfl) rfl
set_option maxRecDepth 20000 in
theorem ml_X_1 : Cond.methodLink R_X 1 objectInit ∈ gw_tbl := gw_in (List.mem_of_getElem? (i := 19) rfl) rfl
set_option maxRecDepth 20000 in
theorem kc_X_39 : Cond.constant R_X 39 65536 ∈ gw_tbl := gw_in (List.mem_of_getElem? (i := 22) rfl) rfl
set_option maxRecDepth 20000 in
theorem fl_X_7 : Cond.fieldLink R_X 7 R_X (F_X 0).2.1 (F_X 0).2.2.1 ∈ gw_tbl := gw_in (List.mem_of_getElem? (i := 23) rfl) rfl
set_option maxRecDepth 20000 in
theorem fl_X_13 : Cond.fieldLink R_X 13 R_X (F_X 1).2.1 (F_X 1).2.2.1 ∈ gw_tbl := gw_in (List.mem_of_getElem? (i := 24) rfl) rfl
set_option maxRecDepth 20000 in
theorem fl_X_35 : Cond.fieldLink R_X 35 R_X (F_X 2).2.1 (F_X 2).2.2.1 ∈ gw_tbl := gw_in (List.mem_of_getElem? (i := 25) rfl) rfl
set_option maxRecDepth 20000 in
theorem fl_X_16 : Cond.fieldLink R_X 16 R_X (F_X 3).2.1 (F_X 3).2.2.1 ∈ gw_tbl := gw_in (List.mem_of_getElem? (i := 26) rfl) rfl
set_option maxRecDepth 20000 in
theorem fl_X_19 : Cond.fieldLink R_X 19 R_X (F_X 4).2.1 (F_X 4).2.2.1 ∈ gw_tbl := gw_in (List.mem_of_getElem? (i := 27) rfl) rfl
set_option maxRecDepth 20000 in
theorem fl_X_22 : Cond.fieldLink R_X 22 R_X (F_X 5).2.1 (F_X 5).2.2.1 ∈ gw_tbl := gw_in (List.mem_of_getElem? (i := 28) rfl) rfl
set_option maxRecDepth 20000 in
theorem fl_X_64 : Cond.fieldLink R_X 64 R_X (F_X 6).2.1 (F_X 6).2.2.1 ∈ gw_tbl := gw_in (List.mem_of_getElem? (i := 29) rfl) rfl
set_option maxRecDepth 20000 in
theorem fl_X_26 : Cond.fieldLink R_X 26 R_X (F_X 7).2.1 (F_X 7).2.2.1 ∈ gw_tbl := gw_in (List.mem_of_getElem? (i := 30) rfl) rfl
set_option maxRecDepth 20000 in
theorem fl_X_74 : Cond.fieldLink R_X 74 R_X (F_X 8).2.1 (F_X 8).2.2.1 ∈ gw_tbl := gw_in (List.mem_of_getElem? (i := 31) rfl) rfl
set_option maxRecDepth 20000 in
theorem fl_X_77 : Cond.fieldLink R_X 77 R_X (F_X 9).2.1 (F_X 9).2.2.1 ∈ gw_tbl := gw_in (List.mem_of_getElem? (i := 32) rfl) rfl
set_option maxRecDepth 20000 in
theorem fl_X_29 : Cond.fieldLink R_X 29 R_X (F_X 10).2.1 (F_X 10).2.2.1 ∈ gw_tbl := gw_in (List.mem_of_getElem? (i := 33) rfl) rfl
set_option maxRecDepth 20000 in
theorem fl_X_32 : Cond.fieldLink R_X 32 R_X (F_X 11).2.1 (F_X 11).2.2.1 ∈ gw_tbl := gw_in (List.mem_of_getElem? (i := 34) rfl) rfl
set_option maxRecDepth 20000 in
theorem fl_X_67 : Cond.fieldLink R_X 67 R_X (F_X 12).2.1 (F_X 12).2.2.1 ∈ gw_tbl := gw_in (List.mem_of_getElem? (i := 35) rfl) rfl
set_option maxRecDepth 20000 in
theorem fl_X_83 : Cond.fieldLink R_X 83 R_X (F_X 13).2.1 (F_X 13).2.2.1 ∈ gw_tbl := gw_in (List.mem_of_getElem? (i := 36) rfl) rfl
set_option maxRecDepth 20000 in
theorem fl_X_86 : Cond.fieldLink R_X 86 R_X (F_X 14).2.1 (F_X 14).2.2.1 ∈ gw_tbl := gw_in (List.mem_of_getElem? (i := 37) rfl) rfl
set_option maxRecDepth 20000 in
theorem fl_X_40 : Cond.fieldLink R_X 40 R_X (F_X 15).2.1 (F_X 15).2.2.1 ∈ gw_tbl := gw_in (List.mem_of_getElem? (i := 38) rfl) rfl
set_option maxRecDepth 20000 in
theorem ml_L_35 : Cond.methodLink R_law 35 y_X_set ∈ gw_tbl := gw_in (List.mem_of_getElem? (i := 74) rfl) rfl
set_option maxRecDepth 20000 in
theorem ml_X_45 : Cond.methodLink R_X 45 y_X_draw ∈ gw_tbl := gw_in (List.mem_of_getElem? (i := 78) rfl) rfl
set_option maxRecDepth 20000 in
theorem kc_X_43 : Cond.constant R_X 43 1664525 ∈ gw_tbl := gw_in (List.mem_of_getElem? (i := 82) rfl) rfl
set_option maxRecDepth 20000 in
theorem kc_X_44 : Cond.constant R_X 44 1013904223 ∈ gw_tbl := gw_in (List.mem_of_getElem? (i := 83) rfl) rfl
set_option maxRecDepth 20000 in
theorem ml_X_49 : Cond.methodLink R_X 49 y_X_bits ∈ gw_tbl := gw_in (List.mem_of_getElem? (i := 84) rfl) rfl
set_option maxRecDepth 20000 in
theorem ml_L_31 : Cond.methodLink R_law 31 y_X_degree ∈ gw_tbl := gw_in (List.mem_of_getElem? (i := 87) rfl) rfl
set_option maxRecDepth 20000 in
theorem ml_X_53 : Cond.methodLink R_X 53 y_X_set ∈ gw_tbl := gw_in (List.mem_of_getElem? (i := 91) rfl) rfl
set_option maxRecDepth 20000 in
theorem ml_L_21 : Cond.methodLink R_law 21 y_X_put ∈ gw_tbl := gw_in (List.mem_of_getElem? (i := 92) rfl) rfl
set_option maxRecDepth 20000 in
theorem ml_X_56 : Cond.methodLink R_X 56 y_X_isWord ∈ gw_tbl := gw_in (List.mem_of_getElem? (i := 96) rfl) rfl
set_option maxRecDepth 20000 in
theorem ml_L_26 : Cond.methodLink R_law 26 y_X_drop ∈ gw_tbl := gw_in (List.mem_of_getElem? (i := 100) rfl) rfl
set_option maxRecDepth 20000 in
theorem ml_X_60 : Cond.methodLink R_X 60 y_X_xor ∈ gw_tbl := gw_in (List.mem_of_getElem? (i := 104) rfl) rfl
set_option maxRecDepth 20000 in
theorem ml_L_39 : Cond.methodLink R_law 39 y_X_receive ∈ gw_tbl := gw_in (List.mem_of_getElem? (i := 107) rfl) rfl
set_option maxRecDepth 20000 in
theorem ml_X_70 : Cond.methodLink R_X 70 y_X_look ∈ gw_tbl := gw_in (List.mem_of_getElem? (i := 111) rfl) rfl
set_option maxRecDepth 20000 in
theorem ml_X_80 : Cond.methodLink R_X 80 y_X_turn ∈ gw_tbl := gw_in (List.mem_of_getElem? (i := 115) rfl) rfl
set_option maxRecDepth 20000 in
theorem ml_L_43 : Cond.methodLink R_law 43 y_X_known ∈ gw_tbl := gw_in (List.mem_of_getElem? (i := 119) rfl) rfl
set_option maxRecDepth 20000 in
theorem ml_L_47 : Cond.methodLink R_law 47 y_X_word ∈ gw_tbl := gw_in (List.mem_of_getElem? (i := 123) rfl) rfl
set_option maxRecDepth 20000 in
theorem ml_L_51 : Cond.methodLink R_law 51 y_X_order ∈ gw_tbl := gw_in (List.mem_of_getElem? (i := 127) rfl) rfl
set_option maxRecDepth 20000 in
theorem ml_L_55 : Cond.methodLink R_law 55 y_X_open ∈ gw_tbl := gw_in (List.mem_of_getElem? (i := 131) rfl) rfl
set_option maxRecDepth 20000 in
theorem ml_L_59 : Cond.methodLink R_law 59 y_X_drops ∈ gw_tbl := gw_in (List.mem_of_getElem? (i := 135) rfl) rfl
set_option maxRecDepth 20000 in
theorem ml_L_64 : Cond.methodLink R_law 64 y_X_count ∈ gw_tbl := gw_in (List.mem_of_getElem? (i := 139) rfl) rfl
set_option maxRecDepth 20000 in
theorem ml_L_68 : Cond.methodLink R_law 68 y_X_clashes ∈ gw_tbl := gw_in (List.mem_of_getElem? (i := 143) rfl) rfl
set_option maxRecDepth 20000 in
theorem ml_L_72 : Cond.methodLink R_law 72 y_X_forget ∈ gw_tbl := gw_in (List.mem_of_getElem? (i := 147) rfl) rfl
set_option maxRecDepth 20000 in
theorem ml_L_9 : Cond.methodLink R_law 9 y_L_cell ∈ gw_tbl := gw_in (List.mem_of_getElem? (i := 151) rfl) rfl
set_option maxRecDepth 20000 in
theorem ml_L_20 : Cond.methodLink R_law 20 y_M_init ∈ gw_tbl := gw_in (List.mem_of_getElem? (i := 156) rfl) rfl
set_option maxRecDepth 20000 in
theorem ml_M_1 : Cond.methodLink R_M 1 objectInit ∈ gw_tbl := gw_in (List.mem_of_getElem? (i := 159) rfl) rfl
set_option maxRecDepth 20000 in
theorem fl_M_35 : Cond.fieldLink R_M 35 R_M (F_M 0).2.1 (F_M 0).2.2.1 ∈ gw_tbl := gw_in (List.mem_of_getElem? (i := 160) rfl) rfl
set_option maxRecDepth 20000 in
theorem fl_M_7 : Cond.fieldLink R_M 7 R_M (F_M 1).2.1 (F_M 1).2.2.1 ∈ gw_tbl := gw_in (List.mem_of_getElem? (i := 161) rfl) rfl
set_option maxRecDepth 20000 in
theorem fl_M_56 : Cond.fieldLink R_M 56 R_M (F_M 2).2.1 (F_M 2).2.2.1 ∈ gw_tbl := gw_in (List.mem_of_getElem? (i := 162) rfl) rfl
set_option maxRecDepth 20000 in
theorem fl_M_13 : Cond.fieldLink R_M 13 R_M (F_M 3).2.1 (F_M 3).2.2.1 ∈ gw_tbl := gw_in (List.mem_of_getElem? (i := 163) rfl) rfl
set_option maxRecDepth 20000 in
theorem fl_M_16 : Cond.fieldLink R_M 16 R_M (F_M 4).2.1 (F_M 4).2.2.1 ∈ gw_tbl := gw_in (List.mem_of_getElem? (i := 164) rfl) rfl
set_option maxRecDepth 20000 in
theorem fl_M_19 : Cond.fieldLink R_M 19 R_M (F_M 5).2.1 (F_M 5).2.2.1 ∈ gw_tbl := gw_in (List.mem_of_getElem? (i := 165) rfl) rfl
set_option maxRecDepth 20000 in
theorem fl_M_53 : Cond.fieldLink R_M 53 R_M (F_M 6).2.1 (F_M 6).2.2.1 ∈ gw_tbl := gw_in (List.mem_of_getElem? (i := 166) rfl) rfl
set_option maxRecDepth 20000 in
theorem fl_M_22 : Cond.fieldLink R_M 22 R_M (F_M 7).2.1 (F_M 7).2.2.1 ∈ gw_tbl := gw_in (List.mem_of_getElem? (i := 167) rfl) rfl
set_option maxRecDepth 20000 in
theorem fl_M_26 : Cond.fieldLink R_M 26 R_M (F_M 8).2.1 (F_M 8).2.2.1 ∈ gw_tbl := gw_in (List.mem_of_getElem? (i := 168) rfl) rfl
set_option maxRecDepth 20000 in
theorem fl_M_29 : Cond.fieldLink R_M 29 R_M (F_M 9).2.1 (F_M 9).2.2.1 ∈ gw_tbl := gw_in (List.mem_of_getElem? (i := 169) rfl) rfl
set_option maxRecDepth 20000 in
theorem fl_M_62 : Cond.fieldLink R_M 62 R_M (F_M 10).2.1 (F_M 10).2.2.1 ∈ gw_tbl := gw_in (List.mem_of_getElem? (i := 170) rfl) rfl
set_option maxRecDepth 20000 in
theorem fl_M_72 : Cond.fieldLink R_M 72 R_M (F_M 11).2.1 (F_M 11).2.2.1 ∈ gw_tbl := gw_in (List.mem_of_getElem? (i := 171) rfl) rfl
set_option maxRecDepth 20000 in
theorem fl_M_32 : Cond.fieldLink R_M 32 R_M (F_M 12).2.1 (F_M 12).2.2.1 ∈ gw_tbl := gw_in (List.mem_of_getElem? (i := 172) rfl) rfl
set_option maxRecDepth 20000 in
theorem fl_M_39 : Cond.fieldLink R_M 39 R_M (F_M 13).2.1 (F_M 13).2.2.1 ∈ gw_tbl := gw_in (List.mem_of_getElem? (i := 173) rfl) rfl
set_option maxRecDepth 20000 in
theorem ml_L_25 : Cond.methodLink R_law 25 y_M_put ∈ gw_tbl := gw_in (List.mem_of_getElem? (i := 203) rfl) rfl
set_option maxRecDepth 20000 in
theorem ml_L_30 : Cond.methodLink R_law 30 y_M_drop ∈ gw_tbl := gw_in (List.mem_of_getElem? (i := 207) rfl) rfl
set_option maxRecDepth 20000 in
theorem ml_M_49 : Cond.methodLink R_M 49 y_M_draw ∈ gw_tbl := gw_in (List.mem_of_getElem? (i := 211) rfl) rfl
set_option maxRecDepth 20000 in
theorem ml_M_44 : Cond.methodLink R_M 44 y_M_drawn ∈ gw_tbl := gw_in (List.mem_of_getElem? (i := 215) rfl) rfl
set_option maxRecDepth 20000 in
theorem kc_M_42 : Cond.constant R_M 42 1664525 ∈ gw_tbl := gw_in (List.mem_of_getElem? (i := 219) rfl) rfl
set_option maxRecDepth 20000 in
theorem kc_M_43 : Cond.constant R_M 43 1013904223 ∈ gw_tbl := gw_in (List.mem_of_getElem? (i := 220) rfl) rfl
set_option maxRecDepth 20000 in
theorem kc_M_48 : Cond.constant R_M 48 65536 ∈ gw_tbl := gw_in (List.mem_of_getElem? (i := 221) rfl) rfl
set_option maxRecDepth 20000 in
theorem ml_L_34 : Cond.methodLink R_law 34 y_M_degree ∈ gw_tbl := gw_in (List.mem_of_getElem? (i := 222) rfl) rfl
set_option maxRecDepth 20000 in
theorem ml_L_38 : Cond.methodLink R_law 38 y_M_set ∈ gw_tbl := gw_in (List.mem_of_getElem? (i := 226) rfl) rfl
set_option maxRecDepth 20000 in
theorem ml_L_42 : Cond.methodLink R_law 42 y_M_receive ∈ gw_tbl := gw_in (List.mem_of_getElem? (i := 230) rfl) rfl
set_option maxRecDepth 20000 in
theorem ml_M_65 : Cond.methodLink R_M 65 y_M_isOpen ∈ gw_tbl := gw_in (List.mem_of_getElem? (i := 234) rfl) rfl
set_option maxRecDepth 20000 in
theorem ml_M_68 : Cond.methodLink R_M 68 y_M_await ∈ gw_tbl := gw_in (List.mem_of_getElem? (i := 238) rfl) rfl
set_option maxRecDepth 20000 in
theorem ml_M_59 : Cond.methodLink R_M 59 y_M_off ∈ gw_tbl := gw_in (List.mem_of_getElem? (i := 242) rfl) rfl
set_option maxRecDepth 20000 in
theorem ml_M_75 : Cond.methodLink R_M 75 y_M_first ∈ gw_tbl := gw_in (List.mem_of_getElem? (i := 246) rfl) rfl
set_option maxRecDepth 20000 in
theorem ml_M_78 : Cond.methodLink R_M 78 y_M_learn ∈ gw_tbl := gw_in (List.mem_of_getElem? (i := 250) rfl) rfl
set_option maxRecDepth 20000 in
theorem ml_L_46 : Cond.methodLink R_law 46 y_M_known ∈ gw_tbl := gw_in (List.mem_of_getElem? (i := 254) rfl) rfl
set_option maxRecDepth 20000 in
theorem ml_L_50 : Cond.methodLink R_law 50 y_M_word ∈ gw_tbl := gw_in (List.mem_of_getElem? (i := 258) rfl) rfl
set_option maxRecDepth 20000 in
theorem ml_L_54 : Cond.methodLink R_law 54 y_M_order ∈ gw_tbl := gw_in (List.mem_of_getElem? (i := 262) rfl) rfl
set_option maxRecDepth 20000 in
theorem ml_L_58 : Cond.methodLink R_law 58 y_M_open ∈ gw_tbl := gw_in (List.mem_of_getElem? (i := 266) rfl) rfl
set_option maxRecDepth 20000 in
theorem ml_L_63 : Cond.methodLink R_law 63 y_M_drops ∈ gw_tbl := gw_in (List.mem_of_getElem? (i := 270) rfl) rfl
set_option maxRecDepth 20000 in
theorem ml_L_67 : Cond.methodLink R_law 67 y_M_count ∈ gw_tbl := gw_in (List.mem_of_getElem? (i := 274) rfl) rfl
set_option maxRecDepth 20000 in
theorem ml_L_71 : Cond.methodLink R_law 71 y_M_clashes ∈ gw_tbl := gw_in (List.mem_of_getElem? (i := 278) rfl) rfl
set_option maxRecDepth 20000 in
theorem ml_L_75 : Cond.methodLink R_law 75 y_M_forget ∈ gw_tbl := gw_in (List.mem_of_getElem? (i := 282) rfl) rfl
set_option maxRecDepth 20000 in
theorem oi_inst : Cond.instanceMethod objectInit ∈ gw_tbl := gw_in (List.mem_of_getElem? (i := 20) rfl) rfl
set_option maxRecDepth 20000 in
theorem oi_code : Cond.code objectInit ⟨#[0xb1]⟩ 1 none ∈ gw_tbl := gw_in (List.mem_of_getElem? (i := 21) rfl) rfl
set_option maxRecDepth 20000 in
theorem ac_int : Cond.arrayClass .int ∈ gw_tbl := gw_in (List.mem_of_getElem? (i := 72) rfl) rfl
set_option maxRecDepth 20000 in
theorem ac_bool : Cond.arrayClass .boolean ∈ gw_tbl := gw_in (List.mem_of_getElem? (i := 73) rfl) rfl
set_option maxRecDepth 20000 in
theorem cl_X : Cond.classLink R_law 7 R_X ∈ gw_tbl := gw_in (List.mem_of_getElem? (i := 14) rfl) rfl
set_option maxRecDepth 20000 in
theorem in_X : Cond.instantiable R_X 16 ∈ gw_tbl := gw_in (List.mem_of_getElem? (i := 15) rfl) rfl
set_option maxRecDepth 20000 in
theorem iz_X : Cond.initialized R_X ∈ gw_tbl := gw_in (List.mem_of_getElem? (i := 12) rfl) rfl
set_option maxRecDepth 20000 in
theorem cl_M : Cond.classLink R_law 18 R_M ∈ gw_tbl := gw_in (List.mem_of_getElem? (i := 154) rfl) rfl
set_option maxRecDepth 20000 in
theorem in_M : Cond.instantiable R_M 14 ∈ gw_tbl := gw_in (List.mem_of_getElem? (i := 155) rfl) rfl
set_option maxRecDepth 20000 in
theorem iz_M : Cond.initialized R_M ∈ gw_tbl := gw_in (List.mem_of_getElem? (i := 13) rfl) rfl
end
section
theorem d_X_init_0 : decode b_X_init 0 = .ok (.aload_n 0, 1) := by decide +kernel
theorem d_X_init_1 : decode b_X_init 1 = .ok (.invokespecial 1, 3) := by decide +kernel
theorem d_X_init_4 : decode b_X_init 4 = .ok (.aload_n 0, 1) := by decide +kernel
theorem d_X_init_5 : decode b_X_init 5 = .ok (.bipush 32, 2) := by decide +kernel
theorem d_X_init_7 : decode b_X_init 7 = .ok (.newarray .int, 2) := by decide +kernel
theorem d_X_init_9 : decode b_X_init 9 = .ok (.putfield 7, 3) := by decide +kernel
theorem d_X_init_12 : decode b_X_init 12 = .ok (.aload_n 0, 1) := by decide +kernel
theorem d_X_init_13 : decode b_X_init 13 = .ok (.bipush 33, 2) := by decide +kernel
theorem d_X_init_15 : decode b_X_init 15 = .ok (.newarray .int, 2) := by decide +kernel
theorem d_X_init_17 : decode b_X_init 17 = .ok (.putfield 13, 3) := by decide +kernel
theorem d_X_init_20 : decode b_X_init 20 = .ok (.aload_n 0, 1) := by decide +kernel
theorem d_X_init_21 : decode b_X_init 21 = .ok (.bipush 60, 2) := by decide +kernel
theorem d_X_init_23 : decode b_X_init 23 = .ok (.newarray .int, 2) := by decide +kernel
theorem d_X_init_25 : decode b_X_init 25 = .ok (.putfield 16, 3) := by decide +kernel
theorem d_X_init_28 : decode b_X_init 28 = .ok (.aload_n 0, 1) := by decide +kernel
theorem d_X_init_29 : decode b_X_init 29 = .ok (.bipush 60, 2) := by decide +kernel
theorem d_X_init_31 : decode b_X_init 31 = .ok (.newarray .int, 2) := by decide +kernel
theorem d_X_init_33 : decode b_X_init 33 = .ok (.putfield 19, 3) := by decide +kernel
theorem d_X_init_36 : decode b_X_init 36 = .ok (.aload_n 0, 1) := by decide +kernel
theorem d_X_init_37 : decode b_X_init 37 = .ok (.bipush 60, 2) := by decide +kernel
theorem d_X_init_39 : decode b_X_init 39 = .ok (.newarray .boolean, 2) := by decide +kernel
theorem d_X_init_41 : decode b_X_init 41 = .ok (.putfield 22, 3) := by decide +kernel
theorem d_X_init_44 : decode b_X_init 44 = .ok (.aload_n 0, 1) := by decide +kernel
theorem d_X_init_45 : decode b_X_init 45 = .ok (.bipush 64, 2) := by decide +kernel
theorem d_X_init_47 : decode b_X_init 47 = .ok (.newarray .int, 2) := by decide +kernel
theorem d_X_init_49 : decode b_X_init 49 = .ok (.putfield 26, 3) := by decide +kernel
theorem d_X_init_52 : decode b_X_init 52 = .ok (.aload_n 0, 1) := by decide +kernel
theorem d_X_init_53 : decode b_X_init 53 = .ok (.bipush 32, 2) := by decide +kernel
theorem d_X_init_55 : decode b_X_init 55 = .ok (.newarray .int, 2) := by decide +kernel
theorem d_X_init_57 : decode b_X_init 57 = .ok (.putfield 29, 3) := by decide +kernel
theorem d_X_init_60 : decode b_X_init 60 = .ok (.aload_n 0, 1) := by decide +kernel
theorem d_X_init_61 : decode b_X_init 61 = .ok (.bipush 32, 2) := by decide +kernel
theorem d_X_init_63 : decode b_X_init 63 = .ok (.newarray .int, 2) := by decide +kernel
theorem d_X_init_65 : decode b_X_init 65 = .ok (.putfield 32, 3) := by decide +kernel
theorem d_X_init_68 : decode b_X_init 68 = .ok (.iload_n 1, 1) := by decide +kernel
theorem d_X_init_69 : decode b_X_init 69 = .ok (.bipush 32, 2) := by decide +kernel
theorem d_X_init_71 : decode b_X_init 71 = .ok (.irem, 1) := by decide +kernel
theorem d_X_init_72 : decode b_X_init 72 = .ok (.istore_n 2, 1) := by decide +kernel
theorem d_X_init_73 : decode b_X_init 73 = .ok (.aload_n 0, 1) := by decide +kernel
theorem d_X_init_74 : decode b_X_init 74 = .ok (.iconst 1, 1) := by decide +kernel
theorem d_X_init_75 : decode b_X_init 75 = .ok (.iload_n 2, 1) := by decide +kernel
theorem d_X_init_76 : decode b_X_init 76 = .ok (.ifCond .ge 10, 3) := by decide +kernel
theorem d_X_init_79 : decode b_X_init 79 = .ok (.iload_n 2, 1) := by decide +kernel
theorem d_X_init_80 : decode b_X_init 80 = .ok (.bipush 32, 2) := by decide +kernel
theorem d_X_init_82 : decode b_X_init 82 = .ok (.iadd, 1) := by decide +kernel
theorem d_X_init_83 : decode b_X_init 83 = .ok (.goto 4, 3) := by decide +kernel
theorem d_X_init_86 : decode b_X_init 86 = .ok (.iload_n 2, 1) := by decide +kernel
theorem d_X_init_87 : decode b_X_init 87 = .ok (.iadd, 1) := by decide +kernel
theorem d_X_init_88 : decode b_X_init 88 = .ok (.putfield 35, 3) := by decide +kernel
theorem d_X_init_91 : decode b_X_init 91 = .ok (.ldc 39, 2) := by decide +kernel
theorem d_X_init_93 : decode b_X_init 93 = .ok (.aload_n 0, 1) := by decide +kernel
theorem d_X_init_94 : decode b_X_init 94 = .ok (.getfield 35, 3) := by decide +kernel
theorem d_X_init_97 : decode b_X_init 97 = .ok (.idiv, 1) := by decide +kernel
theorem d_X_init_98 : decode b_X_init 98 = .ok (.istore_n 3, 1) := by decide +kernel
theorem d_X_init_99 : decode b_X_init 99 = .ok (.aload_n 0, 1) := by decide +kernel
theorem d_X_init_100 : decode b_X_init 100 = .ok (.getfield 13, 3) := by decide +kernel
theorem d_X_init_103 : decode b_X_init 103 = .ok (.iconst 1, 1) := by decide +kernel
theorem d_X_init_104 : decode b_X_init 104 = .ok (.iload_n 3, 1) := by decide +kernel
theorem d_X_init_105 : decode b_X_init 105 = .ok (.iastore, 1) := by decide +kernel
theorem d_X_init_106 : decode b_X_init 106 = .ok (.iconst 2, 1) := by decide +kernel
theorem d_X_init_107 : decode b_X_init 107 = .ok (.istore 4, 2) := by decide +kernel
theorem d_X_init_109 : decode b_X_init 109 = .ok (.iload 4, 2) := by decide +kernel
theorem d_X_init_111 : decode b_X_init 111 = .ok (.aload_n 0, 1) := by decide +kernel
theorem d_X_init_112 : decode b_X_init 112 = .ok (.getfield 35, 3) := by decide +kernel
theorem d_X_init_115 : decode b_X_init 115 = .ok (.if_icmp .gt 30, 3) := by decide +kernel
theorem d_X_init_118 : decode b_X_init 118 = .ok (.iload_n 3, 1) := by decide +kernel
theorem d_X_init_119 : decode b_X_init 119 = .ok (.ldc 39, 2) := by decide +kernel
theorem d_X_init_121 : decode b_X_init 121 = .ok (.iload 4, 2) := by decide +kernel
theorem d_X_init_123 : decode b_X_init 123 = .ok (.iload 4, 2) := by decide +kernel
theorem d_X_init_125 : decode b_X_init 125 = .ok (.iconst 1, 1) := by decide +kernel
theorem d_X_init_126 : decode b_X_init 126 = .ok (.isub, 1) := by decide +kernel
theorem d_X_init_127 : decode b_X_init 127 = .ok (.imul, 1) := by decide +kernel
theorem d_X_init_128 : decode b_X_init 128 = .ok (.idiv, 1) := by decide +kernel
theorem d_X_init_129 : decode b_X_init 129 = .ok (.iadd, 1) := by decide +kernel
theorem d_X_init_130 : decode b_X_init 130 = .ok (.istore_n 3, 1) := by decide +kernel
theorem d_X_init_131 : decode b_X_init 131 = .ok (.aload_n 0, 1) := by decide +kernel
theorem d_X_init_132 : decode b_X_init 132 = .ok (.getfield 13, 3) := by decide +kernel
theorem d_X_init_135 : decode b_X_init 135 = .ok (.iload 4, 2) := by decide +kernel
theorem d_X_init_137 : decode b_X_init 137 = .ok (.iload_n 3, 1) := by decide +kernel
theorem d_X_init_138 : decode b_X_init 138 = .ok (.iastore, 1) := by decide +kernel
theorem d_X_init_139 : decode b_X_init 139 = .ok (.iinc 4 1, 3) := by decide +kernel
theorem d_X_init_142 : decode b_X_init 142 = .ok (.goto (-33), 3) := by decide +kernel
theorem d_X_init_145 : decode b_X_init 145 = .ok (.return_, 1) := by decide +kernel
theorem d_X_set_0 : decode b_X_set 0 = .ok (.aload_n 0, 1) := by decide +kernel
theorem d_X_set_1 : decode b_X_set 1 = .ok (.iload_n 1, 1) := by decide +kernel
theorem d_X_set_2 : decode b_X_set 2 = .ok (.putfield 40, 3) := by decide +kernel
theorem d_X_set_5 : decode b_X_set 5 = .ok (.aload_n 0, 1) := by decide +kernel
theorem d_X_set_6 : decode b_X_set 6 = .ok (.invokevirtual 45, 3) := by decide +kernel
theorem d_X_set_9 : decode b_X_set 9 = .ok (.istore_n 2, 1) := by decide +kernel
theorem d_X_set_10 : decode b_X_set 10 = .ok (.iconst 1, 1) := by decide +kernel
theorem d_X_set_11 : decode b_X_set 11 = .ok (.istore_n 3, 1) := by decide +kernel
theorem d_X_set_12 : decode b_X_set 12 = .ok (.iload_n 3, 1) := by decide +kernel
theorem d_X_set_13 : decode b_X_set 13 = .ok (.aload_n 0, 1) := by decide +kernel
theorem d_X_set_14 : decode b_X_set 14 = .ok (.getfield 35, 3) := by decide +kernel
theorem d_X_set_17 : decode b_X_set 17 = .ok (.if_icmp .ge 19, 3) := by decide +kernel
theorem d_X_set_20 : decode b_X_set 20 = .ok (.iload_n 2, 1) := by decide +kernel
theorem d_X_set_21 : decode b_X_set 21 = .ok (.aload_n 0, 1) := by decide +kernel
theorem d_X_set_22 : decode b_X_set 22 = .ok (.getfield 13, 3) := by decide +kernel
theorem d_X_set_25 : decode b_X_set 25 = .ok (.iload_n 3, 1) := by decide +kernel
theorem d_X_set_26 : decode b_X_set 26 = .ok (.iaload, 1) := by decide +kernel
theorem d_X_set_27 : decode b_X_set 27 = .ok (.if_icmp .lt 9, 3) := by decide +kernel
theorem d_X_set_30 : decode b_X_set 30 = .ok (.iinc 3 1, 3) := by decide +kernel
theorem d_X_set_33 : decode b_X_set 33 = .ok (.goto (-21), 3) := by decide +kernel
theorem d_X_set_36 : decode b_X_set 36 = .ok (.iconst 0, 1) := by decide +kernel
theorem d_X_set_37 : decode b_X_set 37 = .ok (.istore 4, 2) := by decide +kernel
theorem d_X_set_39 : decode b_X_set 39 = .ok (.iload 4, 2) := by decide +kernel
theorem d_X_set_41 : decode b_X_set 41 = .ok (.invokestatic 49, 3) := by decide +kernel
theorem d_X_set_44 : decode b_X_set 44 = .ok (.iload_n 3, 1) := by decide +kernel
theorem d_X_set_45 : decode b_X_set 45 = .ok (.if_icmp .ge 22, 3) := by decide +kernel
theorem d_X_set_48 : decode b_X_set 48 = .ok (.iload 4, 2) := by decide +kernel
theorem d_X_set_50 : decode b_X_set 50 = .ok (.iconst 1, 1) := by decide +kernel
theorem d_X_set_51 : decode b_X_set 51 = .ok (.aload_n 0, 1) := by decide +kernel
theorem d_X_set_52 : decode b_X_set 52 = .ok (.invokevirtual 45, 3) := by decide +kernel
theorem d_X_set_55 : decode b_X_set 55 = .ok (.aload_n 0, 1) := by decide +kernel
theorem d_X_set_56 : decode b_X_set 56 = .ok (.getfield 35, 3) := by decide +kernel
theorem d_X_set_59 : decode b_X_set 59 = .ok (.irem, 1) := by decide +kernel
theorem d_X_set_60 : decode b_X_set 60 = .ok (.ishl, 1) := by decide +kernel
theorem d_X_set_61 : decode b_X_set 61 = .ok (.ior, 1) := by decide +kernel
theorem d_X_set_62 : decode b_X_set 62 = .ok (.istore 4, 2) := by decide +kernel
theorem d_X_set_64 : decode b_X_set 64 = .ok (.goto (-25), 3) := by decide +kernel
theorem d_X_set_67 : decode b_X_set 67 = .ok (.iload 4, 2) := by decide +kernel
theorem d_X_set_69 : decode b_X_set 69 = .ok (.ireturn, 1) := by decide +kernel
theorem d_X_draw_0 : decode b_X_draw 0 = .ok (.aload_n 0, 1) := by decide +kernel
theorem d_X_draw_1 : decode b_X_draw 1 = .ok (.aload_n 0, 1) := by decide +kernel
theorem d_X_draw_2 : decode b_X_draw 2 = .ok (.getfield 40, 3) := by decide +kernel
theorem d_X_draw_5 : decode b_X_draw 5 = .ok (.ldc 43, 2) := by decide +kernel
theorem d_X_draw_7 : decode b_X_draw 7 = .ok (.imul, 1) := by decide +kernel
theorem d_X_draw_8 : decode b_X_draw 8 = .ok (.ldc 44, 2) := by decide +kernel
theorem d_X_draw_10 : decode b_X_draw 10 = .ok (.iadd, 1) := by decide +kernel
theorem d_X_draw_11 : decode b_X_draw 11 = .ok (.putfield 40, 3) := by decide +kernel
theorem d_X_draw_14 : decode b_X_draw 14 = .ok (.aload_n 0, 1) := by decide +kernel
theorem d_X_draw_15 : decode b_X_draw 15 = .ok (.getfield 40, 3) := by decide +kernel
theorem d_X_draw_18 : decode b_X_draw 18 = .ok (.bipush 16, 2) := by decide +kernel
theorem d_X_draw_20 : decode b_X_draw 20 = .ok (.iushr, 1) := by decide +kernel
theorem d_X_draw_21 : decode b_X_draw 21 = .ok (.ireturn, 1) := by decide +kernel
theorem d_X_bits_0 : decode b_X_bits 0 = .ok (.iconst 0, 1) := by decide +kernel
theorem d_X_bits_1 : decode b_X_bits 1 = .ok (.istore_n 1, 1) := by decide +kernel
theorem d_X_bits_2 : decode b_X_bits 2 = .ok (.iload_n 0, 1) := by decide +kernel
theorem d_X_bits_3 : decode b_X_bits 3 = .ok (.istore_n 2, 1) := by decide +kernel
theorem d_X_bits_4 : decode b_X_bits 4 = .ok (.iload_n 2, 1) := by decide +kernel
theorem d_X_bits_5 : decode b_X_bits 5 = .ok (.ifCond .eq 15, 3) := by decide +kernel
theorem d_X_bits_8 : decode b_X_bits 8 = .ok (.iinc 1 1, 3) := by decide +kernel
theorem d_X_bits_11 : decode b_X_bits 11 = .ok (.iload_n 2, 1) := by decide +kernel
theorem d_X_bits_12 : decode b_X_bits 12 = .ok (.iload_n 2, 1) := by decide +kernel
theorem d_X_bits_13 : decode b_X_bits 13 = .ok (.iconst 1, 1) := by decide +kernel
theorem d_X_bits_14 : decode b_X_bits 14 = .ok (.isub, 1) := by decide +kernel
theorem d_X_bits_15 : decode b_X_bits 15 = .ok (.iand, 1) := by decide +kernel
theorem d_X_bits_16 : decode b_X_bits 16 = .ok (.istore_n 2, 1) := by decide +kernel
theorem d_X_bits_17 : decode b_X_bits 17 = .ok (.goto (-13), 3) := by decide +kernel
theorem d_X_bits_20 : decode b_X_bits 20 = .ok (.iload_n 1, 1) := by decide +kernel
theorem d_X_bits_21 : decode b_X_bits 21 = .ok (.ireturn, 1) := by decide +kernel
theorem d_X_degree_0 : decode b_X_degree 0 = .ok (.aload_n 0, 1) := by decide +kernel
theorem d_X_degree_1 : decode b_X_degree 1 = .ok (.iload_n 1, 1) := by decide +kernel
theorem d_X_degree_2 : decode b_X_degree 2 = .ok (.invokevirtual 53, 3) := by decide +kernel
theorem d_X_degree_5 : decode b_X_degree 5 = .ok (.invokestatic 49, 3) := by decide +kernel
theorem d_X_degree_8 : decode b_X_degree 8 = .ok (.ireturn, 1) := by decide +kernel
theorem d_X_put_0 : decode b_X_put 0 = .ok (.aload_n 0, 1) := by decide +kernel
theorem d_X_put_1 : decode b_X_put 1 = .ok (.iload_n 1, 1) := by decide +kernel
theorem d_X_put_2 : decode b_X_put 2 = .ok (.invokevirtual 56, 3) := by decide +kernel
theorem d_X_put_5 : decode b_X_put 5 = .ok (.ifCond .ne 5, 3) := by decide +kernel
theorem d_X_put_8 : decode b_X_put 8 = .ok (.iconst (-1), 1) := by decide +kernel
theorem d_X_put_9 : decode b_X_put 9 = .ok (.ireturn, 1) := by decide +kernel
theorem d_X_put_10 : decode b_X_put 10 = .ok (.aload_n 0, 1) := by decide +kernel
theorem d_X_put_11 : decode b_X_put 11 = .ok (.getfield 7, 3) := by decide +kernel
theorem d_X_put_14 : decode b_X_put 14 = .ok (.iload_n 1, 1) := by decide +kernel
theorem d_X_put_15 : decode b_X_put 15 = .ok (.iload_n 2, 1) := by decide +kernel
theorem d_X_put_16 : decode b_X_put 16 = .ok (.iastore, 1) := by decide +kernel
theorem d_X_put_17 : decode b_X_put 17 = .ok (.iconst 1, 1) := by decide +kernel
theorem d_X_put_18 : decode b_X_put 18 = .ok (.ireturn, 1) := by decide +kernel
theorem d_X_isWord_0 : decode b_X_isWord 0 = .ok (.iload_n 1, 1) := by decide +kernel
theorem d_X_isWord_1 : decode b_X_isWord 1 = .ok (.ifCond .lt 15, 3) := by decide +kernel
theorem d_X_isWord_4 : decode b_X_isWord 4 = .ok (.iload_n 1, 1) := by decide +kernel
theorem d_X_isWord_5 : decode b_X_isWord 5 = .ok (.aload_n 0, 1) := by decide +kernel
theorem d_X_isWord_6 : decode b_X_isWord 6 = .ok (.getfield 35, 3) := by decide +kernel
theorem d_X_isWord_9 : decode b_X_isWord 9 = .ok (.if_icmp .ge 7, 3) := by decide +kernel
theorem d_X_isWord_12 : decode b_X_isWord 12 = .ok (.iconst 1, 1) := by decide +kernel
theorem d_X_isWord_13 : decode b_X_isWord 13 = .ok (.goto 4, 3) := by decide +kernel
theorem d_X_isWord_16 : decode b_X_isWord 16 = .ok (.iconst 0, 1) := by decide +kernel
theorem d_X_isWord_17 : decode b_X_isWord 17 = .ok (.ireturn, 1) := by decide +kernel
theorem d_X_drop_0 : decode b_X_drop 0 = .ok (.aload_n 0, 1) := by decide +kernel
theorem d_X_drop_1 : decode b_X_drop 1 = .ok (.getfield 7, 3) := by decide +kernel
theorem d_X_drop_4 : decode b_X_drop 4 = .ok (.aload_n 0, 1) := by decide +kernel
theorem d_X_drop_5 : decode b_X_drop 5 = .ok (.iload_n 1, 1) := by decide +kernel
theorem d_X_drop_6 : decode b_X_drop 6 = .ok (.invokevirtual 53, 3) := by decide +kernel
theorem d_X_drop_9 : decode b_X_drop 9 = .ok (.invokestatic 60, 3) := by decide +kernel
theorem d_X_drop_12 : decode b_X_drop 12 = .ok (.ireturn, 1) := by decide +kernel
theorem d_X_xor_0 : decode b_X_xor 0 = .ok (.iconst 0, 1) := by decide +kernel
theorem d_X_xor_1 : decode b_X_xor 1 = .ok (.istore_n 2, 1) := by decide +kernel
theorem d_X_xor_2 : decode b_X_xor 2 = .ok (.iconst 0, 1) := by decide +kernel
theorem d_X_xor_3 : decode b_X_xor 3 = .ok (.istore_n 3, 1) := by decide +kernel
theorem d_X_xor_4 : decode b_X_xor 4 = .ok (.iload_n 3, 1) := by decide +kernel
theorem d_X_xor_5 : decode b_X_xor 5 = .ok (.bipush 32, 2) := by decide +kernel
theorem d_X_xor_7 : decode b_X_xor 7 = .ok (.if_icmp .ge 24, 3) := by decide +kernel
theorem d_X_xor_10 : decode b_X_xor 10 = .ok (.iload_n 1, 1) := by decide +kernel
theorem d_X_xor_11 : decode b_X_xor 11 = .ok (.iload_n 3, 1) := by decide +kernel
theorem d_X_xor_12 : decode b_X_xor 12 = .ok (.ishr, 1) := by decide +kernel
theorem d_X_xor_13 : decode b_X_xor 13 = .ok (.iconst 1, 1) := by decide +kernel
theorem d_X_xor_14 : decode b_X_xor 14 = .ok (.iand, 1) := by decide +kernel
theorem d_X_xor_15 : decode b_X_xor 15 = .ok (.iconst 1, 1) := by decide +kernel
theorem d_X_xor_16 : decode b_X_xor 16 = .ok (.if_icmp .ne 9, 3) := by decide +kernel
theorem d_X_xor_19 : decode b_X_xor 19 = .ok (.iload_n 2, 1) := by decide +kernel
theorem d_X_xor_20 : decode b_X_xor 20 = .ok (.aload_n 0, 1) := by decide +kernel
theorem d_X_xor_21 : decode b_X_xor 21 = .ok (.iload_n 3, 1) := by decide +kernel
theorem d_X_xor_22 : decode b_X_xor 22 = .ok (.iaload, 1) := by decide +kernel
theorem d_X_xor_23 : decode b_X_xor 23 = .ok (.ixor, 1) := by decide +kernel
theorem d_X_xor_24 : decode b_X_xor 24 = .ok (.istore_n 2, 1) := by decide +kernel
theorem d_X_xor_25 : decode b_X_xor 25 = .ok (.iinc 3 1, 3) := by decide +kernel
theorem d_X_xor_28 : decode b_X_xor 28 = .ok (.goto (-24), 3) := by decide +kernel
theorem d_X_xor_31 : decode b_X_xor 31 = .ok (.iload_n 2, 1) := by decide +kernel
theorem d_X_xor_32 : decode b_X_xor 32 = .ok (.ireturn, 1) := by decide +kernel
theorem d_X_receive_0 : decode b_X_receive 0 = .ok (.aload_n 0, 1) := by decide +kernel
theorem d_X_receive_1 : decode b_X_receive 1 = .ok (.getfield 64, 3) := by decide +kernel
theorem d_X_receive_4 : decode b_X_receive 4 = .ok (.bipush 60, 2) := by decide +kernel
theorem d_X_receive_6 : decode b_X_receive 6 = .ok (.if_icmp .ne 6, 3) := by decide +kernel
theorem d_X_receive_9 : decode b_X_receive 9 = .ok (.bipush (-2), 2) := by decide +kernel
theorem d_X_receive_11 : decode b_X_receive 11 = .ok (.ireturn, 1) := by decide +kernel
theorem d_X_receive_12 : decode b_X_receive 12 = .ok (.aload_n 0, 1) := by decide +kernel
theorem d_X_receive_13 : decode b_X_receive 13 = .ok (.iload_n 1, 1) := by decide +kernel
theorem d_X_receive_14 : decode b_X_receive 14 = .ok (.invokevirtual 53, 3) := by decide +kernel
theorem d_X_receive_17 : decode b_X_receive 17 = .ok (.istore_n 3, 1) := by decide +kernel
theorem d_X_receive_18 : decode b_X_receive 18 = .ok (.aload_n 0, 1) := by decide +kernel
theorem d_X_receive_19 : decode b_X_receive 19 = .ok (.getfield 16, 3) := by decide +kernel
theorem d_X_receive_22 : decode b_X_receive 22 = .ok (.aload_n 0, 1) := by decide +kernel
theorem d_X_receive_23 : decode b_X_receive 23 = .ok (.getfield 64, 3) := by decide +kernel
theorem d_X_receive_26 : decode b_X_receive 26 = .ok (.iload_n 3, 1) := by decide +kernel
theorem d_X_receive_27 : decode b_X_receive 27 = .ok (.aload_n 0, 1) := by decide +kernel
theorem d_X_receive_28 : decode b_X_receive 28 = .ok (.getfield 67, 3) := by decide +kernel
theorem d_X_receive_31 : decode b_X_receive 31 = .ok (.iconst (-1), 1) := by decide +kernel
theorem d_X_receive_32 : decode b_X_receive 32 = .ok (.ixor, 1) := by decide +kernel
theorem d_X_receive_33 : decode b_X_receive 33 = .ok (.iand, 1) := by decide +kernel
theorem d_X_receive_34 : decode b_X_receive 34 = .ok (.iastore, 1) := by decide +kernel
theorem d_X_receive_35 : decode b_X_receive 35 = .ok (.aload_n 0, 1) := by decide +kernel
theorem d_X_receive_36 : decode b_X_receive 36 = .ok (.getfield 19, 3) := by decide +kernel
theorem d_X_receive_39 : decode b_X_receive 39 = .ok (.aload_n 0, 1) := by decide +kernel
theorem d_X_receive_40 : decode b_X_receive 40 = .ok (.getfield 64, 3) := by decide +kernel
theorem d_X_receive_43 : decode b_X_receive 43 = .ok (.iload_n 2, 1) := by decide +kernel
theorem d_X_receive_44 : decode b_X_receive 44 = .ok (.aload_n 0, 1) := by decide +kernel
theorem d_X_receive_45 : decode b_X_receive 45 = .ok (.getfield 29, 3) := by decide +kernel
theorem d_X_receive_48 : decode b_X_receive 48 = .ok (.iload_n 3, 1) := by decide +kernel
theorem d_X_receive_49 : decode b_X_receive 49 = .ok (.aload_n 0, 1) := by decide +kernel
theorem d_X_receive_50 : decode b_X_receive 50 = .ok (.getfield 67, 3) := by decide +kernel
theorem d_X_receive_53 : decode b_X_receive 53 = .ok (.iand, 1) := by decide +kernel
theorem d_X_receive_54 : decode b_X_receive 54 = .ok (.invokestatic 60, 3) := by decide +kernel
theorem d_X_receive_57 : decode b_X_receive 57 = .ok (.ixor, 1) := by decide +kernel
theorem d_X_receive_58 : decode b_X_receive 58 = .ok (.iastore, 1) := by decide +kernel
theorem d_X_receive_59 : decode b_X_receive 59 = .ok (.aload_n 0, 1) := by decide +kernel
theorem d_X_receive_60 : decode b_X_receive 60 = .ok (.getfield 22, 3) := by decide +kernel
theorem d_X_receive_63 : decode b_X_receive 63 = .ok (.aload_n 0, 1) := by decide +kernel
theorem d_X_receive_64 : decode b_X_receive 64 = .ok (.getfield 64, 3) := by decide +kernel
theorem d_X_receive_67 : decode b_X_receive 67 = .ok (.iconst 0, 1) := by decide +kernel
theorem d_X_receive_68 : decode b_X_receive 68 = .ok (.bastore, 1) := by decide +kernel
theorem d_X_receive_69 : decode b_X_receive 69 = .ok (.aload_n 0, 1) := by decide +kernel
theorem d_X_receive_70 : decode b_X_receive 70 = .ok (.dup, 1) := by decide +kernel
theorem d_X_receive_71 : decode b_X_receive 71 = .ok (.getfield 64, 3) := by decide +kernel
theorem d_X_receive_74 : decode b_X_receive 74 = .ok (.iconst 1, 1) := by decide +kernel
theorem d_X_receive_75 : decode b_X_receive 75 = .ok (.iadd, 1) := by decide +kernel
theorem d_X_receive_76 : decode b_X_receive 76 = .ok (.putfield 64, 3) := by decide +kernel
theorem d_X_receive_79 : decode b_X_receive 79 = .ok (.aload_n 0, 1) := by decide +kernel
theorem d_X_receive_80 : decode b_X_receive 80 = .ok (.aload_n 0, 1) := by decide +kernel
theorem d_X_receive_81 : decode b_X_receive 81 = .ok (.getfield 64, 3) := by decide +kernel
theorem d_X_receive_84 : decode b_X_receive 84 = .ok (.iconst 1, 1) := by decide +kernel
theorem d_X_receive_85 : decode b_X_receive 85 = .ok (.isub, 1) := by decide +kernel
theorem d_X_receive_86 : decode b_X_receive 86 = .ok (.invokevirtual 70, 3) := by decide +kernel
theorem d_X_receive_89 : decode b_X_receive 89 = .ok (.aload_n 0, 1) := by decide +kernel
theorem d_X_receive_90 : decode b_X_receive 90 = .ok (.getfield 74, 3) := by decide +kernel
theorem d_X_receive_93 : decode b_X_receive 93 = .ok (.aload_n 0, 1) := by decide +kernel
theorem d_X_receive_94 : decode b_X_receive 94 = .ok (.getfield 77, 3) := by decide +kernel
theorem d_X_receive_97 : decode b_X_receive 97 = .ok (.if_icmp .ge 10, 3) := by decide +kernel
theorem d_X_receive_100 : decode b_X_receive 100 = .ok (.aload_n 0, 1) := by decide +kernel
theorem d_X_receive_101 : decode b_X_receive 101 = .ok (.invokevirtual 80, 3) := by decide +kernel
theorem d_X_receive_104 : decode b_X_receive 104 = .ok (.goto (-15), 3) := by decide +kernel
theorem d_X_receive_107 : decode b_X_receive 107 = .ok (.aload_n 0, 1) := by decide +kernel
theorem d_X_receive_108 : decode b_X_receive 108 = .ok (.iconst 0, 1) := by decide +kernel
theorem d_X_receive_109 : decode b_X_receive 109 = .ok (.putfield 74, 3) := by decide +kernel
theorem d_X_receive_112 : decode b_X_receive 112 = .ok (.aload_n 0, 1) := by decide +kernel
theorem d_X_receive_113 : decode b_X_receive 113 = .ok (.iconst 0, 1) := by decide +kernel
theorem d_X_receive_114 : decode b_X_receive 114 = .ok (.putfield 77, 3) := by decide +kernel
theorem d_X_receive_117 : decode b_X_receive 117 = .ok (.aload_n 0, 1) := by decide +kernel
theorem d_X_receive_118 : decode b_X_receive 118 = .ok (.getfield 83, 3) := by decide +kernel
theorem d_X_receive_121 : decode b_X_receive 121 = .ok (.ireturn, 1) := by decide +kernel
end
section
theorem d_X_look_0 : decode b_X_look 0 = .ok (.aload_n 0, 1) := by decide +kernel
theorem d_X_look_1 : decode b_X_look 1 = .ok (.getfield 16, 3) := by decide +kernel
theorem d_X_look_4 : decode b_X_look 4 = .ok (.iload_n 1, 1) := by decide +kernel
theorem d_X_look_5 : decode b_X_look 5 = .ok (.iaload, 1) := by decide +kernel
theorem d_X_look_6 : decode b_X_look 6 = .ok (.invokestatic 49, 3) := by decide +kernel
theorem d_X_look_9 : decode b_X_look 9 = .ok (.istore_n 2, 1) := by decide +kernel
theorem d_X_look_10 : decode b_X_look 10 = .ok (.iload_n 2, 1) := by decide +kernel
theorem d_X_look_11 : decode b_X_look 11 = .ok (.iconst 1, 1) := by decide +kernel
theorem d_X_look_12 : decode b_X_look 12 = .ok (.if_icmp .ne 42, 3) := by decide +kernel
theorem d_X_look_15 : decode b_X_look 15 = .ok (.aload_n 0, 1) := by decide +kernel
theorem d_X_look_16 : decode b_X_look 16 = .ok (.getfield 22, 3) := by decide +kernel
theorem d_X_look_19 : decode b_X_look 19 = .ok (.iload_n 1, 1) := by decide +kernel
theorem d_X_look_20 : decode b_X_look 20 = .ok (.baload, 1) := by decide +kernel
theorem d_X_look_21 : decode b_X_look 21 = .ok (.ifCond .ne 33, 3) := by decide +kernel
theorem d_X_look_24 : decode b_X_look 24 = .ok (.aload_n 0, 1) := by decide +kernel
theorem d_X_look_25 : decode b_X_look 25 = .ok (.getfield 22, 3) := by decide +kernel
theorem d_X_look_28 : decode b_X_look 28 = .ok (.iload_n 1, 1) := by decide +kernel
theorem d_X_look_29 : decode b_X_look 29 = .ok (.iconst 1, 1) := by decide +kernel
theorem d_X_look_30 : decode b_X_look 30 = .ok (.bastore, 1) := by decide +kernel
theorem d_X_look_31 : decode b_X_look 31 = .ok (.aload_n 0, 1) := by decide +kernel
theorem d_X_look_32 : decode b_X_look 32 = .ok (.getfield 26, 3) := by decide +kernel
theorem d_X_look_35 : decode b_X_look 35 = .ok (.aload_n 0, 1) := by decide +kernel
theorem d_X_look_36 : decode b_X_look 36 = .ok (.getfield 77, 3) := by decide +kernel
theorem d_X_look_39 : decode b_X_look 39 = .ok (.iload_n 1, 1) := by decide +kernel
theorem d_X_look_40 : decode b_X_look 40 = .ok (.iastore, 1) := by decide +kernel
theorem d_X_look_41 : decode b_X_look 41 = .ok (.aload_n 0, 1) := by decide +kernel
theorem d_X_look_42 : decode b_X_look 42 = .ok (.dup, 1) := by decide +kernel
theorem d_X_look_43 : decode b_X_look 43 = .ok (.getfield 77, 3) := by decide +kernel
theorem d_X_look_46 : decode b_X_look 46 = .ok (.iconst 1, 1) := by decide +kernel
theorem d_X_look_47 : decode b_X_look 47 = .ok (.iadd, 1) := by decide +kernel
theorem d_X_look_48 : decode b_X_look 48 = .ok (.putfield 77, 3) := by decide +kernel
theorem d_X_look_51 : decode b_X_look 51 = .ok (.goto 35, 3) := by decide +kernel
theorem d_X_look_54 : decode b_X_look 54 = .ok (.iload_n 2, 1) := by decide +kernel
theorem d_X_look_55 : decode b_X_look 55 = .ok (.ifCond .ne 31, 3) := by decide +kernel
theorem d_X_look_58 : decode b_X_look 58 = .ok (.aload_n 0, 1) := by decide +kernel
theorem d_X_look_59 : decode b_X_look 59 = .ok (.getfield 22, 3) := by decide +kernel
theorem d_X_look_62 : decode b_X_look 62 = .ok (.iload_n 1, 1) := by decide +kernel
theorem d_X_look_63 : decode b_X_look 63 = .ok (.baload, 1) := by decide +kernel
theorem d_X_look_64 : decode b_X_look 64 = .ok (.ifCond .ne 22, 3) := by decide +kernel
theorem d_X_look_67 : decode b_X_look 67 = .ok (.aload_n 0, 1) := by decide +kernel
theorem d_X_look_68 : decode b_X_look 68 = .ok (.getfield 19, 3) := by decide +kernel
theorem d_X_look_71 : decode b_X_look 71 = .ok (.iload_n 1, 1) := by decide +kernel
theorem d_X_look_72 : decode b_X_look 72 = .ok (.iaload, 1) := by decide +kernel
theorem d_X_look_73 : decode b_X_look 73 = .ok (.ifCond .eq 13, 3) := by decide +kernel
theorem d_X_look_76 : decode b_X_look 76 = .ok (.aload_n 0, 1) := by decide +kernel
theorem d_X_look_77 : decode b_X_look 77 = .ok (.dup, 1) := by decide +kernel
theorem d_X_look_78 : decode b_X_look 78 = .ok (.getfield 86, 3) := by decide +kernel
theorem d_X_look_81 : decode b_X_look 81 = .ok (.iconst 1, 1) := by decide +kernel
theorem d_X_look_82 : decode b_X_look 82 = .ok (.iadd, 1) := by decide +kernel
theorem d_X_look_83 : decode b_X_look 83 = .ok (.putfield 86, 3) := by decide +kernel
theorem d_X_look_86 : decode b_X_look 86 = .ok (.return_, 1) := by decide +kernel
theorem d_X_turn_0 : decode b_X_turn 0 = .ok (.aload_n 0, 1) := by decide +kernel
theorem d_X_turn_1 : decode b_X_turn 1 = .ok (.getfield 26, 3) := by decide +kernel
theorem d_X_turn_4 : decode b_X_turn 4 = .ok (.aload_n 0, 1) := by decide +kernel
theorem d_X_turn_5 : decode b_X_turn 5 = .ok (.getfield 74, 3) := by decide +kernel
theorem d_X_turn_8 : decode b_X_turn 8 = .ok (.iaload, 1) := by decide +kernel
theorem d_X_turn_9 : decode b_X_turn 9 = .ok (.istore_n 1, 1) := by decide +kernel
theorem d_X_turn_10 : decode b_X_turn 10 = .ok (.aload_n 0, 1) := by decide +kernel
theorem d_X_turn_11 : decode b_X_turn 11 = .ok (.dup, 1) := by decide +kernel
theorem d_X_turn_12 : decode b_X_turn 12 = .ok (.getfield 74, 3) := by decide +kernel
theorem d_X_turn_15 : decode b_X_turn 15 = .ok (.iconst 1, 1) := by decide +kernel
theorem d_X_turn_16 : decode b_X_turn 16 = .ok (.iadd, 1) := by decide +kernel
theorem d_X_turn_17 : decode b_X_turn 17 = .ok (.putfield 74, 3) := by decide +kernel
theorem d_X_turn_20 : decode b_X_turn 20 = .ok (.aload_n 0, 1) := by decide +kernel
theorem d_X_turn_21 : decode b_X_turn 21 = .ok (.getfield 22, 3) := by decide +kernel
theorem d_X_turn_24 : decode b_X_turn 24 = .ok (.iload_n 1, 1) := by decide +kernel
theorem d_X_turn_25 : decode b_X_turn 25 = .ok (.iconst 0, 1) := by decide +kernel
theorem d_X_turn_26 : decode b_X_turn 26 = .ok (.bastore, 1) := by decide +kernel
theorem d_X_turn_27 : decode b_X_turn 27 = .ok (.aload_n 0, 1) := by decide +kernel
theorem d_X_turn_28 : decode b_X_turn 28 = .ok (.getfield 16, 3) := by decide +kernel
theorem d_X_turn_31 : decode b_X_turn 31 = .ok (.iload_n 1, 1) := by decide +kernel
theorem d_X_turn_32 : decode b_X_turn 32 = .ok (.iaload, 1) := by decide +kernel
theorem d_X_turn_33 : decode b_X_turn 33 = .ok (.ifCond .ne 23, 3) := by decide +kernel
theorem d_X_turn_36 : decode b_X_turn 36 = .ok (.aload_n 0, 1) := by decide +kernel
theorem d_X_turn_37 : decode b_X_turn 37 = .ok (.getfield 19, 3) := by decide +kernel
theorem d_X_turn_40 : decode b_X_turn 40 = .ok (.iload_n 1, 1) := by decide +kernel
theorem d_X_turn_41 : decode b_X_turn 41 = .ok (.iaload, 1) := by decide +kernel
theorem d_X_turn_42 : decode b_X_turn 42 = .ok (.ifCond .eq 13, 3) := by decide +kernel
theorem d_X_turn_45 : decode b_X_turn 45 = .ok (.aload_n 0, 1) := by decide +kernel
theorem d_X_turn_46 : decode b_X_turn 46 = .ok (.dup, 1) := by decide +kernel
theorem d_X_turn_47 : decode b_X_turn 47 = .ok (.getfield 86, 3) := by decide +kernel
theorem d_X_turn_50 : decode b_X_turn 50 = .ok (.iconst 1, 1) := by decide +kernel
theorem d_X_turn_51 : decode b_X_turn 51 = .ok (.iadd, 1) := by decide +kernel
theorem d_X_turn_52 : decode b_X_turn 52 = .ok (.putfield 86, 3) := by decide +kernel
theorem d_X_turn_55 : decode b_X_turn 55 = .ok (.return_, 1) := by decide +kernel
theorem d_X_turn_56 : decode b_X_turn 56 = .ok (.aload_n 0, 1) := by decide +kernel
theorem d_X_turn_57 : decode b_X_turn 57 = .ok (.getfield 16, 3) := by decide +kernel
theorem d_X_turn_60 : decode b_X_turn 60 = .ok (.iload_n 1, 1) := by decide +kernel
theorem d_X_turn_61 : decode b_X_turn 61 = .ok (.iaload, 1) := by decide +kernel
theorem d_X_turn_62 : decode b_X_turn 62 = .ok (.istore_n 2, 1) := by decide +kernel
theorem d_X_turn_63 : decode b_X_turn 63 = .ok (.iconst 0, 1) := by decide +kernel
theorem d_X_turn_64 : decode b_X_turn 64 = .ok (.istore_n 3, 1) := by decide +kernel
theorem d_X_turn_65 : decode b_X_turn 65 = .ok (.iload_n 2, 1) := by decide +kernel
theorem d_X_turn_66 : decode b_X_turn 66 = .ok (.iload_n 3, 1) := by decide +kernel
theorem d_X_turn_67 : decode b_X_turn 67 = .ok (.iushr, 1) := by decide +kernel
theorem d_X_turn_68 : decode b_X_turn 68 = .ok (.iconst 1, 1) := by decide +kernel
theorem d_X_turn_69 : decode b_X_turn 69 = .ok (.if_icmp .eq 9, 3) := by decide +kernel
theorem d_X_turn_72 : decode b_X_turn 72 = .ok (.iinc 3 1, 3) := by decide +kernel
theorem d_X_turn_75 : decode b_X_turn 75 = .ok (.goto (-10), 3) := by decide +kernel
theorem d_X_turn_78 : decode b_X_turn 78 = .ok (.aload_n 0, 1) := by decide +kernel
theorem d_X_turn_79 : decode b_X_turn 79 = .ok (.getfield 29, 3) := by decide +kernel
theorem d_X_turn_82 : decode b_X_turn 82 = .ok (.iload_n 3, 1) := by decide +kernel
theorem d_X_turn_83 : decode b_X_turn 83 = .ok (.aload_n 0, 1) := by decide +kernel
theorem d_X_turn_84 : decode b_X_turn 84 = .ok (.getfield 19, 3) := by decide +kernel
theorem d_X_turn_87 : decode b_X_turn 87 = .ok (.iload_n 1, 1) := by decide +kernel
theorem d_X_turn_88 : decode b_X_turn 88 = .ok (.iaload, 1) := by decide +kernel
theorem d_X_turn_89 : decode b_X_turn 89 = .ok (.iastore, 1) := by decide +kernel
theorem d_X_turn_90 : decode b_X_turn 90 = .ok (.aload_n 0, 1) := by decide +kernel
theorem d_X_turn_91 : decode b_X_turn 91 = .ok (.getfield 32, 3) := by decide +kernel
theorem d_X_turn_94 : decode b_X_turn 94 = .ok (.aload_n 0, 1) := by decide +kernel
theorem d_X_turn_95 : decode b_X_turn 95 = .ok (.getfield 83, 3) := by decide +kernel
theorem d_X_turn_98 : decode b_X_turn 98 = .ok (.iload_n 3, 1) := by decide +kernel
theorem d_X_turn_99 : decode b_X_turn 99 = .ok (.iastore, 1) := by decide +kernel
theorem d_X_turn_100 : decode b_X_turn 100 = .ok (.aload_n 0, 1) := by decide +kernel
theorem d_X_turn_101 : decode b_X_turn 101 = .ok (.dup, 1) := by decide +kernel
theorem d_X_turn_102 : decode b_X_turn 102 = .ok (.getfield 83, 3) := by decide +kernel
theorem d_X_turn_105 : decode b_X_turn 105 = .ok (.iconst 1, 1) := by decide +kernel
theorem d_X_turn_106 : decode b_X_turn 106 = .ok (.iadd, 1) := by decide +kernel
theorem d_X_turn_107 : decode b_X_turn 107 = .ok (.putfield 83, 3) := by decide +kernel
theorem d_X_turn_110 : decode b_X_turn 110 = .ok (.aload_n 0, 1) := by decide +kernel
theorem d_X_turn_111 : decode b_X_turn 111 = .ok (.dup, 1) := by decide +kernel
theorem d_X_turn_112 : decode b_X_turn 112 = .ok (.getfield 67, 3) := by decide +kernel
theorem d_X_turn_115 : decode b_X_turn 115 = .ok (.iload_n 2, 1) := by decide +kernel
theorem d_X_turn_116 : decode b_X_turn 116 = .ok (.ior, 1) := by decide +kernel
theorem d_X_turn_117 : decode b_X_turn 117 = .ok (.putfield 67, 3) := by decide +kernel
theorem d_X_turn_120 : decode b_X_turn 120 = .ok (.aload_n 0, 1) := by decide +kernel
theorem d_X_turn_121 : decode b_X_turn 121 = .ok (.getfield 16, 3) := by decide +kernel
theorem d_X_turn_124 : decode b_X_turn 124 = .ok (.iload_n 1, 1) := by decide +kernel
theorem d_X_turn_125 : decode b_X_turn 125 = .ok (.iconst 0, 1) := by decide +kernel
theorem d_X_turn_126 : decode b_X_turn 126 = .ok (.iastore, 1) := by decide +kernel
theorem d_X_turn_127 : decode b_X_turn 127 = .ok (.aload_n 0, 1) := by decide +kernel
theorem d_X_turn_128 : decode b_X_turn 128 = .ok (.getfield 19, 3) := by decide +kernel
theorem d_X_turn_131 : decode b_X_turn 131 = .ok (.iload_n 1, 1) := by decide +kernel
theorem d_X_turn_132 : decode b_X_turn 132 = .ok (.iconst 0, 1) := by decide +kernel
theorem d_X_turn_133 : decode b_X_turn 133 = .ok (.iastore, 1) := by decide +kernel
theorem d_X_turn_134 : decode b_X_turn 134 = .ok (.iconst 0, 1) := by decide +kernel
theorem d_X_turn_135 : decode b_X_turn 135 = .ok (.istore 4, 2) := by decide +kernel
theorem d_X_turn_137 : decode b_X_turn 137 = .ok (.iload 4, 2) := by decide +kernel
theorem d_X_turn_139 : decode b_X_turn 139 = .ok (.aload_n 0, 1) := by decide +kernel
theorem d_X_turn_140 : decode b_X_turn 140 = .ok (.getfield 64, 3) := by decide +kernel
theorem d_X_turn_143 : decode b_X_turn 143 = .ok (.if_icmp .ge 59, 3) := by decide +kernel
theorem d_X_turn_146 : decode b_X_turn 146 = .ok (.aload_n 0, 1) := by decide +kernel
theorem d_X_turn_147 : decode b_X_turn 147 = .ok (.getfield 16, 3) := by decide +kernel
theorem d_X_turn_150 : decode b_X_turn 150 = .ok (.iload 4, 2) := by decide +kernel
theorem d_X_turn_152 : decode b_X_turn 152 = .ok (.iaload, 1) := by decide +kernel
theorem d_X_turn_153 : decode b_X_turn 153 = .ok (.iload_n 2, 1) := by decide +kernel
theorem d_X_turn_154 : decode b_X_turn 154 = .ok (.iand, 1) := by decide +kernel
theorem d_X_turn_155 : decode b_X_turn 155 = .ok (.ifCond .ne 6, 3) := by decide +kernel
theorem d_X_turn_158 : decode b_X_turn 158 = .ok (.goto 38, 3) := by decide +kernel
theorem d_X_turn_161 : decode b_X_turn 161 = .ok (.aload_n 0, 1) := by decide +kernel
theorem d_X_turn_162 : decode b_X_turn 162 = .ok (.getfield 16, 3) := by decide +kernel
theorem d_X_turn_165 : decode b_X_turn 165 = .ok (.iload 4, 2) := by decide +kernel
theorem d_X_turn_167 : decode b_X_turn 167 = .ok (.dup2, 1) := by decide +kernel
theorem d_X_turn_168 : decode b_X_turn 168 = .ok (.iaload, 1) := by decide +kernel
theorem d_X_turn_169 : decode b_X_turn 169 = .ok (.iload_n 2, 1) := by decide +kernel
theorem d_X_turn_170 : decode b_X_turn 170 = .ok (.iconst (-1), 1) := by decide +kernel
theorem d_X_turn_171 : decode b_X_turn 171 = .ok (.ixor, 1) := by decide +kernel
theorem d_X_turn_172 : decode b_X_turn 172 = .ok (.iand, 1) := by decide +kernel
theorem d_X_turn_173 : decode b_X_turn 173 = .ok (.iastore, 1) := by decide +kernel
theorem d_X_turn_174 : decode b_X_turn 174 = .ok (.aload_n 0, 1) := by decide +kernel
theorem d_X_turn_175 : decode b_X_turn 175 = .ok (.getfield 19, 3) := by decide +kernel
theorem d_X_turn_178 : decode b_X_turn 178 = .ok (.iload 4, 2) := by decide +kernel
theorem d_X_turn_180 : decode b_X_turn 180 = .ok (.dup2, 1) := by decide +kernel
theorem d_X_turn_181 : decode b_X_turn 181 = .ok (.iaload, 1) := by decide +kernel
theorem d_X_turn_182 : decode b_X_turn 182 = .ok (.aload_n 0, 1) := by decide +kernel
theorem d_X_turn_183 : decode b_X_turn 183 = .ok (.getfield 29, 3) := by decide +kernel
theorem d_X_turn_186 : decode b_X_turn 186 = .ok (.iload_n 3, 1) := by decide +kernel
theorem d_X_turn_187 : decode b_X_turn 187 = .ok (.iaload, 1) := by decide +kernel
theorem d_X_turn_188 : decode b_X_turn 188 = .ok (.ixor, 1) := by decide +kernel
theorem d_X_turn_189 : decode b_X_turn 189 = .ok (.iastore, 1) := by decide +kernel
theorem d_X_turn_190 : decode b_X_turn 190 = .ok (.aload_n 0, 1) := by decide +kernel
theorem d_X_turn_191 : decode b_X_turn 191 = .ok (.iload 4, 2) := by decide +kernel
theorem d_X_turn_193 : decode b_X_turn 193 = .ok (.invokevirtual 70, 3) := by decide +kernel
theorem d_X_turn_196 : decode b_X_turn 196 = .ok (.iinc 4 1, 3) := by decide +kernel
theorem d_X_turn_199 : decode b_X_turn 199 = .ok (.goto (-62), 3) := by decide +kernel
theorem d_X_turn_202 : decode b_X_turn 202 = .ok (.return_, 1) := by decide +kernel
theorem d_X_known_0 : decode b_X_known 0 = .ok (.aload_n 0, 1) := by decide +kernel
theorem d_X_known_1 : decode b_X_known 1 = .ok (.iload_n 1, 1) := by decide +kernel
theorem d_X_known_2 : decode b_X_known 2 = .ok (.invokevirtual 56, 3) := by decide +kernel
theorem d_X_known_5 : decode b_X_known 5 = .ok (.ifCond .eq 14, 3) := by decide +kernel
theorem d_X_known_8 : decode b_X_known 8 = .ok (.aload_n 0, 1) := by decide +kernel
theorem d_X_known_9 : decode b_X_known 9 = .ok (.getfield 67, 3) := by decide +kernel
theorem d_X_known_12 : decode b_X_known 12 = .ok (.iload_n 1, 1) := by decide +kernel
theorem d_X_known_13 : decode b_X_known 13 = .ok (.ishr, 1) := by decide +kernel
theorem d_X_known_14 : decode b_X_known 14 = .ok (.iconst 1, 1) := by decide +kernel
theorem d_X_known_15 : decode b_X_known 15 = .ok (.iand, 1) := by decide +kernel
theorem d_X_known_16 : decode b_X_known 16 = .ok (.goto 4, 3) := by decide +kernel
theorem d_X_known_19 : decode b_X_known 19 = .ok (.iconst (-1), 1) := by decide +kernel
theorem d_X_known_20 : decode b_X_known 20 = .ok (.ireturn, 1) := by decide +kernel
theorem d_X_word_0 : decode b_X_word 0 = .ok (.aload_n 0, 1) := by decide +kernel
theorem d_X_word_1 : decode b_X_word 1 = .ok (.iload_n 1, 1) := by decide +kernel
theorem d_X_word_2 : decode b_X_word 2 = .ok (.invokevirtual 56, 3) := by decide +kernel
theorem d_X_word_5 : decode b_X_word 5 = .ok (.ifCond .eq 24, 3) := by decide +kernel
theorem d_X_word_8 : decode b_X_word 8 = .ok (.aload_n 0, 1) := by decide +kernel
theorem d_X_word_9 : decode b_X_word 9 = .ok (.getfield 67, 3) := by decide +kernel
theorem d_X_word_12 : decode b_X_word 12 = .ok (.iload_n 1, 1) := by decide +kernel
theorem d_X_word_13 : decode b_X_word 13 = .ok (.ishr, 1) := by decide +kernel
theorem d_X_word_14 : decode b_X_word 14 = .ok (.iconst 1, 1) := by decide +kernel
theorem d_X_word_15 : decode b_X_word 15 = .ok (.iand, 1) := by decide +kernel
theorem d_X_word_16 : decode b_X_word 16 = .ok (.iconst 1, 1) := by decide +kernel
theorem d_X_word_17 : decode b_X_word 17 = .ok (.if_icmp .ne 12, 3) := by decide +kernel
theorem d_X_word_20 : decode b_X_word 20 = .ok (.aload_n 0, 1) := by decide +kernel
theorem d_X_word_21 : decode b_X_word 21 = .ok (.getfield 29, 3) := by decide +kernel
theorem d_X_word_24 : decode b_X_word 24 = .ok (.iload_n 1, 1) := by decide +kernel
theorem d_X_word_25 : decode b_X_word 25 = .ok (.iaload, 1) := by decide +kernel
theorem d_X_word_26 : decode b_X_word 26 = .ok (.goto 4, 3) := by decide +kernel
theorem d_X_word_29 : decode b_X_word 29 = .ok (.iconst 0, 1) := by decide +kernel
theorem d_X_word_30 : decode b_X_word 30 = .ok (.ireturn, 1) := by decide +kernel
theorem d_X_order_0 : decode b_X_order 0 = .ok (.iload_n 1, 1) := by decide +kernel
theorem d_X_order_1 : decode b_X_order 1 = .ok (.ifCond .lt 20, 3) := by decide +kernel
theorem d_X_order_4 : decode b_X_order 4 = .ok (.iload_n 1, 1) := by decide +kernel
theorem d_X_order_5 : decode b_X_order 5 = .ok (.aload_n 0, 1) := by decide +kernel
theorem d_X_order_6 : decode b_X_order 6 = .ok (.getfield 83, 3) := by decide +kernel
theorem d_X_order_9 : decode b_X_order 9 = .ok (.if_icmp .ge 12, 3) := by decide +kernel
theorem d_X_order_12 : decode b_X_order 12 = .ok (.aload_n 0, 1) := by decide +kernel
theorem d_X_order_13 : decode b_X_order 13 = .ok (.getfield 32, 3) := by decide +kernel
theorem d_X_order_16 : decode b_X_order 16 = .ok (.iload_n 1, 1) := by decide +kernel
theorem d_X_order_17 : decode b_X_order 17 = .ok (.iaload, 1) := by decide +kernel
theorem d_X_order_18 : decode b_X_order 18 = .ok (.goto 4, 3) := by decide +kernel
theorem d_X_order_21 : decode b_X_order 21 = .ok (.iconst (-1), 1) := by decide +kernel
theorem d_X_order_22 : decode b_X_order 22 = .ok (.ireturn, 1) := by decide +kernel
theorem d_X_open_0 : decode b_X_open 0 = .ok (.iload_n 1, 1) := by decide +kernel
theorem d_X_open_1 : decode b_X_open 1 = .ok (.ifCond .lt 23, 3) := by decide +kernel
theorem d_X_open_4 : decode b_X_open 4 = .ok (.iload_n 1, 1) := by decide +kernel
theorem d_X_open_5 : decode b_X_open 5 = .ok (.aload_n 0, 1) := by decide +kernel
theorem d_X_open_6 : decode b_X_open 6 = .ok (.getfield 64, 3) := by decide +kernel
theorem d_X_open_9 : decode b_X_open 9 = .ok (.if_icmp .ge 15, 3) := by decide +kernel
theorem d_X_open_12 : decode b_X_open 12 = .ok (.aload_n 0, 1) := by decide +kernel
theorem d_X_open_13 : decode b_X_open 13 = .ok (.getfield 16, 3) := by decide +kernel
theorem d_X_open_16 : decode b_X_open 16 = .ok (.iload_n 1, 1) := by decide +kernel
theorem d_X_open_17 : decode b_X_open 17 = .ok (.iaload, 1) := by decide +kernel
theorem d_X_open_18 : decode b_X_open 18 = .ok (.invokestatic 49, 3) := by decide +kernel
theorem d_X_open_21 : decode b_X_open 21 = .ok (.goto 4, 3) := by decide +kernel
theorem d_X_open_24 : decode b_X_open 24 = .ok (.iconst (-1), 1) := by decide +kernel
theorem d_X_open_25 : decode b_X_open 25 = .ok (.ireturn, 1) := by decide +kernel
theorem d_X_drops_0 : decode b_X_drops 0 = .ok (.aload_n 0, 1) := by decide +kernel
theorem d_X_drops_1 : decode b_X_drops 1 = .ok (.getfield 64, 3) := by decide +kernel
theorem d_X_drops_4 : decode b_X_drops 4 = .ok (.ireturn, 1) := by decide +kernel
theorem d_X_count_0 : decode b_X_count 0 = .ok (.aload_n 0, 1) := by decide +kernel
theorem d_X_count_1 : decode b_X_count 1 = .ok (.getfield 83, 3) := by decide +kernel
theorem d_X_count_4 : decode b_X_count 4 = .ok (.ireturn, 1) := by decide +kernel
theorem d_X_clashes_0 : decode b_X_clashes 0 = .ok (.aload_n 0, 1) := by decide +kernel
theorem d_X_clashes_1 : decode b_X_clashes 1 = .ok (.getfield 86, 3) := by decide +kernel
theorem d_X_clashes_4 : decode b_X_clashes 4 = .ok (.ireturn, 1) := by decide +kernel
theorem d_X_forget_0 : decode b_X_forget 0 = .ok (.aload_n 0, 1) := by decide +kernel
theorem d_X_forget_1 : decode b_X_forget 1 = .ok (.getfield 64, 3) := by decide +kernel
theorem d_X_forget_4 : decode b_X_forget 4 = .ok (.istore_n 1, 1) := by decide +kernel
theorem d_X_forget_5 : decode b_X_forget 5 = .ok (.aload_n 0, 1) := by decide +kernel
theorem d_X_forget_6 : decode b_X_forget 6 = .ok (.iconst 0, 1) := by decide +kernel
theorem d_X_forget_7 : decode b_X_forget 7 = .ok (.putfield 64, 3) := by decide +kernel
theorem d_X_forget_10 : decode b_X_forget 10 = .ok (.aload_n 0, 1) := by decide +kernel
theorem d_X_forget_11 : decode b_X_forget 11 = .ok (.iconst 0, 1) := by decide +kernel
theorem d_X_forget_12 : decode b_X_forget 12 = .ok (.putfield 67, 3) := by decide +kernel
theorem d_X_forget_15 : decode b_X_forget 15 = .ok (.aload_n 0, 1) := by decide +kernel
theorem d_X_forget_16 : decode b_X_forget 16 = .ok (.iconst 0, 1) := by decide +kernel
theorem d_X_forget_17 : decode b_X_forget 17 = .ok (.putfield 83, 3) := by decide +kernel
theorem d_X_forget_20 : decode b_X_forget 20 = .ok (.aload_n 0, 1) := by decide +kernel
theorem d_X_forget_21 : decode b_X_forget 21 = .ok (.iconst 0, 1) := by decide +kernel
theorem d_X_forget_22 : decode b_X_forget 22 = .ok (.putfield 86, 3) := by decide +kernel
theorem d_X_forget_25 : decode b_X_forget 25 = .ok (.iconst 0, 1) := by decide +kernel
theorem d_X_forget_26 : decode b_X_forget 26 = .ok (.istore_n 2, 1) := by decide +kernel
theorem d_X_forget_27 : decode b_X_forget 27 = .ok (.iload_n 2, 1) := by decide +kernel
theorem d_X_forget_28 : decode b_X_forget 28 = .ok (.bipush 32, 2) := by decide +kernel
theorem d_X_forget_30 : decode b_X_forget 30 = .ok (.if_icmp .ge 16, 3) := by decide +kernel
theorem d_X_forget_33 : decode b_X_forget 33 = .ok (.aload_n 0, 1) := by decide +kernel
theorem d_X_forget_34 : decode b_X_forget 34 = .ok (.getfield 29, 3) := by decide +kernel
theorem d_X_forget_37 : decode b_X_forget 37 = .ok (.iload_n 2, 1) := by decide +kernel
theorem d_X_forget_38 : decode b_X_forget 38 = .ok (.iconst 0, 1) := by decide +kernel
theorem d_X_forget_39 : decode b_X_forget 39 = .ok (.iastore, 1) := by decide +kernel
theorem d_X_forget_40 : decode b_X_forget 40 = .ok (.iinc 2 1, 3) := by decide +kernel
theorem d_X_forget_43 : decode b_X_forget 43 = .ok (.goto (-16), 3) := by decide +kernel
theorem d_X_forget_46 : decode b_X_forget 46 = .ok (.iload_n 1, 1) := by decide +kernel
theorem d_X_forget_47 : decode b_X_forget 47 = .ok (.ireturn, 1) := by decide +kernel
end
section
theorem d_M_init_0 : decode b_M_init 0 = .ok (.aload_n 0, 1) := by decide +kernel
theorem d_M_init_1 : decode b_M_init 1 = .ok (.invokespecial 1, 3) := by decide +kernel
theorem d_M_init_4 : decode b_M_init 4 = .ok (.aload_n 0, 1) := by decide +kernel
theorem d_M_init_5 : decode b_M_init 5 = .ok (.bipush 32, 2) := by decide +kernel
theorem d_M_init_7 : decode b_M_init 7 = .ok (.newarray .int, 2) := by decide +kernel
theorem d_M_init_9 : decode b_M_init 9 = .ok (.putfield 7, 3) := by decide +kernel
theorem d_M_init_12 : decode b_M_init 12 = .ok (.aload_n 0, 1) := by decide +kernel
theorem d_M_init_13 : decode b_M_init 13 = .ok (.bipush 60, 2) := by decide +kernel
theorem d_M_init_15 : decode b_M_init 15 = .ok (.newarray .int, 2) := by decide +kernel
theorem d_M_init_17 : decode b_M_init 17 = .ok (.putfield 13, 3) := by decide +kernel
theorem d_M_init_20 : decode b_M_init 20 = .ok (.aload_n 0, 1) := by decide +kernel
theorem d_M_init_21 : decode b_M_init 21 = .ok (.bipush 60, 2) := by decide +kernel
theorem d_M_init_23 : decode b_M_init 23 = .ok (.newarray .int, 2) := by decide +kernel
theorem d_M_init_25 : decode b_M_init 25 = .ok (.putfield 16, 3) := by decide +kernel
theorem d_M_init_28 : decode b_M_init 28 = .ok (.aload_n 0, 1) := by decide +kernel
theorem d_M_init_29 : decode b_M_init 29 = .ok (.bipush 60, 2) := by decide +kernel
theorem d_M_init_31 : decode b_M_init 31 = .ok (.newarray .int, 2) := by decide +kernel
theorem d_M_init_33 : decode b_M_init 33 = .ok (.putfield 19, 3) := by decide +kernel
theorem d_M_init_36 : decode b_M_init 36 = .ok (.aload_n 0, 1) := by decide +kernel
theorem d_M_init_37 : decode b_M_init 37 = .ok (.bipush 32, 2) := by decide +kernel
theorem d_M_init_39 : decode b_M_init 39 = .ok (.newarray .boolean, 2) := by decide +kernel
theorem d_M_init_41 : decode b_M_init 41 = .ok (.putfield 22, 3) := by decide +kernel
theorem d_M_init_44 : decode b_M_init 44 = .ok (.aload_n 0, 1) := by decide +kernel
theorem d_M_init_45 : decode b_M_init 45 = .ok (.bipush 32, 2) := by decide +kernel
theorem d_M_init_47 : decode b_M_init 47 = .ok (.newarray .int, 2) := by decide +kernel
theorem d_M_init_49 : decode b_M_init 49 = .ok (.putfield 26, 3) := by decide +kernel
theorem d_M_init_52 : decode b_M_init 52 = .ok (.aload_n 0, 1) := by decide +kernel
theorem d_M_init_53 : decode b_M_init 53 = .ok (.bipush 32, 2) := by decide +kernel
theorem d_M_init_55 : decode b_M_init 55 = .ok (.newarray .int, 2) := by decide +kernel
theorem d_M_init_57 : decode b_M_init 57 = .ok (.putfield 29, 3) := by decide +kernel
theorem d_M_init_60 : decode b_M_init 60 = .ok (.aload_n 0, 1) := by decide +kernel
theorem d_M_init_61 : decode b_M_init 61 = .ok (.bipush 32, 2) := by decide +kernel
theorem d_M_init_63 : decode b_M_init 63 = .ok (.newarray .boolean, 2) := by decide +kernel
theorem d_M_init_65 : decode b_M_init 65 = .ok (.putfield 32, 3) := by decide +kernel
theorem d_M_init_68 : decode b_M_init 68 = .ok (.iload_n 1, 1) := by decide +kernel
theorem d_M_init_69 : decode b_M_init 69 = .ok (.bipush 32, 2) := by decide +kernel
theorem d_M_init_71 : decode b_M_init 71 = .ok (.irem, 1) := by decide +kernel
theorem d_M_init_72 : decode b_M_init 72 = .ok (.istore_n 2, 1) := by decide +kernel
theorem d_M_init_73 : decode b_M_init 73 = .ok (.aload_n 0, 1) := by decide +kernel
theorem d_M_init_74 : decode b_M_init 74 = .ok (.iconst 1, 1) := by decide +kernel
theorem d_M_init_75 : decode b_M_init 75 = .ok (.iload_n 2, 1) := by decide +kernel
theorem d_M_init_76 : decode b_M_init 76 = .ok (.ifCond .ge 10, 3) := by decide +kernel
theorem d_M_init_79 : decode b_M_init 79 = .ok (.iload_n 2, 1) := by decide +kernel
theorem d_M_init_80 : decode b_M_init 80 = .ok (.bipush 32, 2) := by decide +kernel
theorem d_M_init_82 : decode b_M_init 82 = .ok (.iadd, 1) := by decide +kernel
theorem d_M_init_83 : decode b_M_init 83 = .ok (.goto 4, 3) := by decide +kernel
theorem d_M_init_86 : decode b_M_init 86 = .ok (.iload_n 2, 1) := by decide +kernel
theorem d_M_init_87 : decode b_M_init 87 = .ok (.iadd, 1) := by decide +kernel
theorem d_M_init_88 : decode b_M_init 88 = .ok (.putfield 35, 3) := by decide +kernel
theorem d_M_init_91 : decode b_M_init 91 = .ok (.return_, 1) := by decide +kernel
theorem d_M_put_0 : decode b_M_put 0 = .ok (.iload_n 1, 1) := by decide +kernel
theorem d_M_put_1 : decode b_M_put 1 = .ok (.ifCond .lt 11, 3) := by decide +kernel
theorem d_M_put_4 : decode b_M_put 4 = .ok (.iload_n 1, 1) := by decide +kernel
theorem d_M_put_5 : decode b_M_put 5 = .ok (.aload_n 0, 1) := by decide +kernel
theorem d_M_put_6 : decode b_M_put 6 = .ok (.getfield 35, 3) := by decide +kernel
theorem d_M_put_9 : decode b_M_put 9 = .ok (.if_icmp .lt 5, 3) := by decide +kernel
theorem d_M_put_12 : decode b_M_put 12 = .ok (.iconst (-1), 1) := by decide +kernel
theorem d_M_put_13 : decode b_M_put 13 = .ok (.ireturn, 1) := by decide +kernel
theorem d_M_put_14 : decode b_M_put 14 = .ok (.aload_n 0, 1) := by decide +kernel
theorem d_M_put_15 : decode b_M_put 15 = .ok (.getfield 7, 3) := by decide +kernel
theorem d_M_put_18 : decode b_M_put 18 = .ok (.iload_n 1, 1) := by decide +kernel
theorem d_M_put_19 : decode b_M_put 19 = .ok (.iload_n 2, 1) := by decide +kernel
theorem d_M_put_20 : decode b_M_put 20 = .ok (.iastore, 1) := by decide +kernel
theorem d_M_put_21 : decode b_M_put 21 = .ok (.iconst 1, 1) := by decide +kernel
theorem d_M_put_22 : decode b_M_put 22 = .ok (.ireturn, 1) := by decide +kernel
theorem d_M_drop_0 : decode b_M_drop 0 = .ok (.aload_n 0, 1) := by decide +kernel
theorem d_M_drop_1 : decode b_M_drop 1 = .ok (.iload_n 1, 1) := by decide +kernel
theorem d_M_drop_2 : decode b_M_drop 2 = .ok (.invokevirtual 49, 3) := by decide +kernel
theorem d_M_drop_5 : decode b_M_drop 5 = .ok (.istore_n 2, 1) := by decide +kernel
theorem d_M_drop_6 : decode b_M_drop 6 = .ok (.iconst 0, 1) := by decide +kernel
theorem d_M_drop_7 : decode b_M_drop 7 = .ok (.istore_n 3, 1) := by decide +kernel
theorem d_M_drop_8 : decode b_M_drop 8 = .ok (.iconst 0, 1) := by decide +kernel
theorem d_M_drop_9 : decode b_M_drop 9 = .ok (.istore 4, 2) := by decide +kernel
theorem d_M_drop_11 : decode b_M_drop 11 = .ok (.iload 4, 2) := by decide +kernel
theorem d_M_drop_13 : decode b_M_drop 13 = .ok (.aload_n 0, 1) := by decide +kernel
theorem d_M_drop_14 : decode b_M_drop 14 = .ok (.getfield 35, 3) := by decide +kernel
theorem d_M_drop_17 : decode b_M_drop 17 = .ok (.if_icmp .ge 33, 3) := by decide +kernel
theorem d_M_drop_20 : decode b_M_drop 20 = .ok (.iload_n 3, 1) := by decide +kernel
theorem d_M_drop_21 : decode b_M_drop 21 = .ok (.aload_n 0, 1) := by decide +kernel
theorem d_M_drop_22 : decode b_M_drop 22 = .ok (.getfield 32, 3) := by decide +kernel
theorem d_M_drop_25 : decode b_M_drop 25 = .ok (.iload 4, 2) := by decide +kernel
theorem d_M_drop_27 : decode b_M_drop 27 = .ok (.baload, 1) := by decide +kernel
theorem d_M_drop_28 : decode b_M_drop 28 = .ok (.ifCond .eq 13, 3) := by decide +kernel
theorem d_M_drop_31 : decode b_M_drop 31 = .ok (.aload_n 0, 1) := by decide +kernel
theorem d_M_drop_32 : decode b_M_drop 32 = .ok (.getfield 7, 3) := by decide +kernel
theorem d_M_drop_35 : decode b_M_drop 35 = .ok (.iload 4, 2) := by decide +kernel
theorem d_M_drop_37 : decode b_M_drop 37 = .ok (.iaload, 1) := by decide +kernel
theorem d_M_drop_38 : decode b_M_drop 38 = .ok (.goto 4, 3) := by decide +kernel
theorem d_M_drop_41 : decode b_M_drop 41 = .ok (.iconst 0, 1) := by decide +kernel
theorem d_M_drop_42 : decode b_M_drop 42 = .ok (.ixor, 1) := by decide +kernel
theorem d_M_drop_43 : decode b_M_drop 43 = .ok (.istore_n 3, 1) := by decide +kernel
theorem d_M_drop_44 : decode b_M_drop 44 = .ok (.iinc 4 1, 3) := by decide +kernel
theorem d_M_drop_47 : decode b_M_drop 47 = .ok (.goto (-36), 3) := by decide +kernel
theorem d_M_drop_50 : decode b_M_drop 50 = .ok (.iload_n 3, 1) := by decide +kernel
theorem d_M_drop_51 : decode b_M_drop 51 = .ok (.ireturn, 1) := by decide +kernel
theorem d_M_draw_0 : decode b_M_draw 0 = .ok (.aload_n 0, 1) := by decide +kernel
theorem d_M_draw_1 : decode b_M_draw 1 = .ok (.iload_n 1, 1) := by decide +kernel
theorem d_M_draw_2 : decode b_M_draw 2 = .ok (.putfield 39, 3) := by decide +kernel
theorem d_M_draw_5 : decode b_M_draw 5 = .ok (.aload_n 0, 1) := by decide +kernel
theorem d_M_draw_6 : decode b_M_draw 6 = .ok (.invokevirtual 44, 3) := by decide +kernel
theorem d_M_draw_9 : decode b_M_draw 9 = .ok (.istore_n 2, 1) := by decide +kernel
theorem d_M_draw_10 : decode b_M_draw 10 = .ok (.ldc 48, 2) := by decide +kernel
theorem d_M_draw_12 : decode b_M_draw 12 = .ok (.aload_n 0, 1) := by decide +kernel
theorem d_M_draw_13 : decode b_M_draw 13 = .ok (.getfield 35, 3) := by decide +kernel
theorem d_M_draw_16 : decode b_M_draw 16 = .ok (.idiv, 1) := by decide +kernel
theorem d_M_draw_17 : decode b_M_draw 17 = .ok (.istore_n 3, 1) := by decide +kernel
theorem d_M_draw_18 : decode b_M_draw 18 = .ok (.iconst 1, 1) := by decide +kernel
theorem d_M_draw_19 : decode b_M_draw 19 = .ok (.istore 4, 2) := by decide +kernel
theorem d_M_draw_21 : decode b_M_draw 21 = .ok (.iload 4, 2) := by decide +kernel
theorem d_M_draw_23 : decode b_M_draw 23 = .ok (.aload_n 0, 1) := by decide +kernel
theorem d_M_draw_24 : decode b_M_draw 24 = .ok (.getfield 35, 3) := by decide +kernel
theorem d_M_draw_27 : decode b_M_draw 27 = .ok (.if_icmp .ge 27, 3) := by decide +kernel
theorem d_M_draw_30 : decode b_M_draw 30 = .ok (.iload_n 2, 1) := by decide +kernel
theorem d_M_draw_31 : decode b_M_draw 31 = .ok (.iload_n 3, 1) := by decide +kernel
theorem d_M_draw_32 : decode b_M_draw 32 = .ok (.if_icmp .lt 22, 3) := by decide +kernel
theorem d_M_draw_35 : decode b_M_draw 35 = .ok (.iinc 4 1, 3) := by decide +kernel
theorem d_M_draw_38 : decode b_M_draw 38 = .ok (.iload_n 3, 1) := by decide +kernel
theorem d_M_draw_39 : decode b_M_draw 39 = .ok (.ldc 48, 2) := by decide +kernel
theorem d_M_draw_41 : decode b_M_draw 41 = .ok (.iload 4, 2) := by decide +kernel
theorem d_M_draw_43 : decode b_M_draw 43 = .ok (.iload 4, 2) := by decide +kernel
theorem d_M_draw_45 : decode b_M_draw 45 = .ok (.iconst 1, 1) := by decide +kernel
theorem d_M_draw_46 : decode b_M_draw 46 = .ok (.isub, 1) := by decide +kernel
theorem d_M_draw_47 : decode b_M_draw 47 = .ok (.imul, 1) := by decide +kernel
theorem d_M_draw_48 : decode b_M_draw 48 = .ok (.idiv, 1) := by decide +kernel
theorem d_M_draw_49 : decode b_M_draw 49 = .ok (.iadd, 1) := by decide +kernel
theorem d_M_draw_50 : decode b_M_draw 50 = .ok (.istore_n 3, 1) := by decide +kernel
theorem d_M_draw_51 : decode b_M_draw 51 = .ok (.goto (-30), 3) := by decide +kernel
theorem d_M_draw_54 : decode b_M_draw 54 = .ok (.iconst 0, 1) := by decide +kernel
theorem d_M_draw_55 : decode b_M_draw 55 = .ok (.istore 5, 2) := by decide +kernel
theorem d_M_draw_57 : decode b_M_draw 57 = .ok (.iload 5, 2) := by decide +kernel
theorem d_M_draw_59 : decode b_M_draw 59 = .ok (.aload_n 0, 1) := by decide +kernel
theorem d_M_draw_60 : decode b_M_draw 60 = .ok (.getfield 35, 3) := by decide +kernel
theorem d_M_draw_63 : decode b_M_draw 63 = .ok (.if_icmp .ge 17, 3) := by decide +kernel
theorem d_M_draw_66 : decode b_M_draw 66 = .ok (.aload_n 0, 1) := by decide +kernel
theorem d_M_draw_67 : decode b_M_draw 67 = .ok (.getfield 32, 3) := by decide +kernel
theorem d_M_draw_70 : decode b_M_draw 70 = .ok (.iload 5, 2) := by decide +kernel
theorem d_M_draw_72 : decode b_M_draw 72 = .ok (.iconst 0, 1) := by decide +kernel
theorem d_M_draw_73 : decode b_M_draw 73 = .ok (.bastore, 1) := by decide +kernel
theorem d_M_draw_74 : decode b_M_draw 74 = .ok (.iinc 5 1, 3) := by decide +kernel
theorem d_M_draw_77 : decode b_M_draw 77 = .ok (.goto (-20), 3) := by decide +kernel
theorem d_M_draw_80 : decode b_M_draw 80 = .ok (.iconst 0, 1) := by decide +kernel
theorem d_M_draw_81 : decode b_M_draw 81 = .ok (.istore 5, 2) := by decide +kernel
theorem d_M_draw_83 : decode b_M_draw 83 = .ok (.iload 5, 2) := by decide +kernel
theorem d_M_draw_85 : decode b_M_draw 85 = .ok (.iload 4, 2) := by decide +kernel
theorem d_M_draw_87 : decode b_M_draw 87 = .ok (.if_icmp .ge 45, 3) := by decide +kernel
theorem d_M_draw_90 : decode b_M_draw 90 = .ok (.aload_n 0, 1) := by decide +kernel
theorem d_M_draw_91 : decode b_M_draw 91 = .ok (.invokevirtual 44, 3) := by decide +kernel
theorem d_M_draw_94 : decode b_M_draw 94 = .ok (.aload_n 0, 1) := by decide +kernel
theorem d_M_draw_95 : decode b_M_draw 95 = .ok (.getfield 35, 3) := by decide +kernel
theorem d_M_draw_98 : decode b_M_draw 98 = .ok (.irem, 1) := by decide +kernel
theorem d_M_draw_99 : decode b_M_draw 99 = .ok (.istore 6, 2) := by decide +kernel
theorem d_M_draw_101 : decode b_M_draw 101 = .ok (.iload 5, 2) := by decide +kernel
theorem d_M_draw_103 : decode b_M_draw 103 = .ok (.aload_n 0, 1) := by decide +kernel
theorem d_M_draw_104 : decode b_M_draw 104 = .ok (.getfield 32, 3) := by decide +kernel
theorem d_M_draw_107 : decode b_M_draw 107 = .ok (.iload 6, 2) := by decide +kernel
theorem d_M_draw_109 : decode b_M_draw 109 = .ok (.baload, 1) := by decide +kernel
theorem d_M_draw_110 : decode b_M_draw 110 = .ok (.ifCond .eq 7, 3) := by decide +kernel
theorem d_M_draw_113 : decode b_M_draw 113 = .ok (.iconst 0, 1) := by decide +kernel
theorem d_M_draw_114 : decode b_M_draw 114 = .ok (.goto 4, 3) := by decide +kernel
theorem d_M_draw_117 : decode b_M_draw 117 = .ok (.iconst 1, 1) := by decide +kernel
theorem d_M_draw_118 : decode b_M_draw 118 = .ok (.iadd, 1) := by decide +kernel
theorem d_M_draw_119 : decode b_M_draw 119 = .ok (.istore 5, 2) := by decide +kernel
theorem d_M_draw_121 : decode b_M_draw 121 = .ok (.aload_n 0, 1) := by decide +kernel
theorem d_M_draw_122 : decode b_M_draw 122 = .ok (.getfield 32, 3) := by decide +kernel
theorem d_M_draw_125 : decode b_M_draw 125 = .ok (.iload 6, 2) := by decide +kernel
theorem d_M_draw_127 : decode b_M_draw 127 = .ok (.iconst 1, 1) := by decide +kernel
theorem d_M_draw_128 : decode b_M_draw 128 = .ok (.bastore, 1) := by decide +kernel
theorem d_M_draw_129 : decode b_M_draw 129 = .ok (.goto (-46), 3) := by decide +kernel
theorem d_M_draw_132 : decode b_M_draw 132 = .ok (.iload 4, 2) := by decide +kernel
theorem d_M_draw_134 : decode b_M_draw 134 = .ok (.ireturn, 1) := by decide +kernel
theorem d_M_drawn_0 : decode b_M_drawn 0 = .ok (.aload_n 0, 1) := by decide +kernel
theorem d_M_drawn_1 : decode b_M_drawn 1 = .ok (.aload_n 0, 1) := by decide +kernel
theorem d_M_drawn_2 : decode b_M_drawn 2 = .ok (.getfield 39, 3) := by decide +kernel
theorem d_M_drawn_5 : decode b_M_drawn 5 = .ok (.ldc 42, 2) := by decide +kernel
theorem d_M_drawn_7 : decode b_M_drawn 7 = .ok (.imul, 1) := by decide +kernel
theorem d_M_drawn_8 : decode b_M_drawn 8 = .ok (.ldc 43, 2) := by decide +kernel
theorem d_M_drawn_10 : decode b_M_drawn 10 = .ok (.iadd, 1) := by decide +kernel
theorem d_M_drawn_11 : decode b_M_drawn 11 = .ok (.putfield 39, 3) := by decide +kernel
theorem d_M_drawn_14 : decode b_M_drawn 14 = .ok (.aload_n 0, 1) := by decide +kernel
theorem d_M_drawn_15 : decode b_M_drawn 15 = .ok (.getfield 39, 3) := by decide +kernel
theorem d_M_drawn_18 : decode b_M_drawn 18 = .ok (.bipush 16, 2) := by decide +kernel
theorem d_M_drawn_20 : decode b_M_drawn 20 = .ok (.iushr, 1) := by decide +kernel
theorem d_M_drawn_21 : decode b_M_drawn 21 = .ok (.ireturn, 1) := by decide +kernel
theorem d_M_degree_0 : decode b_M_degree 0 = .ok (.aload_n 0, 1) := by decide +kernel
theorem d_M_degree_1 : decode b_M_degree 1 = .ok (.iload_n 1, 1) := by decide +kernel
theorem d_M_degree_2 : decode b_M_degree 2 = .ok (.invokevirtual 49, 3) := by decide +kernel
theorem d_M_degree_5 : decode b_M_degree 5 = .ok (.ireturn, 1) := by decide +kernel
theorem d_M_set_0 : decode b_M_set 0 = .ok (.aload_n 0, 1) := by decide +kernel
theorem d_M_set_1 : decode b_M_set 1 = .ok (.iload_n 1, 1) := by decide +kernel
theorem d_M_set_2 : decode b_M_set 2 = .ok (.invokevirtual 49, 3) := by decide +kernel
theorem d_M_set_5 : decode b_M_set 5 = .ok (.istore_n 2, 1) := by decide +kernel
theorem d_M_set_6 : decode b_M_set 6 = .ok (.iconst 0, 1) := by decide +kernel
theorem d_M_set_7 : decode b_M_set 7 = .ok (.istore_n 3, 1) := by decide +kernel
theorem d_M_set_8 : decode b_M_set 8 = .ok (.iconst 0, 1) := by decide +kernel
theorem d_M_set_9 : decode b_M_set 9 = .ok (.istore 4, 2) := by decide +kernel
theorem d_M_set_11 : decode b_M_set 11 = .ok (.iload 4, 2) := by decide +kernel
theorem d_M_set_13 : decode b_M_set 13 = .ok (.aload_n 0, 1) := by decide +kernel
theorem d_M_set_14 : decode b_M_set 14 = .ok (.getfield 35, 3) := by decide +kernel
theorem d_M_set_17 : decode b_M_set 17 = .ok (.if_icmp .ge 30, 3) := by decide +kernel
theorem d_M_set_20 : decode b_M_set 20 = .ok (.iload_n 3, 1) := by decide +kernel
theorem d_M_set_21 : decode b_M_set 21 = .ok (.aload_n 0, 1) := by decide +kernel
theorem d_M_set_22 : decode b_M_set 22 = .ok (.getfield 32, 3) := by decide +kernel
theorem d_M_set_25 : decode b_M_set 25 = .ok (.iload 4, 2) := by decide +kernel
theorem d_M_set_27 : decode b_M_set 27 = .ok (.baload, 1) := by decide +kernel
theorem d_M_set_28 : decode b_M_set 28 = .ok (.ifCond .eq 10, 3) := by decide +kernel
theorem d_M_set_31 : decode b_M_set 31 = .ok (.iconst 1, 1) := by decide +kernel
theorem d_M_set_32 : decode b_M_set 32 = .ok (.iload 4, 2) := by decide +kernel
theorem d_M_set_34 : decode b_M_set 34 = .ok (.ishl, 1) := by decide +kernel
theorem d_M_set_35 : decode b_M_set 35 = .ok (.goto 4, 3) := by decide +kernel
theorem d_M_set_38 : decode b_M_set 38 = .ok (.iconst 0, 1) := by decide +kernel
theorem d_M_set_39 : decode b_M_set 39 = .ok (.ior, 1) := by decide +kernel
theorem d_M_set_40 : decode b_M_set 40 = .ok (.istore_n 3, 1) := by decide +kernel
theorem d_M_set_41 : decode b_M_set 41 = .ok (.iinc 4 1, 3) := by decide +kernel
theorem d_M_set_44 : decode b_M_set 44 = .ok (.goto (-33), 3) := by decide +kernel
theorem d_M_set_47 : decode b_M_set 47 = .ok (.iload_n 3, 1) := by decide +kernel
theorem d_M_set_48 : decode b_M_set 48 = .ok (.ireturn, 1) := by decide +kernel
theorem d_M_receive_0 : decode b_M_receive 0 = .ok (.aload_n 0, 1) := by decide +kernel
theorem d_M_receive_1 : decode b_M_receive 1 = .ok (.getfield 56, 3) := by decide +kernel
theorem d_M_receive_4 : decode b_M_receive 4 = .ok (.bipush 60, 2) := by decide +kernel
theorem d_M_receive_6 : decode b_M_receive 6 = .ok (.if_icmp .ne 6, 3) := by decide +kernel
theorem d_M_receive_9 : decode b_M_receive 9 = .ok (.bipush (-2), 2) := by decide +kernel
theorem d_M_receive_11 : decode b_M_receive 11 = .ok (.ireturn, 1) := by decide +kernel
theorem d_M_receive_12 : decode b_M_receive 12 = .ok (.aload_n 0, 1) := by decide +kernel
theorem d_M_receive_13 : decode b_M_receive 13 = .ok (.getfield 56, 3) := by decide +kernel
theorem d_M_receive_16 : decode b_M_receive 16 = .ok (.istore_n 3, 1) := by decide +kernel
theorem d_M_receive_17 : decode b_M_receive 17 = .ok (.aload_n 0, 1) := by decide +kernel
theorem d_M_receive_18 : decode b_M_receive 18 = .ok (.dup, 1) := by decide +kernel
theorem d_M_receive_19 : decode b_M_receive 19 = .ok (.getfield 56, 3) := by decide +kernel
theorem d_M_receive_22 : decode b_M_receive 22 = .ok (.iconst 1, 1) := by decide +kernel
theorem d_M_receive_23 : decode b_M_receive 23 = .ok (.iadd, 1) := by decide +kernel
theorem d_M_receive_24 : decode b_M_receive 24 = .ok (.putfield 56, 3) := by decide +kernel
theorem d_M_receive_27 : decode b_M_receive 27 = .ok (.aload_n 0, 1) := by decide +kernel
theorem d_M_receive_28 : decode b_M_receive 28 = .ok (.getfield 13, 3) := by decide +kernel
theorem d_M_receive_31 : decode b_M_receive 31 = .ok (.iload_n 3, 1) := by decide +kernel
theorem d_M_receive_32 : decode b_M_receive 32 = .ok (.iload_n 1, 1) := by decide +kernel
theorem d_M_receive_33 : decode b_M_receive 33 = .ok (.iastore, 1) := by decide +kernel
theorem d_M_receive_34 : decode b_M_receive 34 = .ok (.aload_n 0, 1) := by decide +kernel
theorem d_M_receive_35 : decode b_M_receive 35 = .ok (.getfield 16, 3) := by decide +kernel
theorem d_M_receive_38 : decode b_M_receive 38 = .ok (.iload_n 3, 1) := by decide +kernel
theorem d_M_receive_39 : decode b_M_receive 39 = .ok (.iload_n 2, 1) := by decide +kernel
theorem d_M_receive_40 : decode b_M_receive 40 = .ok (.iastore, 1) := by decide +kernel
theorem d_M_receive_41 : decode b_M_receive 41 = .ok (.aload_n 0, 1) := by decide +kernel
theorem d_M_receive_42 : decode b_M_receive 42 = .ok (.getfield 19, 3) := by decide +kernel
theorem d_M_receive_45 : decode b_M_receive 45 = .ok (.iload_n 3, 1) := by decide +kernel
theorem d_M_receive_46 : decode b_M_receive 46 = .ok (.iconst 0, 1) := by decide +kernel
theorem d_M_receive_47 : decode b_M_receive 47 = .ok (.iastore, 1) := by decide +kernel
theorem d_M_receive_48 : decode b_M_receive 48 = .ok (.aload_n 0, 1) := by decide +kernel
theorem d_M_receive_49 : decode b_M_receive 49 = .ok (.iload_n 3, 1) := by decide +kernel
theorem d_M_receive_50 : decode b_M_receive 50 = .ok (.invokevirtual 65, 3) := by decide +kernel
theorem d_M_receive_53 : decode b_M_receive 53 = .ok (.istore 4, 2) := by decide +kernel
theorem d_M_receive_55 : decode b_M_receive 55 = .ok (.iload 4, 2) := by decide +kernel
theorem d_M_receive_57 : decode b_M_receive 57 = .ok (.iconst 1, 1) := by decide +kernel
theorem d_M_receive_58 : decode b_M_receive 58 = .ok (.if_icmp .ne 11, 3) := by decide +kernel
theorem d_M_receive_61 : decode b_M_receive 61 = .ok (.aload_n 0, 1) := by decide +kernel
theorem d_M_receive_62 : decode b_M_receive 62 = .ok (.iload_n 3, 1) := by decide +kernel
theorem d_M_receive_63 : decode b_M_receive 63 = .ok (.invokevirtual 68, 3) := by decide +kernel
theorem d_M_receive_66 : decode b_M_receive 66 = .ok (.goto 26, 3) := by decide +kernel
theorem d_M_receive_69 : decode b_M_receive 69 = .ok (.iload 4, 2) := by decide +kernel
theorem d_M_receive_71 : decode b_M_receive 71 = .ok (.ifCond .ne 21, 3) := by decide +kernel
theorem d_M_receive_74 : decode b_M_receive 74 = .ok (.aload_n 0, 1) := by decide +kernel
theorem d_M_receive_75 : decode b_M_receive 75 = .ok (.iload_n 3, 1) := by decide +kernel
theorem d_M_receive_76 : decode b_M_receive 76 = .ok (.invokevirtual 59, 3) := by decide +kernel
theorem d_M_receive_79 : decode b_M_receive 79 = .ok (.ifCond .eq 13, 3) := by decide +kernel
theorem d_M_receive_82 : decode b_M_receive 82 = .ok (.aload_n 0, 1) := by decide +kernel
theorem d_M_receive_83 : decode b_M_receive 83 = .ok (.dup, 1) := by decide +kernel
theorem d_M_receive_84 : decode b_M_receive 84 = .ok (.getfield 72, 3) := by decide +kernel
theorem d_M_receive_87 : decode b_M_receive 87 = .ok (.iconst 1, 1) := by decide +kernel
theorem d_M_receive_88 : decode b_M_receive 88 = .ok (.iadd, 1) := by decide +kernel
theorem d_M_receive_89 : decode b_M_receive 89 = .ok (.putfield 72, 3) := by decide +kernel
theorem d_M_receive_92 : decode b_M_receive 92 = .ok (.aload_n 0, 1) := by decide +kernel
theorem d_M_receive_93 : decode b_M_receive 93 = .ok (.invokevirtual 75, 3) := by decide +kernel
theorem d_M_receive_96 : decode b_M_receive 96 = .ok (.istore 5, 2) := by decide +kernel
theorem d_M_receive_98 : decode b_M_receive 98 = .ok (.iload 5, 2) := by decide +kernel
theorem d_M_receive_100 : decode b_M_receive 100 = .ok (.iconst (-1), 1) := by decide +kernel
theorem d_M_receive_101 : decode b_M_receive 101 = .ok (.if_icmp .eq 57, 3) := by decide +kernel
theorem d_M_receive_104 : decode b_M_receive 104 = .ok (.aload_n 0, 1) := by decide +kernel
theorem d_M_receive_105 : decode b_M_receive 105 = .ok (.getfield 19, 3) := by decide +kernel
theorem d_M_receive_108 : decode b_M_receive 108 = .ok (.iload 5, 2) := by decide +kernel
theorem d_M_receive_110 : decode b_M_receive 110 = .ok (.iconst 0, 1) := by decide +kernel
theorem d_M_receive_111 : decode b_M_receive 111 = .ok (.iastore, 1) := by decide +kernel
theorem d_M_receive_112 : decode b_M_receive 112 = .ok (.aload_n 0, 1) := by decide +kernel
theorem d_M_receive_113 : decode b_M_receive 113 = .ok (.iload 5, 2) := by decide +kernel
theorem d_M_receive_115 : decode b_M_receive 115 = .ok (.invokevirtual 65, 3) := by decide +kernel
theorem d_M_receive_118 : decode b_M_receive 118 = .ok (.ifCond .le 12, 3) := by decide +kernel
theorem d_M_receive_121 : decode b_M_receive 121 = .ok (.aload_n 0, 1) := by decide +kernel
theorem d_M_receive_122 : decode b_M_receive 122 = .ok (.iload 5, 2) := by decide +kernel
theorem d_M_receive_124 : decode b_M_receive 124 = .ok (.invokevirtual 78, 3) := by decide +kernel
theorem d_M_receive_127 : decode b_M_receive 127 = .ok (.goto 22, 3) := by decide +kernel
theorem d_M_receive_130 : decode b_M_receive 130 = .ok (.aload_n 0, 1) := by decide +kernel
theorem d_M_receive_131 : decode b_M_receive 131 = .ok (.iload 5, 2) := by decide +kernel
theorem d_M_receive_133 : decode b_M_receive 133 = .ok (.invokevirtual 59, 3) := by decide +kernel
theorem d_M_receive_136 : decode b_M_receive 136 = .ok (.ifCond .eq 13, 3) := by decide +kernel
theorem d_M_receive_139 : decode b_M_receive 139 = .ok (.aload_n 0, 1) := by decide +kernel
theorem d_M_receive_140 : decode b_M_receive 140 = .ok (.dup, 1) := by decide +kernel
theorem d_M_receive_141 : decode b_M_receive 141 = .ok (.getfield 72, 3) := by decide +kernel
theorem d_M_receive_144 : decode b_M_receive 144 = .ok (.iconst 1, 1) := by decide +kernel
theorem d_M_receive_145 : decode b_M_receive 145 = .ok (.iadd, 1) := by decide +kernel
theorem d_M_receive_146 : decode b_M_receive 146 = .ok (.putfield 72, 3) := by decide +kernel
theorem d_M_receive_149 : decode b_M_receive 149 = .ok (.aload_n 0, 1) := by decide +kernel
theorem d_M_receive_150 : decode b_M_receive 150 = .ok (.invokevirtual 75, 3) := by decide +kernel
theorem d_M_receive_153 : decode b_M_receive 153 = .ok (.istore 5, 2) := by decide +kernel
theorem d_M_receive_155 : decode b_M_receive 155 = .ok (.goto (-57), 3) := by decide +kernel
theorem d_M_receive_158 : decode b_M_receive 158 = .ok (.aload_n 0, 1) := by decide +kernel
theorem d_M_receive_159 : decode b_M_receive 159 = .ok (.getfield 62, 3) := by decide +kernel
theorem d_M_receive_162 : decode b_M_receive 162 = .ok (.ireturn, 1) := by decide +kernel
end
section
theorem d_M_isOpen_0 : decode b_M_isOpen 0 = .ok (.aload_n 0, 1) := by decide +kernel
theorem d_M_isOpen_1 : decode b_M_isOpen 1 = .ok (.aload_n 0, 1) := by decide +kernel
theorem d_M_isOpen_2 : decode b_M_isOpen 2 = .ok (.getfield 13, 3) := by decide +kernel
theorem d_M_isOpen_5 : decode b_M_isOpen 5 = .ok (.iload_n 1, 1) := by decide +kernel
theorem d_M_isOpen_6 : decode b_M_isOpen 6 = .ok (.iaload, 1) := by decide +kernel
theorem d_M_isOpen_7 : decode b_M_isOpen 7 = .ok (.invokevirtual 49, 3) := by decide +kernel
theorem d_M_isOpen_10 : decode b_M_isOpen 10 = .ok (.istore_n 2, 1) := by decide +kernel
theorem d_M_isOpen_11 : decode b_M_isOpen 11 = .ok (.iconst 0, 1) := by decide +kernel
theorem d_M_isOpen_12 : decode b_M_isOpen 12 = .ok (.istore_n 3, 1) := by decide +kernel
theorem d_M_isOpen_13 : decode b_M_isOpen 13 = .ok (.iconst 0, 1) := by decide +kernel
theorem d_M_isOpen_14 : decode b_M_isOpen 14 = .ok (.istore 4, 2) := by decide +kernel
theorem d_M_isOpen_16 : decode b_M_isOpen 16 = .ok (.iload 4, 2) := by decide +kernel
theorem d_M_isOpen_18 : decode b_M_isOpen 18 = .ok (.aload_n 0, 1) := by decide +kernel
theorem d_M_isOpen_19 : decode b_M_isOpen 19 = .ok (.getfield 35, 3) := by decide +kernel
theorem d_M_isOpen_22 : decode b_M_isOpen 22 = .ok (.if_icmp .ge 37, 3) := by decide +kernel
theorem d_M_isOpen_25 : decode b_M_isOpen 25 = .ok (.iload_n 3, 1) := by decide +kernel
theorem d_M_isOpen_26 : decode b_M_isOpen 26 = .ok (.aload_n 0, 1) := by decide +kernel
theorem d_M_isOpen_27 : decode b_M_isOpen 27 = .ok (.getfield 32, 3) := by decide +kernel
theorem d_M_isOpen_30 : decode b_M_isOpen 30 = .ok (.iload 4, 2) := by decide +kernel
theorem d_M_isOpen_32 : decode b_M_isOpen 32 = .ok (.baload, 1) := by decide +kernel
theorem d_M_isOpen_33 : decode b_M_isOpen 33 = .ok (.ifCond .eq 17, 3) := by decide +kernel
theorem d_M_isOpen_36 : decode b_M_isOpen 36 = .ok (.aload_n 0, 1) := by decide +kernel
theorem d_M_isOpen_37 : decode b_M_isOpen 37 = .ok (.getfield 22, 3) := by decide +kernel
theorem d_M_isOpen_40 : decode b_M_isOpen 40 = .ok (.iload 4, 2) := by decide +kernel
theorem d_M_isOpen_42 : decode b_M_isOpen 42 = .ok (.baload, 1) := by decide +kernel
theorem d_M_isOpen_43 : decode b_M_isOpen 43 = .ok (.ifCond .ne 7, 3) := by decide +kernel
theorem d_M_isOpen_46 : decode b_M_isOpen 46 = .ok (.iconst 1, 1) := by decide +kernel
theorem d_M_isOpen_47 : decode b_M_isOpen 47 = .ok (.goto 4, 3) := by decide +kernel
theorem d_M_isOpen_50 : decode b_M_isOpen 50 = .ok (.iconst 0, 1) := by decide +kernel
theorem d_M_isOpen_51 : decode b_M_isOpen 51 = .ok (.iadd, 1) := by decide +kernel
theorem d_M_isOpen_52 : decode b_M_isOpen 52 = .ok (.istore_n 3, 1) := by decide +kernel
theorem d_M_isOpen_53 : decode b_M_isOpen 53 = .ok (.iinc 4 1, 3) := by decide +kernel
theorem d_M_isOpen_56 : decode b_M_isOpen 56 = .ok (.goto (-40), 3) := by decide +kernel
theorem d_M_isOpen_59 : decode b_M_isOpen 59 = .ok (.iload_n 3, 1) := by decide +kernel
theorem d_M_isOpen_60 : decode b_M_isOpen 60 = .ok (.ireturn, 1) := by decide +kernel
theorem d_M_await_0 : decode b_M_await 0 = .ok (.aload_n 0, 1) := by decide +kernel
theorem d_M_await_1 : decode b_M_await 1 = .ok (.dup, 1) := by decide +kernel
theorem d_M_await_2 : decode b_M_await 2 = .ok (.getfield 53, 3) := by decide +kernel
theorem d_M_await_5 : decode b_M_await 5 = .ok (.iconst 1, 1) := by decide +kernel
theorem d_M_await_6 : decode b_M_await 6 = .ok (.iadd, 1) := by decide +kernel
theorem d_M_await_7 : decode b_M_await 7 = .ok (.putfield 53, 3) := by decide +kernel
theorem d_M_await_10 : decode b_M_await 10 = .ok (.aload_n 0, 1) := by decide +kernel
theorem d_M_await_11 : decode b_M_await 11 = .ok (.getfield 19, 3) := by decide +kernel
theorem d_M_await_14 : decode b_M_await 14 = .ok (.iload_n 1, 1) := by decide +kernel
theorem d_M_await_15 : decode b_M_await 15 = .ok (.aload_n 0, 1) := by decide +kernel
theorem d_M_await_16 : decode b_M_await 16 = .ok (.getfield 53, 3) := by decide +kernel
theorem d_M_await_19 : decode b_M_await 19 = .ok (.iastore, 1) := by decide +kernel
theorem d_M_await_20 : decode b_M_await 20 = .ok (.return_, 1) := by decide +kernel
theorem d_M_off_0 : decode b_M_off 0 = .ok (.aload_n 0, 1) := by decide +kernel
theorem d_M_off_1 : decode b_M_off 1 = .ok (.aload_n 0, 1) := by decide +kernel
theorem d_M_off_2 : decode b_M_off 2 = .ok (.getfield 13, 3) := by decide +kernel
theorem d_M_off_5 : decode b_M_off 5 = .ok (.iload_n 1, 1) := by decide +kernel
theorem d_M_off_6 : decode b_M_off 6 = .ok (.iaload, 1) := by decide +kernel
theorem d_M_off_7 : decode b_M_off 7 = .ok (.invokevirtual 49, 3) := by decide +kernel
theorem d_M_off_10 : decode b_M_off 10 = .ok (.istore_n 2, 1) := by decide +kernel
theorem d_M_off_11 : decode b_M_off 11 = .ok (.aload_n 0, 1) := by decide +kernel
theorem d_M_off_12 : decode b_M_off 12 = .ok (.getfield 16, 3) := by decide +kernel
theorem d_M_off_15 : decode b_M_off 15 = .ok (.iload_n 1, 1) := by decide +kernel
theorem d_M_off_16 : decode b_M_off 16 = .ok (.iaload, 1) := by decide +kernel
theorem d_M_off_17 : decode b_M_off 17 = .ok (.istore_n 3, 1) := by decide +kernel
theorem d_M_off_18 : decode b_M_off 18 = .ok (.iconst 0, 1) := by decide +kernel
theorem d_M_off_19 : decode b_M_off 19 = .ok (.istore 4, 2) := by decide +kernel
theorem d_M_off_21 : decode b_M_off 21 = .ok (.iload 4, 2) := by decide +kernel
theorem d_M_off_23 : decode b_M_off 23 = .ok (.aload_n 0, 1) := by decide +kernel
theorem d_M_off_24 : decode b_M_off 24 = .ok (.getfield 35, 3) := by decide +kernel
theorem d_M_off_27 : decode b_M_off 27 = .ok (.if_icmp .ge 43, 3) := by decide +kernel
theorem d_M_off_30 : decode b_M_off 30 = .ok (.iload_n 3, 1) := by decide +kernel
theorem d_M_off_31 : decode b_M_off 31 = .ok (.aload_n 0, 1) := by decide +kernel
theorem d_M_off_32 : decode b_M_off 32 = .ok (.getfield 32, 3) := by decide +kernel
theorem d_M_off_35 : decode b_M_off 35 = .ok (.iload 4, 2) := by decide +kernel
theorem d_M_off_37 : decode b_M_off 37 = .ok (.baload, 1) := by decide +kernel
theorem d_M_off_38 : decode b_M_off 38 = .ok (.ifCond .eq 23, 3) := by decide +kernel
theorem d_M_off_41 : decode b_M_off 41 = .ok (.aload_n 0, 1) := by decide +kernel
theorem d_M_off_42 : decode b_M_off 42 = .ok (.getfield 22, 3) := by decide +kernel
theorem d_M_off_45 : decode b_M_off 45 = .ok (.iload 4, 2) := by decide +kernel
theorem d_M_off_47 : decode b_M_off 47 = .ok (.baload, 1) := by decide +kernel
theorem d_M_off_48 : decode b_M_off 48 = .ok (.ifCond .eq 13, 3) := by decide +kernel
theorem d_M_off_51 : decode b_M_off 51 = .ok (.aload_n 0, 1) := by decide +kernel
theorem d_M_off_52 : decode b_M_off 52 = .ok (.getfield 26, 3) := by decide +kernel
theorem d_M_off_55 : decode b_M_off 55 = .ok (.iload 4, 2) := by decide +kernel
theorem d_M_off_57 : decode b_M_off 57 = .ok (.iaload, 1) := by decide +kernel
theorem d_M_off_58 : decode b_M_off 58 = .ok (.goto 4, 3) := by decide +kernel
theorem d_M_off_61 : decode b_M_off 61 = .ok (.iconst 0, 1) := by decide +kernel
theorem d_M_off_62 : decode b_M_off 62 = .ok (.ixor, 1) := by decide +kernel
theorem d_M_off_63 : decode b_M_off 63 = .ok (.istore_n 3, 1) := by decide +kernel
theorem d_M_off_64 : decode b_M_off 64 = .ok (.iinc 4 1, 3) := by decide +kernel
theorem d_M_off_67 : decode b_M_off 67 = .ok (.goto (-46), 3) := by decide +kernel
theorem d_M_off_70 : decode b_M_off 70 = .ok (.iload_n 3, 1) := by decide +kernel
theorem d_M_off_71 : decode b_M_off 71 = .ok (.ireturn, 1) := by decide +kernel
theorem d_M_first_0 : decode b_M_first 0 = .ok (.iconst (-1), 1) := by decide +kernel
theorem d_M_first_1 : decode b_M_first 1 = .ok (.istore_n 1, 1) := by decide +kernel
theorem d_M_first_2 : decode b_M_first 2 = .ok (.iconst 0, 1) := by decide +kernel
theorem d_M_first_3 : decode b_M_first 3 = .ok (.istore_n 2, 1) := by decide +kernel
theorem d_M_first_4 : decode b_M_first 4 = .ok (.iload_n 2, 1) := by decide +kernel
theorem d_M_first_5 : decode b_M_first 5 = .ok (.aload_n 0, 1) := by decide +kernel
theorem d_M_first_6 : decode b_M_first 6 = .ok (.getfield 56, 3) := by decide +kernel
theorem d_M_first_9 : decode b_M_first 9 = .ok (.if_icmp .ge 44, 3) := by decide +kernel
theorem d_M_first_12 : decode b_M_first 12 = .ok (.aload_n 0, 1) := by decide +kernel
theorem d_M_first_13 : decode b_M_first 13 = .ok (.getfield 19, 3) := by decide +kernel
theorem d_M_first_16 : decode b_M_first 16 = .ok (.iload_n 2, 1) := by decide +kernel
theorem d_M_first_17 : decode b_M_first 17 = .ok (.iaload, 1) := by decide +kernel
theorem d_M_first_18 : decode b_M_first 18 = .ok (.ifCond .le 27, 3) := by decide +kernel
theorem d_M_first_21 : decode b_M_first 21 = .ok (.iload_n 1, 1) := by decide +kernel
theorem d_M_first_22 : decode b_M_first 22 = .ok (.iconst (-1), 1) := by decide +kernel
theorem d_M_first_23 : decode b_M_first 23 = .ok (.if_icmp .eq 18, 3) := by decide +kernel
theorem d_M_first_26 : decode b_M_first 26 = .ok (.aload_n 0, 1) := by decide +kernel
theorem d_M_first_27 : decode b_M_first 27 = .ok (.getfield 19, 3) := by decide +kernel
theorem d_M_first_30 : decode b_M_first 30 = .ok (.iload_n 2, 1) := by decide +kernel
theorem d_M_first_31 : decode b_M_first 31 = .ok (.iaload, 1) := by decide +kernel
theorem d_M_first_32 : decode b_M_first 32 = .ok (.aload_n 0, 1) := by decide +kernel
theorem d_M_first_33 : decode b_M_first 33 = .ok (.getfield 19, 3) := by decide +kernel
theorem d_M_first_36 : decode b_M_first 36 = .ok (.iload_n 1, 1) := by decide +kernel
theorem d_M_first_37 : decode b_M_first 37 = .ok (.iaload, 1) := by decide +kernel
theorem d_M_first_38 : decode b_M_first 38 = .ok (.if_icmp .ge 7, 3) := by decide +kernel
theorem d_M_first_41 : decode b_M_first 41 = .ok (.iload_n 2, 1) := by decide +kernel
theorem d_M_first_42 : decode b_M_first 42 = .ok (.goto 4, 3) := by decide +kernel
theorem d_M_first_45 : decode b_M_first 45 = .ok (.iload_n 1, 1) := by decide +kernel
theorem d_M_first_46 : decode b_M_first 46 = .ok (.istore_n 1, 1) := by decide +kernel
theorem d_M_first_47 : decode b_M_first 47 = .ok (.iinc 2 1, 3) := by decide +kernel
theorem d_M_first_50 : decode b_M_first 50 = .ok (.goto (-46), 3) := by decide +kernel
theorem d_M_first_53 : decode b_M_first 53 = .ok (.iload_n 1, 1) := by decide +kernel
theorem d_M_first_54 : decode b_M_first 54 = .ok (.ireturn, 1) := by decide +kernel
theorem d_M_learn_0 : decode b_M_learn 0 = .ok (.aload_n 0, 1) := by decide +kernel
theorem d_M_learn_1 : decode b_M_learn 1 = .ok (.iload_n 1, 1) := by decide +kernel
theorem d_M_learn_2 : decode b_M_learn 2 = .ok (.invokevirtual 59, 3) := by decide +kernel
theorem d_M_learn_5 : decode b_M_learn 5 = .ok (.istore_n 2, 1) := by decide +kernel
theorem d_M_learn_6 : decode b_M_learn 6 = .ok (.aload_n 0, 1) := by decide +kernel
theorem d_M_learn_7 : decode b_M_learn 7 = .ok (.aload_n 0, 1) := by decide +kernel
theorem d_M_learn_8 : decode b_M_learn 8 = .ok (.getfield 13, 3) := by decide +kernel
theorem d_M_learn_11 : decode b_M_learn 11 = .ok (.iload_n 1, 1) := by decide +kernel
theorem d_M_learn_12 : decode b_M_learn 12 = .ok (.iaload, 1) := by decide +kernel
theorem d_M_learn_13 : decode b_M_learn 13 = .ok (.invokevirtual 49, 3) := by decide +kernel
theorem d_M_learn_16 : decode b_M_learn 16 = .ok (.istore_n 3, 1) := by decide +kernel
theorem d_M_learn_17 : decode b_M_learn 17 = .ok (.iconst 0, 1) := by decide +kernel
theorem d_M_learn_18 : decode b_M_learn 18 = .ok (.istore 4, 2) := by decide +kernel
theorem d_M_learn_20 : decode b_M_learn 20 = .ok (.aload_n 0, 1) := by decide +kernel
theorem d_M_learn_21 : decode b_M_learn 21 = .ok (.getfield 32, 3) := by decide +kernel
theorem d_M_learn_24 : decode b_M_learn 24 = .ok (.iload 4, 2) := by decide +kernel
theorem d_M_learn_26 : decode b_M_learn 26 = .ok (.baload, 1) := by decide +kernel
theorem d_M_learn_27 : decode b_M_learn 27 = .ok (.ifCond .eq 13, 3) := by decide +kernel
theorem d_M_learn_30 : decode b_M_learn 30 = .ok (.aload_n 0, 1) := by decide +kernel
theorem d_M_learn_31 : decode b_M_learn 31 = .ok (.getfield 22, 3) := by decide +kernel
theorem d_M_learn_34 : decode b_M_learn 34 = .ok (.iload 4, 2) := by decide +kernel
theorem d_M_learn_36 : decode b_M_learn 36 = .ok (.baload, 1) := by decide +kernel
theorem d_M_learn_37 : decode b_M_learn 37 = .ok (.ifCond .eq 9, 3) := by decide +kernel
theorem d_M_learn_40 : decode b_M_learn 40 = .ok (.iinc 4 1, 3) := by decide +kernel
theorem d_M_learn_43 : decode b_M_learn 43 = .ok (.goto (-23), 3) := by decide +kernel
theorem d_M_learn_46 : decode b_M_learn 46 = .ok (.aload_n 0, 1) := by decide +kernel
theorem d_M_learn_47 : decode b_M_learn 47 = .ok (.getfield 22, 3) := by decide +kernel
theorem d_M_learn_50 : decode b_M_learn 50 = .ok (.iload 4, 2) := by decide +kernel
theorem d_M_learn_52 : decode b_M_learn 52 = .ok (.iconst 1, 1) := by decide +kernel
theorem d_M_learn_53 : decode b_M_learn 53 = .ok (.bastore, 1) := by decide +kernel
theorem d_M_learn_54 : decode b_M_learn 54 = .ok (.aload_n 0, 1) := by decide +kernel
theorem d_M_learn_55 : decode b_M_learn 55 = .ok (.getfield 26, 3) := by decide +kernel
theorem d_M_learn_58 : decode b_M_learn 58 = .ok (.iload 4, 2) := by decide +kernel
theorem d_M_learn_60 : decode b_M_learn 60 = .ok (.iload_n 2, 1) := by decide +kernel
theorem d_M_learn_61 : decode b_M_learn 61 = .ok (.iastore, 1) := by decide +kernel
theorem d_M_learn_62 : decode b_M_learn 62 = .ok (.aload_n 0, 1) := by decide +kernel
theorem d_M_learn_63 : decode b_M_learn 63 = .ok (.getfield 29, 3) := by decide +kernel
theorem d_M_learn_66 : decode b_M_learn 66 = .ok (.aload_n 0, 1) := by decide +kernel
theorem d_M_learn_67 : decode b_M_learn 67 = .ok (.getfield 62, 3) := by decide +kernel
theorem d_M_learn_70 : decode b_M_learn 70 = .ok (.iload 4, 2) := by decide +kernel
theorem d_M_learn_72 : decode b_M_learn 72 = .ok (.iastore, 1) := by decide +kernel
theorem d_M_learn_73 : decode b_M_learn 73 = .ok (.aload_n 0, 1) := by decide +kernel
theorem d_M_learn_74 : decode b_M_learn 74 = .ok (.dup, 1) := by decide +kernel
theorem d_M_learn_75 : decode b_M_learn 75 = .ok (.getfield 62, 3) := by decide +kernel
theorem d_M_learn_78 : decode b_M_learn 78 = .ok (.iconst 1, 1) := by decide +kernel
theorem d_M_learn_79 : decode b_M_learn 79 = .ok (.iadd, 1) := by decide +kernel
theorem d_M_learn_80 : decode b_M_learn 80 = .ok (.putfield 62, 3) := by decide +kernel
theorem d_M_learn_83 : decode b_M_learn 83 = .ok (.iconst 0, 1) := by decide +kernel
theorem d_M_learn_84 : decode b_M_learn 84 = .ok (.istore 5, 2) := by decide +kernel
theorem d_M_learn_86 : decode b_M_learn 86 = .ok (.iload 5, 2) := by decide +kernel
theorem d_M_learn_88 : decode b_M_learn 88 = .ok (.aload_n 0, 1) := by decide +kernel
theorem d_M_learn_89 : decode b_M_learn 89 = .ok (.getfield 56, 3) := by decide +kernel
theorem d_M_learn_92 : decode b_M_learn 92 = .ok (.if_icmp .ge 86, 3) := by decide +kernel
theorem d_M_learn_95 : decode b_M_learn 95 = .ok (.aload_n 0, 1) := by decide +kernel
theorem d_M_learn_96 : decode b_M_learn 96 = .ok (.iload 5, 2) := by decide +kernel
theorem d_M_learn_98 : decode b_M_learn 98 = .ok (.invokevirtual 65, 3) := by decide +kernel
theorem d_M_learn_101 : decode b_M_learn 101 = .ok (.istore 6, 2) := by decide +kernel
theorem d_M_learn_103 : decode b_M_learn 103 = .ok (.aload_n 0, 1) := by decide +kernel
theorem d_M_learn_104 : decode b_M_learn 104 = .ok (.getfield 32, 3) := by decide +kernel
theorem d_M_learn_107 : decode b_M_learn 107 = .ok (.iload 4, 2) := by decide +kernel
theorem d_M_learn_109 : decode b_M_learn 109 = .ok (.baload, 1) := by decide +kernel
theorem d_M_learn_110 : decode b_M_learn 110 = .ok (.ifCond .eq 18, 3) := by decide +kernel
theorem d_M_learn_113 : decode b_M_learn 113 = .ok (.iload 6, 2) := by decide +kernel
theorem d_M_learn_115 : decode b_M_learn 115 = .ok (.iconst 1, 1) := by decide +kernel
theorem d_M_learn_116 : decode b_M_learn 116 = .ok (.if_icmp .ne 12, 3) := by decide +kernel
theorem d_M_learn_119 : decode b_M_learn 119 = .ok (.aload_n 0, 1) := by decide +kernel
theorem d_M_learn_120 : decode b_M_learn 120 = .ok (.iload 5, 2) := by decide +kernel
theorem d_M_learn_122 : decode b_M_learn 122 = .ok (.invokevirtual 68, 3) := by decide +kernel
theorem d_M_learn_125 : decode b_M_learn 125 = .ok (.goto 47, 3) := by decide +kernel
theorem d_M_learn_128 : decode b_M_learn 128 = .ok (.aload_n 0, 1) := by decide +kernel
theorem d_M_learn_129 : decode b_M_learn 129 = .ok (.getfield 32, 3) := by decide +kernel
theorem d_M_learn_132 : decode b_M_learn 132 = .ok (.iload 4, 2) := by decide +kernel
theorem d_M_learn_134 : decode b_M_learn 134 = .ok (.baload, 1) := by decide +kernel
theorem d_M_learn_135 : decode b_M_learn 135 = .ok (.ifCond .eq 37, 3) := by decide +kernel
theorem d_M_learn_138 : decode b_M_learn 138 = .ok (.iload 6, 2) := by decide +kernel
theorem d_M_learn_140 : decode b_M_learn 140 = .ok (.ifCond .ne 32, 3) := by decide +kernel
theorem d_M_learn_143 : decode b_M_learn 143 = .ok (.aload_n 0, 1) := by decide +kernel
theorem d_M_learn_144 : decode b_M_learn 144 = .ok (.getfield 19, 3) := by decide +kernel
theorem d_M_learn_147 : decode b_M_learn 147 = .ok (.iload 5, 2) := by decide +kernel
theorem d_M_learn_149 : decode b_M_learn 149 = .ok (.iaload, 1) := by decide +kernel
theorem d_M_learn_150 : decode b_M_learn 150 = .ok (.ifCond .ne 22, 3) := by decide +kernel
theorem d_M_learn_153 : decode b_M_learn 153 = .ok (.aload_n 0, 1) := by decide +kernel
theorem d_M_learn_154 : decode b_M_learn 154 = .ok (.iload 5, 2) := by decide +kernel
theorem d_M_learn_156 : decode b_M_learn 156 = .ok (.invokevirtual 59, 3) := by decide +kernel
theorem d_M_learn_159 : decode b_M_learn 159 = .ok (.ifCond .eq 13, 3) := by decide +kernel
theorem d_M_learn_162 : decode b_M_learn 162 = .ok (.aload_n 0, 1) := by decide +kernel
theorem d_M_learn_163 : decode b_M_learn 163 = .ok (.dup, 1) := by decide +kernel
theorem d_M_learn_164 : decode b_M_learn 164 = .ok (.getfield 72, 3) := by decide +kernel
theorem d_M_learn_167 : decode b_M_learn 167 = .ok (.iconst 1, 1) := by decide +kernel
theorem d_M_learn_168 : decode b_M_learn 168 = .ok (.iadd, 1) := by decide +kernel
theorem d_M_learn_169 : decode b_M_learn 169 = .ok (.putfield 72, 3) := by decide +kernel
theorem d_M_learn_172 : decode b_M_learn 172 = .ok (.iinc 5 1, 3) := by decide +kernel
theorem d_M_learn_175 : decode b_M_learn 175 = .ok (.goto (-89), 3) := by decide +kernel
theorem d_M_learn_178 : decode b_M_learn 178 = .ok (.return_, 1) := by decide +kernel
theorem d_M_known_0 : decode b_M_known 0 = .ok (.iload_n 1, 1) := by decide +kernel
theorem d_M_known_1 : decode b_M_known 1 = .ok (.ifCond .lt 11, 3) := by decide +kernel
theorem d_M_known_4 : decode b_M_known 4 = .ok (.iload_n 1, 1) := by decide +kernel
theorem d_M_known_5 : decode b_M_known 5 = .ok (.aload_n 0, 1) := by decide +kernel
theorem d_M_known_6 : decode b_M_known 6 = .ok (.getfield 35, 3) := by decide +kernel
theorem d_M_known_9 : decode b_M_known 9 = .ok (.if_icmp .lt 7, 3) := by decide +kernel
theorem d_M_known_12 : decode b_M_known 12 = .ok (.iconst (-1), 1) := by decide +kernel
theorem d_M_known_13 : decode b_M_known 13 = .ok (.goto 17, 3) := by decide +kernel
theorem d_M_known_16 : decode b_M_known 16 = .ok (.aload_n 0, 1) := by decide +kernel
theorem d_M_known_17 : decode b_M_known 17 = .ok (.getfield 22, 3) := by decide +kernel
theorem d_M_known_20 : decode b_M_known 20 = .ok (.iload_n 1, 1) := by decide +kernel
theorem d_M_known_21 : decode b_M_known 21 = .ok (.baload, 1) := by decide +kernel
theorem d_M_known_22 : decode b_M_known 22 = .ok (.ifCond .eq 7, 3) := by decide +kernel
theorem d_M_known_25 : decode b_M_known 25 = .ok (.iconst 1, 1) := by decide +kernel
theorem d_M_known_26 : decode b_M_known 26 = .ok (.goto 4, 3) := by decide +kernel
theorem d_M_known_29 : decode b_M_known 29 = .ok (.iconst 0, 1) := by decide +kernel
theorem d_M_known_30 : decode b_M_known 30 = .ok (.ireturn, 1) := by decide +kernel
theorem d_M_word_0 : decode b_M_word 0 = .ok (.iload_n 1, 1) := by decide +kernel
theorem d_M_word_1 : decode b_M_word 1 = .ok (.ifCond .lt 20, 3) := by decide +kernel
theorem d_M_word_4 : decode b_M_word 4 = .ok (.iload_n 1, 1) := by decide +kernel
theorem d_M_word_5 : decode b_M_word 5 = .ok (.aload_n 0, 1) := by decide +kernel
theorem d_M_word_6 : decode b_M_word 6 = .ok (.getfield 35, 3) := by decide +kernel
theorem d_M_word_9 : decode b_M_word 9 = .ok (.if_icmp .ge 12, 3) := by decide +kernel
theorem d_M_word_12 : decode b_M_word 12 = .ok (.aload_n 0, 1) := by decide +kernel
theorem d_M_word_13 : decode b_M_word 13 = .ok (.getfield 22, 3) := by decide +kernel
theorem d_M_word_16 : decode b_M_word 16 = .ok (.iload_n 1, 1) := by decide +kernel
theorem d_M_word_17 : decode b_M_word 17 = .ok (.baload, 1) := by decide +kernel
theorem d_M_word_18 : decode b_M_word 18 = .ok (.ifCond .ne 7, 3) := by decide +kernel
theorem d_M_word_21 : decode b_M_word 21 = .ok (.iconst 0, 1) := by decide +kernel
theorem d_M_word_22 : decode b_M_word 22 = .ok (.goto 9, 3) := by decide +kernel
theorem d_M_word_25 : decode b_M_word 25 = .ok (.aload_n 0, 1) := by decide +kernel
theorem d_M_word_26 : decode b_M_word 26 = .ok (.getfield 26, 3) := by decide +kernel
theorem d_M_word_29 : decode b_M_word 29 = .ok (.iload_n 1, 1) := by decide +kernel
theorem d_M_word_30 : decode b_M_word 30 = .ok (.iaload, 1) := by decide +kernel
theorem d_M_word_31 : decode b_M_word 31 = .ok (.ireturn, 1) := by decide +kernel
theorem d_M_order_0 : decode b_M_order 0 = .ok (.iload_n 1, 1) := by decide +kernel
theorem d_M_order_1 : decode b_M_order 1 = .ok (.ifCond .lt 11, 3) := by decide +kernel
theorem d_M_order_4 : decode b_M_order 4 = .ok (.iload_n 1, 1) := by decide +kernel
theorem d_M_order_5 : decode b_M_order 5 = .ok (.aload_n 0, 1) := by decide +kernel
theorem d_M_order_6 : decode b_M_order 6 = .ok (.getfield 62, 3) := by decide +kernel
theorem d_M_order_9 : decode b_M_order 9 = .ok (.if_icmp .lt 7, 3) := by decide +kernel
theorem d_M_order_12 : decode b_M_order 12 = .ok (.iconst (-1), 1) := by decide +kernel
theorem d_M_order_13 : decode b_M_order 13 = .ok (.goto 9, 3) := by decide +kernel
theorem d_M_order_16 : decode b_M_order 16 = .ok (.aload_n 0, 1) := by decide +kernel
theorem d_M_order_17 : decode b_M_order 17 = .ok (.getfield 29, 3) := by decide +kernel
theorem d_M_order_20 : decode b_M_order 20 = .ok (.iload_n 1, 1) := by decide +kernel
theorem d_M_order_21 : decode b_M_order 21 = .ok (.iaload, 1) := by decide +kernel
theorem d_M_order_22 : decode b_M_order 22 = .ok (.ireturn, 1) := by decide +kernel
theorem d_M_open_0 : decode b_M_open 0 = .ok (.iload_n 1, 1) := by decide +kernel
theorem d_M_open_1 : decode b_M_open 1 = .ok (.ifCond .lt 11, 3) := by decide +kernel
theorem d_M_open_4 : decode b_M_open 4 = .ok (.iload_n 1, 1) := by decide +kernel
theorem d_M_open_5 : decode b_M_open 5 = .ok (.aload_n 0, 1) := by decide +kernel
theorem d_M_open_6 : decode b_M_open 6 = .ok (.getfield 56, 3) := by decide +kernel
theorem d_M_open_9 : decode b_M_open 9 = .ok (.if_icmp .lt 7, 3) := by decide +kernel
theorem d_M_open_12 : decode b_M_open 12 = .ok (.iconst (-1), 1) := by decide +kernel
theorem d_M_open_13 : decode b_M_open 13 = .ok (.goto 8, 3) := by decide +kernel
theorem d_M_open_16 : decode b_M_open 16 = .ok (.aload_n 0, 1) := by decide +kernel
theorem d_M_open_17 : decode b_M_open 17 = .ok (.iload_n 1, 1) := by decide +kernel
theorem d_M_open_18 : decode b_M_open 18 = .ok (.invokevirtual 65, 3) := by decide +kernel
theorem d_M_open_21 : decode b_M_open 21 = .ok (.ireturn, 1) := by decide +kernel
theorem d_M_drops_0 : decode b_M_drops 0 = .ok (.aload_n 0, 1) := by decide +kernel
theorem d_M_drops_1 : decode b_M_drops 1 = .ok (.getfield 56, 3) := by decide +kernel
theorem d_M_drops_4 : decode b_M_drops 4 = .ok (.ireturn, 1) := by decide +kernel
theorem d_M_count_0 : decode b_M_count 0 = .ok (.aload_n 0, 1) := by decide +kernel
theorem d_M_count_1 : decode b_M_count 1 = .ok (.getfield 62, 3) := by decide +kernel
theorem d_M_count_4 : decode b_M_count 4 = .ok (.ireturn, 1) := by decide +kernel
theorem d_M_clashes_0 : decode b_M_clashes 0 = .ok (.aload_n 0, 1) := by decide +kernel
theorem d_M_clashes_1 : decode b_M_clashes 1 = .ok (.getfield 72, 3) := by decide +kernel
theorem d_M_clashes_4 : decode b_M_clashes 4 = .ok (.ireturn, 1) := by decide +kernel
theorem d_M_forget_0 : decode b_M_forget 0 = .ok (.aload_n 0, 1) := by decide +kernel
theorem d_M_forget_1 : decode b_M_forget 1 = .ok (.getfield 56, 3) := by decide +kernel
theorem d_M_forget_4 : decode b_M_forget 4 = .ok (.istore_n 1, 1) := by decide +kernel
theorem d_M_forget_5 : decode b_M_forget 5 = .ok (.aload_n 0, 1) := by decide +kernel
theorem d_M_forget_6 : decode b_M_forget 6 = .ok (.iconst 0, 1) := by decide +kernel
theorem d_M_forget_7 : decode b_M_forget 7 = .ok (.putfield 56, 3) := by decide +kernel
theorem d_M_forget_10 : decode b_M_forget 10 = .ok (.aload_n 0, 1) := by decide +kernel
theorem d_M_forget_11 : decode b_M_forget 11 = .ok (.iconst 0, 1) := by decide +kernel
theorem d_M_forget_12 : decode b_M_forget 12 = .ok (.putfield 62, 3) := by decide +kernel
theorem d_M_forget_15 : decode b_M_forget 15 = .ok (.aload_n 0, 1) := by decide +kernel
theorem d_M_forget_16 : decode b_M_forget 16 = .ok (.iconst 0, 1) := by decide +kernel
theorem d_M_forget_17 : decode b_M_forget 17 = .ok (.putfield 72, 3) := by decide +kernel
theorem d_M_forget_20 : decode b_M_forget 20 = .ok (.iconst 0, 1) := by decide +kernel
theorem d_M_forget_21 : decode b_M_forget 21 = .ok (.istore_n 2, 1) := by decide +kernel
theorem d_M_forget_22 : decode b_M_forget 22 = .ok (.iload_n 2, 1) := by decide +kernel
theorem d_M_forget_23 : decode b_M_forget 23 = .ok (.aload_n 0, 1) := by decide +kernel
theorem d_M_forget_24 : decode b_M_forget 24 = .ok (.getfield 35, 3) := by decide +kernel
theorem d_M_forget_27 : decode b_M_forget 27 = .ok (.if_icmp .ge 16, 3) := by decide +kernel
theorem d_M_forget_30 : decode b_M_forget 30 = .ok (.aload_n 0, 1) := by decide +kernel
theorem d_M_forget_31 : decode b_M_forget 31 = .ok (.getfield 22, 3) := by decide +kernel
theorem d_M_forget_34 : decode b_M_forget 34 = .ok (.iload_n 2, 1) := by decide +kernel
theorem d_M_forget_35 : decode b_M_forget 35 = .ok (.iconst 0, 1) := by decide +kernel
theorem d_M_forget_36 : decode b_M_forget 36 = .ok (.bastore, 1) := by decide +kernel
theorem d_M_forget_37 : decode b_M_forget 37 = .ok (.iinc 2 1, 3) := by decide +kernel
theorem d_M_forget_40 : decode b_M_forget 40 = .ok (.goto (-18), 3) := by decide +kernel
theorem d_M_forget_43 : decode b_M_forget 43 = .ok (.iload_n 1, 1) := by decide +kernel
theorem d_M_forget_44 : decode b_M_forget 44 = .ok (.ireturn, 1) := by decide +kernel
end
section
theorem d_L_cell_0 : decode b_L_cell 0 = .ok (.iload_n 1, 1) := by decide +kernel
theorem d_L_cell_1 : decode b_L_cell 1 = .ok (.aload_n 0, 1) := by decide +kernel
theorem d_L_cell_2 : decode b_L_cell 2 = .ok (.arraylength, 1) := by decide +kernel
theorem d_L_cell_3 : decode b_L_cell 3 = .ok (.if_icmp .ge 9, 3) := by decide +kernel
theorem d_L_cell_6 : decode b_L_cell 6 = .ok (.aload_n 0, 1) := by decide +kernel
theorem d_L_cell_7 : decode b_L_cell 7 = .ok (.iload_n 1, 1) := by decide +kernel
theorem d_L_cell_8 : decode b_L_cell 8 = .ok (.iaload, 1) := by decide +kernel
theorem d_L_cell_9 : decode b_L_cell 9 = .ok (.goto 4, 3) := by decide +kernel
theorem d_L_cell_12 : decode b_L_cell 12 = .ok (.iconst 0, 1) := by decide +kernel
theorem d_L_cell_13 : decode b_L_cell 13 = .ok (.ireturn, 1) := by decide +kernel
theorem d_law_0 : decode code 0 = .ok (.new 7, 3) := by decide +kernel
theorem d_law_3 : decode code 3 = .ok (.dup, 1) := by decide +kernel
theorem d_law_4 : decode code 4 = .ok (.aload_n 0, 1) := by decide +kernel
theorem d_law_5 : decode code 5 = .ok (.iconst 0, 1) := by decide +kernel
theorem d_law_6 : decode code 6 = .ok (.invokestatic 9, 3) := by decide +kernel
theorem d_law_9 : decode code 9 = .ok (.invokespecial 15, 3) := by decide +kernel
theorem d_law_12 : decode code 12 = .ok (.astore_n 1, 1) := by decide +kernel
theorem d_law_13 : decode code 13 = .ok (.new 18, 3) := by decide +kernel
theorem d_law_16 : decode code 16 = .ok (.dup, 1) := by decide +kernel
theorem d_law_17 : decode code 17 = .ok (.aload_n 0, 1) := by decide +kernel
theorem d_law_18 : decode code 18 = .ok (.iconst 0, 1) := by decide +kernel
theorem d_law_19 : decode code 19 = .ok (.invokestatic 9, 3) := by decide +kernel
theorem d_law_22 : decode code 22 = .ok (.invokespecial 20, 3) := by decide +kernel
theorem d_law_25 : decode code 25 = .ok (.astore_n 2, 1) := by decide +kernel
theorem d_law_26 : decode code 26 = .ok (.iconst 1, 1) := by decide +kernel
theorem d_law_27 : decode code 27 = .ok (.istore_n 3, 1) := by decide +kernel
theorem d_law_28 : decode code 28 = .ok (.iload_n 3, 1) := by decide +kernel
theorem d_law_29 : decode code 29 = .ok (.aload_n 0, 1) := by decide +kernel
theorem d_law_30 : decode code 30 = .ok (.arraylength, 1) := by decide +kernel
theorem d_law_31 : decode code 31 = .ok (.iconst 3, 1) := by decide +kernel
theorem d_law_32 : decode code 32 = .ok (.isub, 1) := by decide +kernel
theorem d_law_33 : decode code 33 = .ok (.if_icmp .gt 360, 3) := by decide +kernel
theorem d_law_36 : decode code 36 = .ok (.aload_n 0, 1) := by decide +kernel
theorem d_law_37 : decode code 37 = .ok (.iload_n 3, 1) := by decide +kernel
theorem d_law_38 : decode code 38 = .ok (.iaload, 1) := by decide +kernel
theorem d_law_39 : decode code 39 = .ok (.bipush 15, 2) := by decide +kernel
theorem d_law_41 : decode code 41 = .ok (.iand, 1) := by decide +kernel
theorem d_law_42 : decode code 42 = .ok (.tableswitch 345 0 12 #[66, 99, 122, 145, 168, 201, 224, 247, 270, 293, 306, 319, 332], 66) := by decide +kernel
theorem d_law_108 : decode code 108 = .ok (.aload_n 1, 1) := by decide +kernel
theorem d_law_109 : decode code 109 = .ok (.aload_n 0, 1) := by decide +kernel
theorem d_law_110 : decode code 110 = .ok (.iload_n 3, 1) := by decide +kernel
theorem d_law_111 : decode code 111 = .ok (.iconst 1, 1) := by decide +kernel
theorem d_law_112 : decode code 112 = .ok (.iadd, 1) := by decide +kernel
theorem d_law_113 : decode code 113 = .ok (.iaload, 1) := by decide +kernel
theorem d_law_114 : decode code 114 = .ok (.aload_n 0, 1) := by decide +kernel
theorem d_law_115 : decode code 115 = .ok (.iload_n 3, 1) := by decide +kernel
theorem d_law_116 : decode code 116 = .ok (.iconst 2, 1) := by decide +kernel
theorem d_law_117 : decode code 117 = .ok (.iadd, 1) := by decide +kernel
theorem d_law_118 : decode code 118 = .ok (.iaload, 1) := by decide +kernel
theorem d_law_119 : decode code 119 = .ok (.invokevirtual 21, 3) := by decide +kernel
theorem d_law_122 : decode code 122 = .ok (.aload_n 2, 1) := by decide +kernel
theorem d_law_123 : decode code 123 = .ok (.aload_n 0, 1) := by decide +kernel
theorem d_law_124 : decode code 124 = .ok (.iload_n 3, 1) := by decide +kernel
theorem d_law_125 : decode code 125 = .ok (.iconst 1, 1) := by decide +kernel
theorem d_law_126 : decode code 126 = .ok (.iadd, 1) := by decide +kernel
theorem d_law_127 : decode code 127 = .ok (.iaload, 1) := by decide +kernel
theorem d_law_128 : decode code 128 = .ok (.aload_n 0, 1) := by decide +kernel
theorem d_law_129 : decode code 129 = .ok (.iload_n 3, 1) := by decide +kernel
theorem d_law_130 : decode code 130 = .ok (.iconst 2, 1) := by decide +kernel
theorem d_law_131 : decode code 131 = .ok (.iadd, 1) := by decide +kernel
theorem d_law_132 : decode code 132 = .ok (.iaload, 1) := by decide +kernel
theorem d_law_133 : decode code 133 = .ok (.invokevirtual 25, 3) := by decide +kernel
theorem d_law_136 : decode code 136 = .ok (.if_icmp .eq 251, 3) := by decide +kernel
theorem d_law_139 : decode code 139 = .ok (.iconst 0, 1) := by decide +kernel
theorem d_law_140 : decode code 140 = .ok (.ireturn, 1) := by decide +kernel
theorem d_law_141 : decode code 141 = .ok (.aload_n 1, 1) := by decide +kernel
theorem d_law_142 : decode code 142 = .ok (.aload_n 0, 1) := by decide +kernel
theorem d_law_143 : decode code 143 = .ok (.iload_n 3, 1) := by decide +kernel
theorem d_law_144 : decode code 144 = .ok (.iconst 1, 1) := by decide +kernel
theorem d_law_145 : decode code 145 = .ok (.iadd, 1) := by decide +kernel
theorem d_law_146 : decode code 146 = .ok (.iaload, 1) := by decide +kernel
theorem d_law_147 : decode code 147 = .ok (.invokevirtual 26, 3) := by decide +kernel
theorem d_law_150 : decode code 150 = .ok (.aload_n 2, 1) := by decide +kernel
theorem d_law_151 : decode code 151 = .ok (.aload_n 0, 1) := by decide +kernel
theorem d_law_152 : decode code 152 = .ok (.iload_n 3, 1) := by decide +kernel
theorem d_law_153 : decode code 153 = .ok (.iconst 1, 1) := by decide +kernel
theorem d_law_154 : decode code 154 = .ok (.iadd, 1) := by decide +kernel
theorem d_law_155 : decode code 155 = .ok (.iaload, 1) := by decide +kernel
theorem d_law_156 : decode code 156 = .ok (.invokevirtual 30, 3) := by decide +kernel
theorem d_law_159 : decode code 159 = .ok (.if_icmp .eq 228, 3) := by decide +kernel
theorem d_law_162 : decode code 162 = .ok (.iconst 0, 1) := by decide +kernel
theorem d_law_163 : decode code 163 = .ok (.ireturn, 1) := by decide +kernel
theorem d_law_164 : decode code 164 = .ok (.aload_n 1, 1) := by decide +kernel
theorem d_law_165 : decode code 165 = .ok (.aload_n 0, 1) := by decide +kernel
theorem d_law_166 : decode code 166 = .ok (.iload_n 3, 1) := by decide +kernel
theorem d_law_167 : decode code 167 = .ok (.iconst 1, 1) := by decide +kernel
theorem d_law_168 : decode code 168 = .ok (.iadd, 1) := by decide +kernel
theorem d_law_169 : decode code 169 = .ok (.iaload, 1) := by decide +kernel
theorem d_law_170 : decode code 170 = .ok (.invokevirtual 31, 3) := by decide +kernel
theorem d_law_173 : decode code 173 = .ok (.aload_n 2, 1) := by decide +kernel
theorem d_law_174 : decode code 174 = .ok (.aload_n 0, 1) := by decide +kernel
theorem d_law_175 : decode code 175 = .ok (.iload_n 3, 1) := by decide +kernel
theorem d_law_176 : decode code 176 = .ok (.iconst 1, 1) := by decide +kernel
theorem d_law_177 : decode code 177 = .ok (.iadd, 1) := by decide +kernel
theorem d_law_178 : decode code 178 = .ok (.iaload, 1) := by decide +kernel
theorem d_law_179 : decode code 179 = .ok (.invokevirtual 34, 3) := by decide +kernel
theorem d_law_182 : decode code 182 = .ok (.if_icmp .eq 205, 3) := by decide +kernel
theorem d_law_185 : decode code 185 = .ok (.iconst 0, 1) := by decide +kernel
theorem d_law_186 : decode code 186 = .ok (.ireturn, 1) := by decide +kernel
theorem d_law_187 : decode code 187 = .ok (.aload_n 1, 1) := by decide +kernel
theorem d_law_188 : decode code 188 = .ok (.aload_n 0, 1) := by decide +kernel
theorem d_law_189 : decode code 189 = .ok (.iload_n 3, 1) := by decide +kernel
theorem d_law_190 : decode code 190 = .ok (.iconst 1, 1) := by decide +kernel
theorem d_law_191 : decode code 191 = .ok (.iadd, 1) := by decide +kernel
theorem d_law_192 : decode code 192 = .ok (.iaload, 1) := by decide +kernel
theorem d_law_193 : decode code 193 = .ok (.invokevirtual 35, 3) := by decide +kernel
theorem d_law_196 : decode code 196 = .ok (.aload_n 2, 1) := by decide +kernel
theorem d_law_197 : decode code 197 = .ok (.aload_n 0, 1) := by decide +kernel
theorem d_law_198 : decode code 198 = .ok (.iload_n 3, 1) := by decide +kernel
theorem d_law_199 : decode code 199 = .ok (.iconst 1, 1) := by decide +kernel
theorem d_law_200 : decode code 200 = .ok (.iadd, 1) := by decide +kernel
theorem d_law_201 : decode code 201 = .ok (.iaload, 1) := by decide +kernel
theorem d_law_202 : decode code 202 = .ok (.invokevirtual 38, 3) := by decide +kernel
theorem d_law_205 : decode code 205 = .ok (.if_icmp .eq 182, 3) := by decide +kernel
theorem d_law_208 : decode code 208 = .ok (.iconst 0, 1) := by decide +kernel
theorem d_law_209 : decode code 209 = .ok (.ireturn, 1) := by decide +kernel
theorem d_law_210 : decode code 210 = .ok (.aload_n 1, 1) := by decide +kernel
theorem d_law_211 : decode code 211 = .ok (.aload_n 0, 1) := by decide +kernel
theorem d_law_212 : decode code 212 = .ok (.iload_n 3, 1) := by decide +kernel
theorem d_law_213 : decode code 213 = .ok (.iconst 1, 1) := by decide +kernel
theorem d_law_214 : decode code 214 = .ok (.iadd, 1) := by decide +kernel
theorem d_law_215 : decode code 215 = .ok (.iaload, 1) := by decide +kernel
theorem d_law_216 : decode code 216 = .ok (.aload_n 0, 1) := by decide +kernel
theorem d_law_217 : decode code 217 = .ok (.iload_n 3, 1) := by decide +kernel
theorem d_law_218 : decode code 218 = .ok (.iconst 2, 1) := by decide +kernel
theorem d_law_219 : decode code 219 = .ok (.iadd, 1) := by decide +kernel
theorem d_law_220 : decode code 220 = .ok (.iaload, 1) := by decide +kernel
theorem d_law_221 : decode code 221 = .ok (.invokevirtual 39, 3) := by decide +kernel
theorem d_law_224 : decode code 224 = .ok (.aload_n 2, 1) := by decide +kernel
theorem d_law_225 : decode code 225 = .ok (.aload_n 0, 1) := by decide +kernel
theorem d_law_226 : decode code 226 = .ok (.iload_n 3, 1) := by decide +kernel
theorem d_law_227 : decode code 227 = .ok (.iconst 1, 1) := by decide +kernel
theorem d_law_228 : decode code 228 = .ok (.iadd, 1) := by decide +kernel
theorem d_law_229 : decode code 229 = .ok (.iaload, 1) := by decide +kernel
theorem d_law_230 : decode code 230 = .ok (.aload_n 0, 1) := by decide +kernel
theorem d_law_231 : decode code 231 = .ok (.iload_n 3, 1) := by decide +kernel
theorem d_law_232 : decode code 232 = .ok (.iconst 2, 1) := by decide +kernel
theorem d_law_233 : decode code 233 = .ok (.iadd, 1) := by decide +kernel
theorem d_law_234 : decode code 234 = .ok (.iaload, 1) := by decide +kernel
theorem d_law_235 : decode code 235 = .ok (.invokevirtual 42, 3) := by decide +kernel
theorem d_law_238 : decode code 238 = .ok (.if_icmp .eq 149, 3) := by decide +kernel
theorem d_law_241 : decode code 241 = .ok (.iconst 0, 1) := by decide +kernel
theorem d_law_242 : decode code 242 = .ok (.ireturn, 1) := by decide +kernel
theorem d_law_243 : decode code 243 = .ok (.aload_n 1, 1) := by decide +kernel
theorem d_law_244 : decode code 244 = .ok (.aload_n 0, 1) := by decide +kernel
theorem d_law_245 : decode code 245 = .ok (.iload_n 3, 1) := by decide +kernel
theorem d_law_246 : decode code 246 = .ok (.iconst 1, 1) := by decide +kernel
theorem d_law_247 : decode code 247 = .ok (.iadd, 1) := by decide +kernel
theorem d_law_248 : decode code 248 = .ok (.iaload, 1) := by decide +kernel
theorem d_law_249 : decode code 249 = .ok (.invokevirtual 43, 3) := by decide +kernel
theorem d_law_252 : decode code 252 = .ok (.aload_n 2, 1) := by decide +kernel
theorem d_law_253 : decode code 253 = .ok (.aload_n 0, 1) := by decide +kernel
theorem d_law_254 : decode code 254 = .ok (.iload_n 3, 1) := by decide +kernel
theorem d_law_255 : decode code 255 = .ok (.iconst 1, 1) := by decide +kernel
theorem d_law_256 : decode code 256 = .ok (.iadd, 1) := by decide +kernel
theorem d_law_257 : decode code 257 = .ok (.iaload, 1) := by decide +kernel
theorem d_law_258 : decode code 258 = .ok (.invokevirtual 46, 3) := by decide +kernel
theorem d_law_261 : decode code 261 = .ok (.if_icmp .eq 126, 3) := by decide +kernel
theorem d_law_264 : decode code 264 = .ok (.iconst 0, 1) := by decide +kernel
theorem d_law_265 : decode code 265 = .ok (.ireturn, 1) := by decide +kernel
theorem d_law_266 : decode code 266 = .ok (.aload_n 1, 1) := by decide +kernel
theorem d_law_267 : decode code 267 = .ok (.aload_n 0, 1) := by decide +kernel
theorem d_law_268 : decode code 268 = .ok (.iload_n 3, 1) := by decide +kernel
theorem d_law_269 : decode code 269 = .ok (.iconst 1, 1) := by decide +kernel
theorem d_law_270 : decode code 270 = .ok (.iadd, 1) := by decide +kernel
theorem d_law_271 : decode code 271 = .ok (.iaload, 1) := by decide +kernel
theorem d_law_272 : decode code 272 = .ok (.invokevirtual 47, 3) := by decide +kernel
theorem d_law_275 : decode code 275 = .ok (.aload_n 2, 1) := by decide +kernel
theorem d_law_276 : decode code 276 = .ok (.aload_n 0, 1) := by decide +kernel
theorem d_law_277 : decode code 277 = .ok (.iload_n 3, 1) := by decide +kernel
theorem d_law_278 : decode code 278 = .ok (.iconst 1, 1) := by decide +kernel
theorem d_law_279 : decode code 279 = .ok (.iadd, 1) := by decide +kernel
theorem d_law_280 : decode code 280 = .ok (.iaload, 1) := by decide +kernel
theorem d_law_281 : decode code 281 = .ok (.invokevirtual 50, 3) := by decide +kernel
theorem d_law_284 : decode code 284 = .ok (.if_icmp .eq 103, 3) := by decide +kernel
theorem d_law_287 : decode code 287 = .ok (.iconst 0, 1) := by decide +kernel
theorem d_law_288 : decode code 288 = .ok (.ireturn, 1) := by decide +kernel
theorem d_law_289 : decode code 289 = .ok (.aload_n 1, 1) := by decide +kernel
theorem d_law_290 : decode code 290 = .ok (.aload_n 0, 1) := by decide +kernel
theorem d_law_291 : decode code 291 = .ok (.iload_n 3, 1) := by decide +kernel
theorem d_law_292 : decode code 292 = .ok (.iconst 1, 1) := by decide +kernel
theorem d_law_293 : decode code 293 = .ok (.iadd, 1) := by decide +kernel
theorem d_law_294 : decode code 294 = .ok (.iaload, 1) := by decide +kernel
theorem d_law_295 : decode code 295 = .ok (.invokevirtual 51, 3) := by decide +kernel
theorem d_law_298 : decode code 298 = .ok (.aload_n 2, 1) := by decide +kernel
theorem d_law_299 : decode code 299 = .ok (.aload_n 0, 1) := by decide +kernel
theorem d_law_300 : decode code 300 = .ok (.iload_n 3, 1) := by decide +kernel
theorem d_law_301 : decode code 301 = .ok (.iconst 1, 1) := by decide +kernel
theorem d_law_302 : decode code 302 = .ok (.iadd, 1) := by decide +kernel
theorem d_law_303 : decode code 303 = .ok (.iaload, 1) := by decide +kernel
theorem d_law_304 : decode code 304 = .ok (.invokevirtual 54, 3) := by decide +kernel
theorem d_law_307 : decode code 307 = .ok (.if_icmp .eq 80, 3) := by decide +kernel
theorem d_law_310 : decode code 310 = .ok (.iconst 0, 1) := by decide +kernel
theorem d_law_311 : decode code 311 = .ok (.ireturn, 1) := by decide +kernel
theorem d_law_312 : decode code 312 = .ok (.aload_n 1, 1) := by decide +kernel
theorem d_law_313 : decode code 313 = .ok (.aload_n 0, 1) := by decide +kernel
theorem d_law_314 : decode code 314 = .ok (.iload_n 3, 1) := by decide +kernel
theorem d_law_315 : decode code 315 = .ok (.iconst 1, 1) := by decide +kernel
theorem d_law_316 : decode code 316 = .ok (.iadd, 1) := by decide +kernel
theorem d_law_317 : decode code 317 = .ok (.iaload, 1) := by decide +kernel
theorem d_law_318 : decode code 318 = .ok (.invokevirtual 55, 3) := by decide +kernel
theorem d_law_321 : decode code 321 = .ok (.aload_n 2, 1) := by decide +kernel
theorem d_law_322 : decode code 322 = .ok (.aload_n 0, 1) := by decide +kernel
theorem d_law_323 : decode code 323 = .ok (.iload_n 3, 1) := by decide +kernel
theorem d_law_324 : decode code 324 = .ok (.iconst 1, 1) := by decide +kernel
theorem d_law_325 : decode code 325 = .ok (.iadd, 1) := by decide +kernel
theorem d_law_326 : decode code 326 = .ok (.iaload, 1) := by decide +kernel
theorem d_law_327 : decode code 327 = .ok (.invokevirtual 58, 3) := by decide +kernel
theorem d_law_330 : decode code 330 = .ok (.if_icmp .eq 57, 3) := by decide +kernel
theorem d_law_333 : decode code 333 = .ok (.iconst 0, 1) := by decide +kernel
theorem d_law_334 : decode code 334 = .ok (.ireturn, 1) := by decide +kernel
theorem d_law_335 : decode code 335 = .ok (.aload_n 1, 1) := by decide +kernel
theorem d_law_336 : decode code 336 = .ok (.invokevirtual 59, 3) := by decide +kernel
theorem d_law_339 : decode code 339 = .ok (.aload_n 2, 1) := by decide +kernel
theorem d_law_340 : decode code 340 = .ok (.invokevirtual 63, 3) := by decide +kernel
theorem d_law_343 : decode code 343 = .ok (.if_icmp .eq 44, 3) := by decide +kernel
theorem d_law_346 : decode code 346 = .ok (.iconst 0, 1) := by decide +kernel
theorem d_law_347 : decode code 347 = .ok (.ireturn, 1) := by decide +kernel
theorem d_law_348 : decode code 348 = .ok (.aload_n 1, 1) := by decide +kernel
theorem d_law_349 : decode code 349 = .ok (.invokevirtual 64, 3) := by decide +kernel
theorem d_law_352 : decode code 352 = .ok (.aload_n 2, 1) := by decide +kernel
theorem d_law_353 : decode code 353 = .ok (.invokevirtual 67, 3) := by decide +kernel
theorem d_law_356 : decode code 356 = .ok (.if_icmp .eq 31, 3) := by decide +kernel
theorem d_law_359 : decode code 359 = .ok (.iconst 0, 1) := by decide +kernel
theorem d_law_360 : decode code 360 = .ok (.ireturn, 1) := by decide +kernel
theorem d_law_361 : decode code 361 = .ok (.aload_n 1, 1) := by decide +kernel
theorem d_law_362 : decode code 362 = .ok (.invokevirtual 68, 3) := by decide +kernel
theorem d_law_365 : decode code 365 = .ok (.aload_n 2, 1) := by decide +kernel
theorem d_law_366 : decode code 366 = .ok (.invokevirtual 71, 3) := by decide +kernel
theorem d_law_369 : decode code 369 = .ok (.if_icmp .eq 18, 3) := by decide +kernel
theorem d_law_372 : decode code 372 = .ok (.iconst 0, 1) := by decide +kernel
theorem d_law_373 : decode code 373 = .ok (.ireturn, 1) := by decide +kernel
theorem d_law_374 : decode code 374 = .ok (.aload_n 1, 1) := by decide +kernel
theorem d_law_375 : decode code 375 = .ok (.invokevirtual 72, 3) := by decide +kernel
theorem d_law_378 : decode code 378 = .ok (.aload_n 2, 1) := by decide +kernel
theorem d_law_379 : decode code 379 = .ok (.invokevirtual 75, 3) := by decide +kernel
theorem d_law_382 : decode code 382 = .ok (.if_icmp .eq 5, 3) := by decide +kernel
theorem d_law_385 : decode code 385 = .ok (.iconst 0, 1) := by decide +kernel
theorem d_law_386 : decode code 386 = .ok (.ireturn, 1) := by decide +kernel
theorem d_law_387 : decode code 387 = .ok (.iinc 3 3, 3) := by decide +kernel
theorem d_law_390 : decode code 390 = .ok (.goto (-362), 3) := by decide +kernel
theorem d_law_393 : decode code 393 = .ok (.iconst 1, 1) := by decide +kernel
theorem d_law_394 : decode code 394 = .ok (.ireturn, 1) := by decide +kernel
end
section
/-! contracts of this claim's form: a world of cells w0 before, w1 u behind; the room grows by depth -/
def rmD (d mc ms : Nat) : Room := { frames := d, cells := mc, slots := ms, locals := 26 * d }
abbrev ct_ws (y : MethodName) (b : ByteArray) (n : Nat) (ret : Option FieldType) : List Cond := .code y b n ret :: gw_tbl
def CtI {S : Type} (l : Launch) (y : MethodName) (b : ByteArray) (n : Nat) (ret : FieldType) (d : Nat) (D : va_G) (tys : List (ClassId × FieldType)) (av : List Value) (w0 : va_W) (post : Int32 → S → Prop) (w1 : S → va_W) : Prop :=
  ∀ sz : Nat, Met l y (ct_ws y b n (some ret)) (rmD d 0 0) (va_Pc av (fun U => U.heap.size = sz ∧ va_P D classes w0 U.heap ∧ va_K D classes tys U ∧ va_D (fun _ => True) w0)) (va_Qi post (fun u t => va_P D classes (w1 u) t.heap ∧ va_K D classes tys t ∧ va_D (va_A w0 sz) (w1 u)) (va_A w0 sz)) 0 0 (va_A w0 sz)
def CtV {S : Type} (l : Launch) (y : MethodName) (b : ByteArray) (n : Nat) (d mc ms : Nat) (D : va_G) (tys : List (ClassId × FieldType)) (av : List Value) (w0 : va_W) (post : S → Prop) (w1 : S → va_W) : Prop :=
  ∀ sz : Nat, Met l y (ct_ws y b n none) (rmD d mc ms) (va_Pc av (fun U => U.heap.size = sz ∧ va_P D classes w0 U.heap ∧ va_K D classes tys U ∧ va_D (fun _ => True) w0)) (va_Qv post (fun u t => va_P D classes (w1 u) t.heap ∧ va_K D classes tys t ∧ va_D (va_A w0 sz) (w1 u)) (va_A w0 sz)) mc ms (va_A w0 sz)
theorem CtI.of {S : Type} {l : Launch} {y : MethodName} {b : ByteArray} {n : Nat} {ret : FieldType} {d : Nat} {D : va_G} {tys : List (ClassId × FieldType)} {av : List Value} {w0 : va_W} {post : Int32 → S → Prop} {w1 : S → va_W} (hy : plainName y.cls = true) (hav : (lg_sl av).length ≤ n)
    (body : ∀ (p : Program) (e : Env) (s : State) (m : MethodId) (args : Array Value) (below : List Frame) (meth : Method) (c : Code) (A : Nat → Prop) (Q : State → Prop), CallFix p m c b n s args gw_tbl y.cls → va_K D classes tys s → va_P D classes w0 s.heap → va_D A w0 → (∀ q : Nat, s.heap.size ≤ q → A q) → va_S A s.heap s.heap [] →
      (∀ (H : Heap) (locs : List Loc) (ls : Array Slot) (pc : Nat) (v : Int32) (u : S), decode b pc = .ok (.ireturn, 1) → narrow ret (.int v) = .int v → post v u → va_P D classes (w1 u) H → va_D A (w1 u) → va_S A s.heap H locs → W p l e (rmD d 0 0) s m args below meth c H locs 0 0 Q (F0 m pc ls [.int v])) →
      ∀ ls : Array Slot, lv_has ls n (lv_args 0 av) → W p l e (rmD d 0 0) s m args below meth c s.heap [] 0 0 Q (F0 m 0 ls [])) : CtI l y b n ret d D tys av w0 post w1 := by
  intro sz
  refine Met.ofW (cc := b) (maxL := n) (ret := some ret) hy rfl ?_
  intro p e s m args below meth c s₁ B hml hv
  obtain ⟨rfl, hsz, hP, hK, hD0⟩ := hv
  have hx := B.exec
  have hb := B.bytes
  have hr := B.returns
  have hts := atoms_spec (ws := ct_ws y b n (some ret)) B.pre
  have hown : s.vm.findClass y.cls = some m.cls := findClass_of_methodNamed B.named
  have hlocks := B.notSynchronized
  subst hsz
  have hl := lv_entry av (n := n) hav
  rw [lg_entry_eq]
  generalize (lg_sl av ++ List.replicate (n - (lg_sl av).length) Slot.unset).toArray = ls at hl ⊢
  refine body p e s m _ below meth c (va_A w0 s.heap.size) _ ⟨hx, hb, hml, hown, fun w hw => hts w (List.mem_cons_of_mem _ hw)⟩ hK hP hD0.self (fun q h => Or.inr h) va_S.rf ?_ ls hl
  intro H locs ls pc v u hdg hn hpost hP1 hD1 hS1
  exact W.zret hx hb hr hn (fun t ht hW => ⟨⟨v, u, rfl, hpost, by rw [ht]; exact hP1, va_K.moved hW.alike hK, hD1⟩, hS1.F ht⟩) hS1.2.2 hdg hlocks
theorem CtV.of {S : Type} {l : Launch} {y : MethodName} {b : ByteArray} {n : Nat} {d mc ms : Nat} {D : va_G} {tys : List (ClassId × FieldType)} {av : List Value} {w0 : va_W} {post : S → Prop} {w1 : S → va_W} (hy : plainName y.cls = true) (hav : (lg_sl av).length ≤ n)
    (body : ∀ (p : Program) (e : Env) (s : State) (m : MethodId) (args : Array Value) (below : List Frame) (meth : Method) (c : Code) (A : Nat → Prop) (Q : State → Prop), meth.name = y.name → CallFix p m c b n s args gw_tbl y.cls → va_K D classes tys s → va_P D classes w0 s.heap → va_D A w0 → (∀ q : Nat, s.heap.size ≤ q → A q) → va_S A s.heap s.heap [] →
      (∀ (H : Heap) (locs : List Loc) (ls : Array Slot) (pc : Nat) (u : S), decode b pc = .ok (.return_, 1) → post u → va_P D classes (w1 u) H → va_D A (w1 u) → va_S A s.heap H locs → W p l e (rmD d mc ms) s m args below meth c H locs mc ms Q (F0 m pc ls [])) →
      ∀ ls : Array Slot, lv_has ls n (lv_args 0 av) → W p l e (rmD d mc ms) s m args below meth c s.heap [] 0 0 Q (F0 m 0 ls [])) : CtV l y b n d mc ms D tys av w0 post w1 := by
  intro sz
  refine Met.ofW (cc := b) (maxL := n) (ret := none) hy rfl ?_
  intro p e s m args below meth c s₁ B hml hv
  obtain ⟨rfl, hsz, hP, hK, hD0⟩ := hv
  have hx := B.exec
  have hb := B.bytes
  have hr := B.returns
  have hts := atoms_spec (ws := ct_ws y b n none) B.pre
  have hown : s.vm.findClass y.cls = some m.cls := findClass_of_methodNamed B.named
  have hlocks := B.notSynchronized
  have hin : meth.name = y.name := (name_of_methodNamed B.named B.method).1
  subst hsz
  have hl := lv_entry av (n := n) hav
  rw [lg_entry_eq]
  generalize (lg_sl av ++ List.replicate (n - (lg_sl av).length) Slot.unset).toArray = ls at hl ⊢
  refine body p e s m _ below meth c (va_A w0 s.heap.size) _ hin ⟨hx, hb, hml, hown, fun w hw => hts w (List.mem_cons_of_mem _ hw)⟩ hK hP hD0.self (fun q h => Or.inr h) va_S.rf ?_ ls hl
  intro H locs ls pc u hdg hpost hP1 hD1 hS1
  exact W.vret hx hb hr (fun t ht hW => ⟨⟨u, rfl, hpost, by rw [ht]; exact hP1, va_K.moved hW.alike hK, hD1⟩, hS1.F ht⟩) hS1.2.2 hdg hlocks
theorem ct_blind {D : va_G} {tys : List (ClassId × FieldType)} {av : List Value} {w0 : va_W} {sz : Nat} : FrameBlind (va_Pc av (fun U => U.heap.size = sz ∧ va_P D classes w0 U.heap ∧ va_K D classes tys U ∧ va_D (fun _ => True) w0)) := fun a U g mk q => by
  obtain ⟨q0, q1, qP, qK, qD⟩ := q
  exact ⟨q0, q1, qP, va_K.moved (u := U) (U := U.calling g mk a) (Vm.Alike.refl U.vm) qK, qD⟩
theorem ct_good {y : MethodName} {b : ByteArray} {n : Nat} {ret : Option FieldType} (h : Cond.code y b n ret ∈ gw_tbl) : GoodIn gw_tbl (ct_ws y b n ret) := by
  intro w hw
  rcases List.mem_cons.mp hw with rfl | hw
  · exact ⟨h, lw_good _ h⟩
  · exact ⟨hw, lw_good _ hw⟩
section CT
variable {p : Program} {l : Launch} {e : Env} {R : Room} {s : State} {m : MethodId} {args : Array Value} {below : List Frame} {meth : Method} {c : Code} {H : Heap} {locs : List Loc} {cells slots : Nat} {Q : State → Prop}
variable {cc : ByteArray} {pc nL : Nat} {ls : Array Slot} {rest : List Value} {D : va_G} {A : Nat → Prop} {a : Nat} {tys : List (ClassId × FieldType)} {ws : va_W} {H0 : Heap} {own : String}
theorem dc_get_X (S : CallFix p m c cc nL s args gw_tbl R_X) (hK : va_K D classes tys s) (hP : va_P D classes ws H) (q0 : Nat) {fs : List Value} (he : ws[q0]? = some (a, .inr (0, fs))) {k idx : Nat} (hlink : Cond.fieldLink R_X idx R_X (F_X k).2.1 (F_X k).2.2.1 ∈ gw_tbl) {v : Value} (hv : fs[k]? = some v) (hdg : decode cc pc = .ok (.getfield idx, 3))
    (kk : W p l e R s m args below meth c H locs cells slots Q (F0 m (pc + 3) ls (v :: rest))) (hk : k < 16 := by decide) : W p l e R s m args below meth c H locs cells slots Q (F0 m pc ls (.ref a :: rest)) :=
  va_get (T := F_X) (N := 16) (C := R_X) S.1 S.2.1 S.2.2.2.2 i_X S.2.2.2.1 hK hP q0 he rfl k hk (S.2.2.2.2 _ hlink) (fun x h => by rw [o_X k hk] at h; exact h) hv hdg kk
theorem dc_get_M (S : CallFix p m c cc nL s args gw_tbl R_M) (hK : va_K D classes tys s) (hP : va_P D classes ws H) (q0 : Nat) {fs : List Value} (he : ws[q0]? = some (a, .inr (1, fs))) {k idx : Nat} (hlink : Cond.fieldLink R_M idx R_M (F_M k).2.1 (F_M k).2.2.1 ∈ gw_tbl) {v : Value} (hv : fs[k]? = some v) (hdg : decode cc pc = .ok (.getfield idx, 3))
    (kk : W p l e R s m args below meth c H locs cells slots Q (F0 m (pc + 3) ls (v :: rest))) (hk : k < 14 := by decide) : W p l e R s m args below meth c H locs cells slots Q (F0 m pc ls (.ref a :: rest)) :=
  va_get (T := F_M) (N := 14) (C := R_M) S.1 S.2.1 S.2.2.2.2 i_M S.2.2.2.1 hK hP q0 he rfl k hk (S.2.2.2.2 _ hlink) (fun x h => by rw [o_M k hk] at h; exact h) hv hdg kk
theorem pf_X : ∀ k ∈ [6, 8, 9, 12, 13, 14, 15], (F_X k).2.2.2 = false ∧ parseFieldDescriptor (F_X k).2.2.1 = some .int ∧ k < 16 := by decide +kernel
theorem pf_M : ∀ k ∈ [2, 6, 10, 11, 13], (F_M k).2.2.2 = false ∧ parseFieldDescriptor (F_M k).2.2.1 = some .int ∧ k < 14 := by decide +kernel
theorem dc_put_X (S : CallFix p m c cc nL s args gw_tbl R_X) (hK : va_K D classes tys s) (hP : va_P D classes ws H) (hD : va_D A ws) (hS : va_S A H0 H locs) (q0 : Nat) {fs : List Value} (he : ws[q0]? = some (a, .inr (0, fs))) {k idx : Nat} (hlink : Cond.fieldLink R_X idx R_X (F_X k).2.1 (F_X k).2.2.1 ∈ gw_tbl) {x : Int32} (hl : k < fs.length) (hdg : decode cc pc = .ok (.putfield idx, 3))
    (kk : ∀ (H1 : Heap) (locs1 : List Loc), va_P D classes (ws.set q0 (a, .inr (0, fs.set k (.int x)))) H1 → va_D A (ws.set q0 (a, .inr (0, fs.set k (.int x)))) → va_S A H0 H1 locs1 → W p l e R s m args below meth c H1 locs1 cells slots Q (F0 m (pc + 3) ls rest)) (hk : k ∈ [6, 8, 9, 12, 13, 14, 15] := by decide) : W p l e R s m args below meth c H locs cells slots Q (F0 m pc ls (.int x :: .ref a :: rest)) :=
  va_put (T := F_X) (N := 16) (C := R_X) S.1 S.2.1 S.2.2.2.2 i_X t_X t_X_ok n_X S.2.2.2.1 hK hP hD hS q0 he rfl k (pf_X k hk).2.2 (S.2.2.2.2 _ hlink) (fun x h => by rw [o_X k (pf_X k hk).2.2] at h; exact h) (pf_X k hk).1 (pf_X k hk).2.1 rfl rfl hl hdg kk
theorem dc_put_M (S : CallFix p m c cc nL s args gw_tbl R_M) (hK : va_K D classes tys s) (hP : va_P D classes ws H) (hD : va_D A ws) (hS : va_S A H0 H locs) (q0 : Nat) {fs : List Value} (he : ws[q0]? = some (a, .inr (1, fs))) {k idx : Nat} (hlink : Cond.fieldLink R_M idx R_M (F_M k).2.1 (F_M k).2.2.1 ∈ gw_tbl) {x : Int32} (hl : k < fs.length) (hdg : decode cc pc = .ok (.putfield idx, 3))
    (kk : ∀ (H1 : Heap) (locs1 : List Loc), va_P D classes (ws.set q0 (a, .inr (1, fs.set k (.int x)))) H1 → va_D A (ws.set q0 (a, .inr (1, fs.set k (.int x)))) → va_S A H0 H1 locs1 → W p l e R s m args below meth c H1 locs1 cells slots Q (F0 m (pc + 3) ls rest)) (hk : k ∈ [2, 6, 10, 11, 13] := by decide) : W p l e R s m args below meth c H locs cells slots Q (F0 m pc ls (.int x :: .ref a :: rest)) :=
  va_put (T := F_M) (N := 14) (C := R_M) S.1 S.2.1 S.2.2.2.2 i_M t_M t_M_ok n_M S.2.2.2.1 hK hP hD hS q0 he rfl k (pf_M k hk).2.2 (S.2.2.2.2 _ hlink) (fun x h => by rw [o_M k (pf_M k hk).2.2] at h; exact h) (pf_M k hk).1 (pf_M k hk).2.1 rfl rfl hl hdg kk
theorem dc_ldc (S : CallFix p m c cc nL s args gw_tbl own) {idx : Nat} {v : Int32} (hk : Cond.constant own idx v ∈ gw_tbl) (hdg : decode cc pc = .ok (.ldc idx, 2)) (kk : W p l e R s m args below meth c H locs cells slots Q (F0 m (pc + 2) ls (.int v :: rest))) : W p l e R s m args below meth c H locs cells slots Q (F0 m pc ls rest) :=
  lv_ldc S.1 S.2.1 S.2.2.2.1 (S.2.2.2.2 _ hk) hdg kk
theorem dc_ild (S : CallFix p m c cc nL s args gw_tbl own) {cI cZ : ClassId} (hK : va_K D classes [(cI, .int), (cZ, .boolean)] s) (hP : va_P D classes ws H) (q0 : Nat) {n : Nat} {f : Nat → Int32} (ha : ws[q0]? = some (a, .inl (cI, n, .inl f))) {i : Int32} {j : Nat} (hi : i = nI j) (hj : j < n) (hdg : decode cc pc = .ok (.iaload, 1))
    (kk : W p l e R s m args below meth c H locs cells slots Q (F0 m (pc + 1) ls (.int (f j) :: rest))) (hn : n < 2 ^ 31 := by decide) : W p l e R s m args below meth c H locs cells slots Q (F0 m pc ls (.int i :: .ref a :: rest)) := by
  subst hi
  refine va_iald S.1 S.2.1 hK hP q0 0 ha rfl (vp_in_nI hj hn) hdg ?_
  rw [nI_clamp (by omega)]
  exact kk
theorem dc_zld (S : CallFix p m c cc nL s args gw_tbl own) {cI cZ : ClassId} (hK : va_K D classes [(cI, .int), (cZ, .boolean)] s) (hP : va_P D classes ws H) (q0 : Nat) {n : Nat} {f : Nat → Int32} (ha : ws[q0]? = some (a, .inl (cZ, n, .inl f))) {i : Int32} {j : Nat} (hi : i = nI j) (hj : j < n) (hdg : decode cc pc = .ok (.baload, 1))
    (kk : W p l e R s m args below meth c H locs cells slots Q (F0 m (pc + 1) ls (.int (f j) :: rest))) (hn : n < 2 ^ 31 := by decide) : W p l e R s m args below meth c H locs cells slots Q (F0 m pc ls (.int i :: .ref a :: rest)) := by
  subst hi
  refine va_zald S.1 S.2.1 hK hP q0 1 ha rfl (vp_in_nI hj hn) hdg ?_
  rw [nI_clamp (by omega)]
  exact kk
theorem dc_ist (S : CallFix p m c cc nL s args gw_tbl own) {cI cZ : ClassId} (hK : va_K D classes [(cI, .int), (cZ, .boolean)] s) (hP : va_P D classes ws H) (hD : va_D A ws) (hS : va_S A H0 H locs) (q0 : Nat) {n : Nat} {f : Nat → Int32} (ha : ws[q0]? = some (a, .inl (cI, n, .inl f))) {i x : Int32} {j : Nat} (hi : i = nI j) (hj : j < n) (hdg : decode cc pc = .ok (.iastore, 1))
    (kk : ∀ (H1 : Heap) (locs1 : List Loc), va_P D classes (ws.set q0 (a, .inl (cI, n, .inl (upd f j x)))) H1 → va_D A (ws.set q0 (a, .inl (cI, n, .inl (upd f j x)))) → va_S A H0 H1 locs1 → W p l e R s m args below meth c H1 locs1 cells slots Q (F0 m (pc + 1) ls rest)) (hn : n < 2 ^ 31 := by decide) : W p l e R s m args below meth c H locs cells slots Q (F0 m pc ls (.int x :: .int i :: .ref a :: rest)) := by
  subst hi
  have h := va_iast (l := l) (e := e) (R := R) (m := m) (args := args) (below := below) (meth := meth) (cells := cells) (slots := slots) (Q := Q) (pc := pc) (ls := ls) (rest := rest) (x := x) S.1 S.2.1 hK hP hD hS q0 0 ha rfl (vp_in_nI hj hn) hdg
  rw [nI_clamp (by omega)] at h
  exact h kk
theorem dc_zst (S : CallFix p m c cc nL s args gw_tbl own) {cI cZ : ClassId} (hK : va_K D classes [(cI, .int), (cZ, .boolean)] s) (hP : va_P D classes ws H) (hD : va_D A ws) (hS : va_S A H0 H locs) (q0 : Nat) {n : Nat} {f : Nat → Int32} (ha : ws[q0]? = some (a, .inl (cZ, n, .inl f))) {i x : Int32} {j : Nat} (hi : i = nI j) (hj : j < n) (hx : vp_nar .boolean x = x) (hdg : decode cc pc = .ok (.bastore, 1))
    (kk : ∀ (H1 : Heap) (locs1 : List Loc), va_P D classes (ws.set q0 (a, .inl (cZ, n, .inl (upd f j x)))) H1 → va_D A (ws.set q0 (a, .inl (cZ, n, .inl (upd f j x)))) → va_S A H0 H1 locs1 → W p l e R s m args below meth c H1 locs1 cells slots Q (F0 m (pc + 1) ls rest)) (hn : n < 2 ^ 31 := by decide) : W p l e R s m args below meth c H locs cells slots Q (F0 m pc ls (.int x :: .int i :: .ref a :: rest)) := by
  subst hi
  have h := va_zast (l := l) (e := e) (R := R) (m := m) (args := args) (below := below) (meth := meth) (cells := cells) (slots := slots) (Q := Q) (pc := pc) (ls := ls) (rest := rest) (x := x) S.1 S.2.1 hK hP hD hS q0 1 ha rfl (vp_in_nI hj hn) hdg
  rw [nI_clamp (by omega), hx] at h
  exact h kk
/-- a call of a virtual method with an int answer: isC the callee's cells, isR the rest -/
theorem dc_callI {T : Type} {y : MethodName} {b : ByteArray} {n d idx np ci N : Nat} {ret : FieldType} {As : List Value} {w0 wr : va_W} {post : Int32 → T → Prop} {w1 : T → va_W} {fs st0 : List Value} {Tt : u_T} {lv : List (Nat × Value)} (S : CallFix p m c cc nL s args gw_tbl own) (ok : mk_V y b n (some ret) np) (lk : Cond.methodLink own idx y ∈ gw_tbl) (hM : CtI l y b n ret d D tys (.ref a :: As) w0 post w1)
    (hR : d + 1 ≤ R.frames ∧ 8 + (n + 11) + 26 * d ≤ R.locals) (hf : cells ≤ R.cells ∧ slots ≤ R.slots) (hK : va_K D classes tys s) (hP : va_P D classes ws H) (hD : va_D A ws) (hS : va_S A H0 H locs) (hA : ∀ q, H0.size ≤ q → A q) (isC isR : List Nat) (hC : isC.map (fun i => ws[i]?) = w0.map some) (hRr : isR.map (fun i => ws[i]?) = wr.map some) (hn1 : va_nd isC = true) (hn2 : va_nd isR = true) (hdis : ∀ i ∈ isR, i ∉ isC)
    (he : w0[0]? = some (a, .inr (ci, fs))) (hc : classes[ci]? = some (y.cls, Tt, N)) (hnp : As.length = np) (hl : lv_has ls nL lv) (hst : st0 = As.reverse ++ .ref a :: rest) (hrm : (rest.map fun v => v.category).sum ≤ 8) (hdg : decode cc pc = .ok (.invokevirtual idx, 3))
    (kk : ∀ (r : Int32) (u : T) (H1 : Heap) (locs1 : List Loc), post r u → va_P D classes (wr ++ w1 u) H1 → va_D A (wr ++ w1 u) → va_S A H0 H1 locs1 → W p l e R s m args below meth c H1 locs1 cells slots Q (F0 m (pc + 3) ls (.int r :: rest))) : W p l e R s m args below meth c H locs cells slots Q (F0 m pc ls st0) := by
  obtain ⟨k1, k2, k3, k4, k5⟩ := ok
  have hts := S.2.2.2.2
  have hPc : va_P D classes w0 H := by
    intro k q hk
    have h1 : (isC.map (fun i => ws[i]?))[k]? = some (some q) := by rw [hC, List.getElem?_map, hk]; rfl
    rw [List.getElem?_map] at h1
    cases hi : isC[k]? with
    | none => rw [hi] at h1; cases h1
    | some i => rw [hi] at h1; exact hP i q (Option.some.inj h1)
  have hDc : va_D A w0 := hD.sub isC hn1 hC
  have hFc := va_free (wc := w0) hD hS hA isC hC
  refine va_calli (va_runV (As := As) (rest := rest) (b := a) S (hM H.size) ⟨callB_of np hts (ct_good k1) rfl rfl rfl (hts _ k4) (hts _ lk) k5 hR, hts _ k2, hts _ k3⟩ ⟨ct_blind, va_recv hK hPc hc he, fun U hU hW => ⟨rfl, by rw [hU], by rw [hU]; exact hPc, va_K.moved hW.alike hK, hDc.weaken (fun _ _ _ _ => trivial)⟩⟩ rfl hnp hl.1 hst (lv_room (m := m) (pc := pc) (ls := ls) (rest := st0) hrm) hdg ⟨hf.1, hf.2⟩) hS (fun q _ h => hFc q h) hFc (fun r u t H1 locs1 ht hvm hw hB hz1 hk1 hS1 => ?_)
  obtain ⟨hP1, hK1, hD1⟩ := hB
  rw [ht] at hP1
  obtain ⟨hP2, hD2⟩ := va_join (wr := wr) (w1 := w1 u) hP hD isC isR hC hRr hn2 hdis hk1 hFc hP1 hD1
  exact kk r u H1 locs1 hw hP2 hD2 hS1
theorem dc_callV {T : Type} {y : MethodName} {b : ByteArray} {n d idx np ci N : Nat} {As : List Value} {w0 wr : va_W} {post : T → Prop} {w1 : T → va_W} {fs st0 : List Value} {Tt : u_T} {lv : List (Nat × Value)} (S : CallFix p m c cc nL s args gw_tbl own) (ok : mk_V y b n none np) (lk : Cond.methodLink own idx y ∈ gw_tbl) (hM : CtV l y b n d 0 0 D tys (.ref a :: As) w0 post w1)
    (hR : d + 1 ≤ R.frames ∧ 8 + (n + 11) + 26 * d ≤ R.locals) (hf : cells ≤ R.cells ∧ slots ≤ R.slots) (hK : va_K D classes tys s) (hP : va_P D classes ws H) (hD : va_D A ws) (hS : va_S A H0 H locs) (hA : ∀ q, H0.size ≤ q → A q) (isC isR : List Nat) (hC : isC.map (fun i => ws[i]?) = w0.map some) (hRr : isR.map (fun i => ws[i]?) = wr.map some) (hn1 : va_nd isC = true) (hn2 : va_nd isR = true) (hdis : ∀ i ∈ isR, i ∉ isC)
    (he : w0[0]? = some (a, .inr (ci, fs))) (hc : classes[ci]? = some (y.cls, Tt, N)) (hnp : As.length = np) (hl : lv_has ls nL lv) (hst : st0 = As.reverse ++ .ref a :: rest) (hrm : (rest.map fun v => v.category).sum ≤ 8) (hdg : decode cc pc = .ok (.invokevirtual idx, 3))
    (kk : ∀ (u : T) (H1 : Heap) (locs1 : List Loc), post u → va_P D classes (wr ++ w1 u) H1 → va_D A (wr ++ w1 u) → va_S A H0 H1 locs1 → W p l e R s m args below meth c H1 locs1 cells slots Q (F0 m (pc + 3) ls rest)) : W p l e R s m args below meth c H locs cells slots Q (F0 m pc ls st0) := by
  obtain ⟨k1, k2, k3, k4, k5⟩ := ok
  have hts := S.2.2.2.2
  have hPc : va_P D classes w0 H := by
    intro k q hk
    have h1 : (isC.map (fun i => ws[i]?))[k]? = some (some q) := by rw [hC, List.getElem?_map, hk]; rfl
    rw [List.getElem?_map] at h1
    cases hi : isC[k]? with
    | none => rw [hi] at h1; cases h1
    | some i => rw [hi] at h1; exact hP i q (Option.some.inj h1)
  have hDc : va_D A w0 := hD.sub isC hn1 hC
  have hFc := va_free (wc := w0) hD hS hA isC hC
  refine va_callv (va_runV (As := As) (rest := rest) (b := a) S (hM H.size) ⟨callB_of np hts (ct_good k1) rfl rfl rfl (hts _ k4) (hts _ lk) k5 hR, hts _ k2, hts _ k3⟩ ⟨ct_blind, va_recv hK hPc hc he, fun U hU hW => ⟨rfl, by rw [hU], by rw [hU]; exact hPc, va_K.moved hW.alike hK, hDc.weaken (fun _ _ _ _ => trivial)⟩⟩ rfl hnp hl.1 hst (lv_room (m := m) (pc := pc) (ls := ls) (rest := st0) hrm) hdg ⟨hf.1, hf.2⟩) hS (fun q _ h => hFc q h) hFc (fun u t H1 locs1 ht hvm hw hB hz1 hk1 hS1 => ?_)
  obtain ⟨hP1, hK1, hD1⟩ := hB
  rw [ht] at hP1
  obtain ⟨hP2, hD2⟩ := va_join (wr := wr) (w1 := w1 u) hP hD isC isR hC hRr hn2 hdis hk1 hFc hP1 hD1
  exact kk u H1 locs1 hw hP2 hD2 hS1
/-- a call of a static method with an int answer -/
theorem dc_callS {T : Type} {y : MethodName} {b : ByteArray} {n d idx np : Nat} {ret : FieldType} {As : List Value} {w0 wr : va_W} {post : Int32 → T → Prop} {w1 : T → va_W} {st0 : List Value} {lv : List (Nat × Value)} (S : CallFix p m c cc nL s args gw_tbl own) (ok : mk_S y b n (some ret) np) (lk : Cond.methodLink own idx y ∈ gw_tbl) (hM : CtI l y b n ret d D tys As w0 post w1)
    (hR : d + 1 ≤ R.frames ∧ 8 + (n + 11) + 26 * d ≤ R.locals) (hf : cells ≤ R.cells ∧ slots ≤ R.slots) (hK : va_K D classes tys s) (hP : va_P D classes ws H) (hD : va_D A ws) (hS : va_S A H0 H locs) (hA : ∀ q, H0.size ≤ q → A q) (isC isR : List Nat) (hC : isC.map (fun i => ws[i]?) = w0.map some) (hRr : isR.map (fun i => ws[i]?) = wr.map some) (hn1 : va_nd isC = true) (hn2 : va_nd isR = true) (hdis : ∀ i ∈ isR, i ∉ isC)
    (hnp : As.length = np) (hl : lv_has ls nL lv) (hst : st0 = As.reverse ++ rest) (hrm : (rest.map fun v => v.category).sum ≤ 8) (hdg : decode cc pc = .ok (.invokestatic idx, 3))
    (kk : ∀ (r : Int32) (u : T) (H1 : Heap) (locs1 : List Loc), post r u → va_P D classes (wr ++ w1 u) H1 → va_D A (wr ++ w1 u) → va_S A H0 H1 locs1 → W p l e R s m args below meth c H1 locs1 cells slots Q (F0 m (pc + 3) ls (.int r :: rest))) : W p l e R s m args below meth c H locs cells slots Q (F0 m pc ls st0) := by
  obtain ⟨k1, k2, k4, k5⟩ := ok
  have hts := S.2.2.2.2
  have hPc : va_P D classes w0 H := by
    intro k q hk
    have h1 : (isC.map (fun i => ws[i]?))[k]? = some (some q) := by rw [hC, List.getElem?_map, hk]; rfl
    rw [List.getElem?_map] at h1
    cases hi : isC[k]? with
    | none => rw [hi] at h1; cases h1
    | some i => rw [hi] at h1; exact hP i q (Option.some.inj h1)
  have hDc : va_D A w0 := hD.sub isC hn1 hC
  have hFc := va_free (wc := w0) hD hS hA isC hC
  refine va_calli (va_runS (As := As) (rest := rest) S (hM H.size) ⟨callB_of np hts (ct_good k1) rfl rfl rfl (hts _ k4) (hts _ lk) k5 hR, hts _ k2⟩ ⟨ct_blind, fun U hU hW => ⟨rfl, by rw [hU], by rw [hU]; exact hPc, va_K.moved hW.alike hK, hDc.weaken (fun _ _ _ _ => trivial)⟩⟩ rfl hnp hl.1 hst (lv_room (m := m) (pc := pc) (ls := ls) (rest := st0) hrm) hdg ⟨hf.1, hf.2⟩) hS (fun q _ h => hFc q h) hFc (fun r u t H1 locs1 ht hvm hw hB hz1 hk1 hS1 => ?_)
  obtain ⟨hP1, hK1, hD1⟩ := hB
  rw [ht] at hP1
  obtain ⟨hP2, hD2⟩ := va_join (wr := wr) (w1 := w1 u) hP hD isC isR hC hRr hn2 hdis hk1 hFc hP1 hD1
  exact kk r u H1 locs1 hw hP2 hD2 hS1
/-- a constructor's call -/
theorem dc_callN {T : Type} {y : MethodName} {b : ByteArray} {n d idx np mc ms : Nat} {As : List Value} {w0 wr : va_W} {post : T → Prop} {w1 : T → va_W} {st0 : List Value} {lv : List (Nat × Value)} (S : CallFix p m c cc nL s args gw_tbl own) (ok : mk_I y b n np) (lk : Cond.methodLink own idx y ∈ gw_tbl) (hM : CtV l y b n d mc ms D tys (.ref a :: As) w0 post w1)
    (hR : d + 1 ≤ R.frames ∧ 8 + (n + 11) + 26 * d ≤ R.locals) (hf : cells + mc ≤ R.cells ∧ slots + ms ≤ R.slots) (hK : va_K D classes tys s) (hP : va_P D classes ws H) (hD : va_D A ws) (hS : va_S A H0 H locs) (hA : ∀ q, H0.size ≤ q → A q) (isC isR : List Nat) (hC : isC.map (fun i => ws[i]?) = w0.map some) (hRr : isR.map (fun i => ws[i]?) = wr.map some) (hn1 : va_nd isC = true) (hn2 : va_nd isR = true) (hdis : ∀ i ∈ isR, i ∉ isC)
    (hnp : As.length = np) (hl : lv_has ls nL lv) (hst : st0 = As.reverse ++ .ref a :: rest) (hrm : (rest.map fun v => v.category).sum ≤ 8) (hdg : decode cc pc = .ok (.invokespecial idx, 3))
    (kk : ∀ (u : T) (H1 : Heap) (locs1 : List Loc), post u → va_P D classes (wr ++ w1 u) H1 → va_D A (wr ++ w1 u) → va_S A H0 H1 locs1 → W p l e R s m args below meth c H1 locs1 (cells + mc) (slots + ms) Q (F0 m (pc + 3) ls rest)) : W p l e R s m args below meth c H locs cells slots Q (F0 m pc ls st0) := by
  obtain ⟨k1, k2, k4, k3, k5⟩ := ok
  have hts := S.2.2.2.2
  have hPc : va_P D classes w0 H := by
    intro k q hk
    have h1 : (isC.map (fun i => ws[i]?))[k]? = some (some q) := by rw [hC, List.getElem?_map, hk]; rfl
    rw [List.getElem?_map] at h1
    cases hi : isC[k]? with
    | none => rw [hi] at h1; cases h1
    | some i => rw [hi] at h1; exact hP i q (Option.some.inj h1)
  have hDc : va_D A w0 := hD.sub isC hn1 hC
  have hFc := va_free (wc := w0) hD hS hA isC hC
  refine va_callv (va_runI (As := As) (rest := rest) (b := a) S (hM H.size) ⟨callB_of np hts (ct_good k1) rfl rfl rfl (hts _ k4) (hts _ lk) k5 hR, k3, hts _ k2⟩ ⟨ct_blind, fun U hU hW => ⟨rfl, by rw [hU], by rw [hU]; exact hPc, va_K.moved hW.alike hK, hDc.weaken (fun _ _ _ _ => trivial)⟩⟩ rfl hnp hl.1 hst (lv_room (m := m) (pc := pc) (ls := ls) (rest := st0) hrm) hdg hf) hS (fun q _ h => hFc q h) hFc (fun u t H1 locs1 ht hvm hw hB hz1 hk1 hS1 => ?_)
  obtain ⟨hP1, hK1, hD1⟩ := hB
  rw [ht] at hP1
  obtain ⟨hP2, hD2⟩ := va_join (wr := wr) (w1 := w1 u) hP hD isC isR hC hRr hn2 hdis hk1 hFc hP1 hD1
  exact kk u H1 locs1 hw hP2 hD2 hS1
/-- a new array whose class is known -/
theorem dc_newI {cI cZ : ClassId} (S : CallFix p m c cc nL s args gw_tbl own) (hK : va_K D classes [(cI, .int), (cZ, .boolean)] s) (hP : va_P D classes ws H) (hD : va_D A ws) (hS : va_S A H0 H locs) (hA : ∀ q, H0.size ≤ q → A q)
    {n : Int32} {N' : Nat} (hn : ¬ n < 0) (hN : n.toNatClampNeg = N') (hbytes : N' * componentBytes .int ≤ 536870912) (hcells : cells + 1 ≤ R.cells) (hslots : slots + N' ≤ R.slots) (hdg : decode cc pc = .ok (.newarray .int, 2))
    (kk : ∀ (q : Nat) (H1 : Heap), va_P D classes (ws ++ [(q, .inl (cI, N', .inl (fun _ => 0)))]) H1 → va_D A (ws ++ [(q, .inl (cI, N', .inl (fun _ => 0)))]) → va_S A H0 H1 locs →
      W p l e R s m args below meth c H1 locs (cells + 1) (slots + N') Q (F0 m (pc + 2) ls (.ref q :: rest))) : W p l e R s m args below meth c H locs cells slots Q (F0 m pc ls (.int n :: rest)) := by
  refine va_newa (atype := .int) (ty := .int) (a0 := (N', .inl (fun _ => 0))) S.1 S.2.1 (S.2.2.2.2 _ ac_int) rfl hK hP hD hS hA (fun cA => rfl) hn hN hbytes hcells hslots hdg (fun q cA H1 hK1 hP1 hD1 hS1 => ?_)
  have e1 : s.vm.findClass ("[" ++ FieldType.int.toString) = some cA := (hK1.2 2 (cA, .int) rfl).2
  have e2 : s.vm.findClass ("[" ++ FieldType.int.toString) = some cI := (hK.2 0 (cI, .int) rfl).2
  have e3 : cA = cI := Option.some.inj (e1.symm.trans e2)
  subst e3
  exact kk q H1 hP1 hD1 hS1
theorem dc_newZ {cI cZ : ClassId} (S : CallFix p m c cc nL s args gw_tbl own) (hK : va_K D classes [(cI, .int), (cZ, .boolean)] s) (hP : va_P D classes ws H) (hD : va_D A ws) (hS : va_S A H0 H locs) (hA : ∀ q, H0.size ≤ q → A q)
    {n : Int32} {N' : Nat} (hn : ¬ n < 0) (hN : n.toNatClampNeg = N') (hbytes : N' * componentBytes .boolean ≤ 536870912) (hcells : cells + 1 ≤ R.cells) (hslots : slots + N' ≤ R.slots) (hdg : decode cc pc = .ok (.newarray .boolean, 2))
    (kk : ∀ (q : Nat) (H1 : Heap), va_P D classes (ws ++ [(q, .inl (cZ, N', .inl (fun _ => 0)))]) H1 → va_D A (ws ++ [(q, .inl (cZ, N', .inl (fun _ => 0)))]) → va_S A H0 H1 locs →
      W p l e R s m args below meth c H1 locs (cells + 1) (slots + N') Q (F0 m (pc + 2) ls (.ref q :: rest))) : W p l e R s m args below meth c H locs cells slots Q (F0 m pc ls (.int n :: rest)) := by
  refine va_newa (atype := .boolean) (ty := .boolean) (a0 := (N', .inl (fun _ => 0))) S.1 S.2.1 (S.2.2.2.2 _ ac_bool) rfl hK hP hD hS hA (fun cA => rfl) hn hN hbytes hcells hslots hdg (fun q cA H1 hK1 hP1 hD1 hS1 => ?_)
  have e1 : s.vm.findClass ("[" ++ FieldType.boolean.toString) = some cA := (hK1.2 2 (cA, .boolean) rfl).2
  have e2 : s.vm.findClass ("[" ++ FieldType.boolean.toString) = some cZ := (hK.2 1 (cZ, .boolean) rfl).2
  have e3 : cA = cZ := Option.some.inj (e1.symm.trans e2)
  subst e3
  exact kk q H1 hP1 hD1 hS1
end CT
end
section
/-! Int32 by its bits: this family is a starting text (kit/laws/BITS.to-paste) -/
def bt (x : Int32) (i : Nat) : Bool := x.toBitVec.getLsbD i
theorem b_ext {x y : Int32} (h : ∀ i, i < 32 → bt x i = bt y i) : x = y := Int32.toBitVec_inj.mp (BitVec.eq_of_getLsbD_eq (fun i hi => h i hi))
theorem b_or (x y : Int32) (i : Nat) : bt (x ||| y) i = (bt x i || bt y i) := by unfold bt; rw [Int32.toBitVec_or, BitVec.getLsbD_or]
theorem b_and (x y : Int32) (i : Nat) : bt (x &&& y) i = (bt x i && bt y i) := by unfold bt; rw [Int32.toBitVec_and, BitVec.getLsbD_and]
theorem b_xor (x y : Int32) (i : Nat) : bt (x ^^^ y) i = (bt x i ^^ bt y i) := by unfold bt; rw [Int32.toBitVec_xor, BitVec.getLsbD_xor]
theorem b_big {x : Int32} {i : Nat} (h : 32 ≤ i) : bt x i = false := BitVec.getLsbD_of_ge _ _ h
theorem b_255 (i : Nat) : bt 255 i = decide (i < 8) := by
  rcases Nat.lt_or_ge i 32 with h | h
  · exact (by decide +kernel : ∀ i, i < 32 → bt 255 i = decide (i < 8)) i h
  · rw [b_big h, decide_eq_false (by omega)]
theorem b_65535 (i : Nat) : bt 65535 i = decide (i < 16) := by
  rcases Nat.lt_or_ge i 32 with h | h
  · exact (by decide +kernel : ∀ i, i < 32 → bt 65535 i = decide (i < 16)) i h
  · rw [b_big h, decide_eq_false (by omega)]
theorem b_m1 : ∀ i, i < 32 → bt (-1) i = true := by decide +kernel
theorem b_0 (i : Nat) : bt 0 i = false := BitVec.getLsbD_zero
theorem s_l : ∀ n, n < 32 → ((nI n &&& 31).toBitVec.smod 32).toNat = n := by decide +kernel
theorem s_u : ∀ n, n < 32 → (((nI n).toUInt32 &&& Int32.toUInt32 31).toBitVec % 32).toNat = n := by decide +kernel
theorem b_shl (n : Nat) (hn : n < 32) (x : Int32) {i : Nat} (hi : i < 32) : bt (x <<< (nI n &&& 31)) i = (decide (n ≤ i) && bt x (i - n)) := by
  unfold bt
  rw [Int32.toBitVec_shiftLeft]
  show (x.toBitVec <<< ((nI n &&& 31).toBitVec.smod 32).toNat).getLsbD i = _
  rw [s_l n hn, BitVec.getLsbD_shiftLeft]
  rcases Nat.lt_or_ge i n with h | h
  · simp [h, Nat.not_le.mpr h]
  · simp [hi, h, Nat.not_lt.mpr h]
theorem b_ushr (n : Nat) (hn : n < 32) (x : Int32) (i : Nat) : bt ((x.toUInt32 >>> ((nI n).toUInt32 &&& Int32.toUInt32 31)).toInt32) i = bt x (n + i) := by
  show (x.toUInt32 >>> ((nI n).toUInt32 &&& Int32.toUInt32 31)).toBitVec.getLsbD i = x.toUInt32.toBitVec.getLsbD (n + i)
  rw [UInt32.toBitVec_shiftRight]
  show (x.toUInt32.toBitVec >>> (((nI n).toUInt32 &&& Int32.toUInt32 31).toBitVec % 32).toNat).getLsbD i = _
  rw [s_u n hn, BitVec.getLsbD_ushiftRight]
theorem b_sshr (n : Nat) (hn : n < 32) (x : Int32) {i : Nat} (hi : i < 32) : bt (x >>> (nI n &&& 31)) i = if n + i < 32 then bt x (n + i) else bt x 31 := by
  unfold bt
  rw [Int32.toBitVec_shiftRight]
  show (x.toBitVec.sshiftRight ((nI n &&& 31).toBitVec.smod 32).toNat).getLsbD i = _
  rw [s_l n hn, BitVec.getLsbD_sshiftRight, BitVec.msb_eq_getLsbD_last]
  simp [hi]
theorem b_1 (j : Nat) : bt 1 j = decide (j = 0) := by
  rcases Nat.lt_or_ge j 32 with h | h
  · exact (by decide +kernel : ∀ j, j < 32 → bt 1 j = decide (j = 0)) j h
  · rw [b_big h, decide_eq_false (by omega)]
theorem b_not (x : Int32) {i : Nat} (hi : i < 32) : bt (x ^^^ (-1)) i = !bt x i := by
  rw [b_xor, b_m1 i hi]
  cases bt x i <;> rfl
theorem b_lt {x : Int32} {i : Nat} (h : bt x i = true) : i < 32 := by
  rcases Nat.lt_or_ge i 32 with q | q
  · exact q
  · rw [b_big q] at h; cases h
/-! counting -/
def pb_cnt (f : Nat → Bool) : Nat → Nat
  | 0 => 0
  | n + 1 => pb_cnt f n + (if f n = true then 1 else 0)
theorem pb_cnt_le (f : Nat → Bool) (n : Nat) : pb_cnt f n ≤ n := by
  induction n with
  | zero => exact Nat.le_refl _
  | succ n ih =>
    unfold pb_cnt
    split <;> omega
theorem pb_cnt_ext {f g : Nat → Bool} {n : Nat} (h : ∀ i, i < n → f i = g i) : pb_cnt f n = pb_cnt g n := by
  induction n with
  | zero => rfl
  | succ n ih =>
    unfold pb_cnt
    rw [ih (fun i hi => h i (by omega)), h n (by omega)]
theorem pb_cnt_mono {f g : Nat → Bool} {n : Nat} (h : ∀ i, i < n → f i = true → g i = true) : pb_cnt f n ≤ pb_cnt g n := by
  induction n with
  | zero => exact Nat.le_refl _
  | succ n ih =>
    unfold pb_cnt
    have h1 := ih (fun i hi => h i (by omega))
    cases hf : f n with
    | false =>
      split
      · rename_i q; cases q
      · omega
    | true =>
      rw [h n (by omega) hf]
      omega
theorem pb_cnt_zero {f : Nat → Bool} {n : Nat} : pb_cnt f n = 0 ↔ ∀ i, i < n → f i = false := by
  induction n with
  | zero => exact ⟨fun _ i hi => absurd hi (Nat.not_lt_zero i), fun _ => rfl⟩
  | succ n ih =>
    unfold pb_cnt
    constructor
    · intro h i hi
      have h0 : pb_cnt f n = 0 := by omega
      rcases Nat.lt_or_ge i n with q | q
      · exact ih.mp h0 i q
      · have e : i = n := by omega
        subst e
        cases hf : f i with
        | false => rfl
        | true => rw [hf, if_pos rfl] at h; omega
    · intro h
      rw [ih.mpr (fun i hi => h i (by omega)), h n (by omega)]
      rfl
theorem pb_cnt_set {f g : Nat → Bool} {n j : Nat} (hj : j < n) (hf : f j = false) (hg : g j = true) (ho : ∀ i, i < n → i ≠ j → g i = f i) : pb_cnt g n = pb_cnt f n + 1 := by
  induction n with
  | zero => exact absurd hj (Nat.not_lt_zero j)
  | succ n ih =>
    unfold pb_cnt
    rcases Nat.lt_or_ge j n with q | q
    · rw [ih q (fun i hi => ho i (by omega)), ho n (by omega) (by omega)]
      omega
    · have e : j = n := by omega
      subst e
      rw [pb_cnt_ext (fun i hi => ho i (by omega) (by omega)), hf, hg]
      rfl
theorem pb_cnt_cut {f : Nat → Bool} {k n : Nat} (hk : k ≤ n) (h : ∀ i, k ≤ i → i < n → f i = false) : pb_cnt f n = pb_cnt f k := by
  induction n with
  | zero => rw [show k = 0 by omega]
  | succ n ih =>
    rcases Nat.lt_or_ge n k with q | q
    · rw [show k = n + 1 by omega]
    · unfold pb_cnt
      rw [ih q (fun i h1 h2 => h i h1 (by omega)), h n q (by omega)]
      cases k <;> rfl
theorem pb_cnt_all {f : Nat → Bool} {n : Nat} (h : ∀ i, i < n → f i = true) : pb_cnt f n = n := by
  induction n with
  | zero => rfl
  | succ n ih =>
    unfold pb_cnt
    rw [ih (fun i hi => h i (by omega)), h n (by omega), if_pos rfl]
theorem pb_cnt_pos {f : Nat → Bool} {n : Nat} (h : pb_cnt f n ≠ 0) : ∃ j, j < n ∧ f j = true := by
  induction n with
  | zero => exact absurd rfl h
  | succ n ih =>
    cases hf : f n with
    | true => exact ⟨n, by omega, hf⟩
    | false =>
      unfold pb_cnt at h
      rw [hf] at h
      obtain ⟨j, h1, h2⟩ := ih (by simpa using h)
      exact ⟨j, by omega, h2⟩
theorem pb_cnt_one {f : Nat → Bool} {n : Nat} (h : pb_cnt f n = 1) : ∃ j, j < n ∧ f j = true ∧ ∀ i, i < n → f i = true → i = j := by
  obtain ⟨j, hj, hfj⟩ := pb_cnt_pos (f := f) (n := n) (by omega)
  refine ⟨j, hj, hfj, fun i hi hfi => ?_⟩
  rcases Nat.decEq i j with q | q
  · exfalso
    have e := pb_cnt_set (f := fun i => f i && decide (i ≠ j)) (g := f) (n := n) (j := j) hj (by simp) hfj (fun i _ hne => by simp [hne])
    have z := pb_cnt_zero.mp (show pb_cnt (fun i => f i && decide (i ≠ j)) n = 0 by omega) i hi
    simp [hfi, q] at z
  · exact q
def pb_pop (x : Int32) : Nat := pb_cnt (bt x) 32
theorem pb_pop_zero {x : Int32} : pb_pop x = 0 ↔ x = 0 := by
  constructor
  · intro h
    exact b_ext (fun i hi => by rw [pb_cnt_zero.mp h i hi, b_0])
  · rintro rfl
    exact pb_cnt_zero.mpr (fun i _ => b_0 i)
theorem pb_pop_le (x : Int32) : pb_pop x ≤ 32 := pb_cnt_le _ _
theorem pb_tb (x : Int32) (i : Nat) : bt x i = x.toBitVec.toNat.testBit i := rfl
/-- bits of x - 1, where j is the lowest set bit of x -/
theorem pb_sub1 {X j : Nat} (h0 : ∀ i, i < j → X.testBit i = false) (h1 : X.testBit j = true) : (X - 1).testBit j = false ∧ ∀ i, j < i → (X - 1).testBit i = X.testBit i := by
  have hm : X % 2 ^ j = 0 := by
    apply Nat.eq_of_testBit_eq
    intro i
    rw [Nat.testBit_mod_two_pow, Nat.zero_testBit]
    rcases Nat.lt_or_ge i j with q | q
    · rw [h0 i q, Bool.and_false]
    · simp [Nat.not_lt.mpr q]
  have hp : 0 < 2 ^ j := Nat.two_pow_pos j
  rw [Nat.testBit_eq_decide_div_mod_eq] at h1
  have h1 : X / 2 ^ j % 2 = 1 := by simpa using h1
  have hX : 2 ^ j * (X / 2 ^ j) = X := by
    have := Nat.div_add_mod X (2 ^ j)
    omega
  have hd : (X - 1) / 2 ^ j = X / 2 ^ j - 1 := by
    generalize X / 2 ^ j = M at h1 hX ⊢
    obtain ⟨k, rfl⟩ : ∃ k, M = k + 1 := ⟨M - 1, by omega⟩
    have e : X - 1 = (2 ^ j - 1) + 2 ^ j * k := by
      rw [← hX, Nat.mul_succ]
      omega
    rw [e, Nat.add_mul_div_left _ _ hp, Nat.div_eq_of_lt (by omega)]
    omega
  constructor
  · rw [Nat.testBit_eq_decide_div_mod_eq, hd]
    simp
    omega
  · intro i hi
    obtain ⟨r, rfl⟩ : ∃ r, i = j + (1 + r) := ⟨i - j - 1, by omega⟩
    rw [Nat.testBit_eq_decide_div_mod_eq, Nat.testBit_eq_decide_div_mod_eq, Nat.pow_add 2 j, ← Nat.div_div_eq_div_mul, ← Nat.div_div_eq_div_mul, hd, Nat.pow_add 2 1, ← Nat.div_div_eq_div_mul, ← Nat.div_div_eq_div_mul]
    have e : ∀ M : Nat, M % 2 = 1 → (M - 1) / 2 ^ 1 = M / 2 ^ 1 := fun M h => by omega
    rw [e _ h1]
/-- one step of counting: the lowest set bit goes -/
theorem pb_low {x : Int32} (hx : x ≠ 0) : pb_pop (x &&& (x - 1)) + 1 = pb_pop x := by
  have hex : ∃ j, bt x j = true := by
    obtain ⟨j, -, h⟩ := pb_cnt_pos (f := bt x) (n := 32) (fun h => hx (pb_pop_zero.mp h))
    exact ⟨j, h⟩
  obtain ⟨j, hj, hmin⟩ := pk_least (fun j => bt x j = true) hex
  have hj32 : j < 32 := b_lt hj
  have hX0 : x.toBitVec.toNat ≠ 0 := by
    intro h
    rw [pb_tb, h, Nat.zero_testBit] at hj
    cases hj
  have hsub : (x - 1).toBitVec.toNat = x.toBitVec.toNat - 1 := by
    rw [Int32.toBitVec_sub, BitVec.toNat_sub]
    have := x.toBitVec.isLt
    show (2 ^ 32 - 1 + x.toBitVec.toNat) % 2 ^ 32 = _
    omega
  obtain ⟨s1, s2⟩ := pb_sub1 (X := x.toBitVec.toNat) (j := j) (fun i hi => by
    cases h : bt x i with
    | false => exact h
    | true => exact absurd h (hmin i hi)) hj
  refine (pb_cnt_set (f := bt (x &&& (x - 1))) (g := bt x) hj32 ?_ hj ?_).symm
  · rw [b_and, pb_tb (x - 1), hsub, s1, Bool.and_false]
  · intro i hi hne
    rw [b_and]
    rcases Nat.lt_or_ge i j with q | q
    · cases h : bt x i with
      | false => rfl
      | true => exact absurd h (hmin i q)
    · rw [pb_tb (x - 1), hsub, s2 i (by omega), ← pb_tb, Bool.and_self]
/-! xor over a set -/
def pb_xr (g : Nat → Bool) (f : Nat → Int32) : Nat → Int32
  | 0 => 0
  | n + 1 => pb_xr g f n ^^^ (if g n = true then f n else 0)
theorem pb_x0 (x : Int32) : x ^^^ 0 = x := b_ext (fun i _ => by rw [b_xor, b_0, Bool.xor_false])
theorem pb_xc (x y : Int32) : x ^^^ y = y ^^^ x := b_ext (fun i _ => by rw [b_xor, b_xor, Bool.xor_comm])
theorem pb_xa (x y z : Int32) : x ^^^ y ^^^ z = x ^^^ (y ^^^ z) := b_ext (fun i _ => by rw [b_xor, b_xor, b_xor, b_xor, Bool.xor_assoc])
theorem pb_xx (x : Int32) : x ^^^ x = 0 := b_ext (fun i _ => by rw [b_xor, b_0, Bool.xor_self])
theorem pb_xr_ext {g g' : Nat → Bool} {f f' : Nat → Int32} {n : Nat} (h : ∀ i, i < n → g i = g' i) (hf : ∀ i, i < n → g i = true → f i = f' i) : pb_xr g f n = pb_xr g' f' n := by
  induction n with
  | zero => rfl
  | succ n ih =>
    unfold pb_xr
    rw [ih (fun i hi => h i (by omega)) (fun i hi => hf i (by omega)), ← h n (by omega)]
    cases hg : g n with
    | false => rfl
    | true => rw [hf n (by omega) hg]
theorem pb_xr_cut {g : Nat → Bool} {f : Nat → Int32} {k n : Nat} (hk : k ≤ n) (h : ∀ i, k ≤ i → i < n → g i = false) : pb_xr g f n = pb_xr g f k := by
  induction n with
  | zero => rw [show k = 0 by omega]
  | succ n ih =>
    rcases Nat.lt_or_ge n k with q | q
    · rw [show k = n + 1 by omega]
    · show pb_xr g f n ^^^ _ = _
      rw [ih q (fun i h1 h2 => h i h1 (by omega)), h n q (by omega), if_neg (by decide), pb_x0]
theorem pb_xr_set {g g' : Nat → Bool} {f f' : Nat → Int32} {n j : Nat} (hj : j < n) (h0 : g j = false) (h1 : g' j = true) (ho : ∀ i, i < n → i ≠ j → g' i = g i) (hf : ∀ i, i < n → g i = true → f' i = f i) : pb_xr g' f' n = pb_xr g f n ^^^ f' j := by
  induction n with
  | zero => exact absurd hj (Nat.not_lt_zero j)
  | succ n ih =>
    show pb_xr g' f' n ^^^ _ = (pb_xr g f n ^^^ _) ^^^ _
    rcases Nat.lt_or_ge j n with q | q
    · rw [ih q (fun i hi => ho i (by omega)) (fun i hi => hf i (by omega)), ho n (by omega) (by omega)]
      cases hg : g n with
      | false => rw [if_neg (by decide), if_neg (by decide), pb_x0, pb_x0]
      | true => rw [if_pos rfl, if_pos rfl, hf n (by omega) hg, pb_xa, pb_xa, pb_xc (f' j)]
    · have e : j = n := by omega
      subst e
      rw [h0, h1, if_pos rfl, if_neg (by decide), pb_x0, pb_xr_ext (g := g') (g' := g) (f := f') (f' := f) (fun i hi => ho i (by omega) (by omega)) (fun i hi hg => hf i (by omega) (by rw [← ho i (by omega) (by omega)]; exact hg))]
/-! single bits -/
def pb_one (i : Nat) : Int32 := (1 : Int32) <<< (nI i &&& 31)
theorem pb_one_bt {i : Nat} (hi : i < 32) (j : Nat) : bt (pb_one i) j = decide (j = i) := by
  rcases Nat.lt_or_ge j 32 with q | q
  · unfold pb_one
    rw [b_shl i hi 1 q, b_1]
    rcases Nat.lt_or_ge j i with r | r
    · simp [Nat.not_le.mpr r, Nat.ne_of_lt r]
    · rcases Nat.eq_or_lt_of_le r with t | t
      · simp [t]
      · simp [r, Nat.sub_ne_zero_of_lt t, Nat.ne_of_gt t]
  · rw [b_big q, decide_eq_false (by omega)]
theorem pb_bit (x : Int32) {i : Nat} (hi : i < 32) : (x >>> (nI i &&& 31)) &&& 1 = if bt x i = true then 1 else 0 := by
  apply b_ext
  intro j hj
  rw [b_and, b_1, b_sshr i hi x hj]
  rcases Nat.eq_zero_or_pos j with q | q
  · subst q
    rw [Nat.add_zero, if_pos hi]
    cases bt x i
    · rw [Bool.false_and, if_neg (by decide), b_0]
    · rw [if_pos rfl, b_1]; rfl
  · rw [decide_eq_false (by omega), Bool.and_false]
    split
    · rw [b_1, decide_eq_false (by omega)]
    · rw [b_0]
theorem pb_ushr_one {x : Int32} {w i : Nat} (hw : w < 32) (hx : ∀ j, bt x j = decide (j = w)) (hi : i ≤ w) : (x.toUInt32 >>> ((nI i).toUInt32 &&& Int32.toUInt32 31)).toInt32 = 1 ↔ i = w := by
  constructor
  · intro h
    have h1 := b_ushr i (by omega) x (w - i)
    rw [h, b_1, hx, show i + (w - i) = w by omega] at h1
    have h2 : w - i = 0 := by simpa using h1
    omega
  · rintro rfl
    apply b_ext
    intro j hj
    rw [b_ushr i hw x j, b_1, hx]
    congr 1
    simp
theorem pb_of_one {x : Int32} {w : Nat} (hw : w < 32) (hx : ∀ j, bt x j = decide (j = w)) : x = pb_one w := b_ext (fun i _ => by rw [hx, pb_one_bt hw])
theorem pb_pop_one {x : Int32} (h : pb_pop x = 1) : ∃ w, w < 32 ∧ ∀ j, bt x j = decide (j = w) := by
  obtain ⟨w, h1, h2, h3⟩ := pb_cnt_one h
  refine ⟨w, h1, fun j => ?_⟩
  cases hb : bt x j with
  | true => rw [decide_eq_true (h3 j (b_lt hb) hb)]
  | false =>
    rw [decide_eq_false]
    rintro rfl
    rw [h2] at hb
    cases hb
/-! what is left of a set -/
def pb_left (S h : Int32) : Int32 := S &&& (h ^^^ (-1))
theorem pb_left_bt (S h : Int32) (i : Nat) : bt (pb_left S h) i = (bt S i && !bt h i) := by
  unfold pb_left
  rw [b_and]
  rcases Nat.lt_or_ge i 32 with q | q
  · rw [b_not h q]
  · rw [b_big q, Bool.false_and, Bool.false_and]
end
section
/-! the generator: full period, so every word is drawn sooner or later -/
def lc_nx (s : Int32) : Int32 := s * 1664525 + 1013904223
def lc_hi (s : Int32) : Nat := s.toBitVec.toNat / 65536
theorem lc_hi_lt (s : Int32) : lc_hi s < 65536 := by
  have := s.toBitVec.isLt
  unfold lc_hi
  omega
theorem lc_hi_eq (s : Int32) : (s.toUInt32 >>> ((16 : Int32).toUInt32 &&& Int32.toUInt32 31)).toInt32 = nI (lc_hi s) := by
  have h := pk_ushr s 16 16 (by decide)
  apply Int32.toBitVec_inj.mp
  apply BitVec.eq_of_toNat_eq
  rw [h, pk_tn (by have := lc_hi_lt s; omega)]
  rfl
def lc_st (s : Int32) : Nat → Int32
  | 0 => s
  | n + 1 => lc_nx (lc_st s n)
theorem lc_st_shift (s : Int32) (n : Nat) : lc_st (lc_nx s) n = lc_st s (n + 1) := by
  induction n with
  | zero => simp only [lc_st]
  | succ n ih =>
    show lc_nx (lc_st (lc_nx s) n) = lc_nx (lc_st s (n + 1))
    rw [ih]
def lc_g : Nat → Nat → Nat
  | 0, x => x
  | n + 1, x => 1664525 * lc_g n x + 1013904223
theorem lc_g_add (a b x : Nat) : lc_g (a + b) x = lc_g a (lc_g b x) := by
  induction a with
  | zero => rw [Nat.zero_add]; rfl
  | succ a ih =>
    rw [show a + 1 + b = (a + b) + 1 by omega]
    show 1664525 * lc_g (a + b) x + 1013904223 = 1664525 * lc_g a (lc_g b x) + 1013904223
    rw [ih]
theorem lc_nx_nat (s : Int32) : (lc_nx s).toBitVec.toNat = (1664525 * s.toBitVec.toNat + 1013904223) % 2 ^ 32 := by
  unfold lc_nx
  rw [Int32.toBitVec_add, Int32.toBitVec_mul, BitVec.toNat_add, BitVec.toNat_mul]
  show (s.toBitVec.toNat * 1664525 % 2 ^ 32 + 1013904223) % 2 ^ 32 = _
  omega
theorem lc_st_g (s : Int32) (n : Nat) : (lc_st s n).toBitVec.toNat = lc_g n s.toBitVec.toNat % 2 ^ 32 := by
  induction n with
  | zero =>
    show s.toBitVec.toNat = s.toBitVec.toNat % 2 ^ 32
    rw [Nat.mod_eq_of_lt s.toBitVec.isLt]
  | succ n ih =>
    show (lc_nx (lc_st s n)).toBitVec.toNat = (1664525 * lc_g n s.toBitVec.toNat + 1013904223) % 2 ^ 32
    rw [lc_nx_nat, ih]
    omega
theorem lc_pow (m : Nat) : ∃ q r, ∀ x, lc_g (2 ^ m) x = (2 ^ m * 4 * q + 1) * x + 2 ^ m * (2 * r + 1) := by
  induction m with
  | zero =>
    refine ⟨416131, 506952111, fun x => ?_⟩
    show 1664525 * x + 1013904223 = _
    omega
  | succ m ih =>
    obtain ⟨q, r, h⟩ := ih
    refine ⟨2 * 2 ^ m * q * q + q, 2 * 2 ^ m * q * r + 2 ^ m * q + r, fun x => ?_⟩
    rw [Nat.pow_succ, show 2 ^ m * 2 = 2 ^ m + 2 ^ m by omega, lc_g_add, h, h]
    generalize 2 ^ m = P
    grind
theorem lc_reach (m x t : Nat) : ∃ n, lc_g n x % 2 ^ m = t % 2 ^ m := by
  induction m with
  | zero => exact ⟨0, by simp [Nat.mod_one]⟩
  | succ m ih =>
    obtain ⟨n, hn⟩ := ih
    obtain ⟨q, r, h⟩ := lc_pow m
    have hp : 0 < 2 ^ m := Nat.two_pow_pos m
    by_cases hd : lc_g n x / 2 ^ m % 2 = t / 2 ^ m % 2
    · refine ⟨n, ?_⟩
      rw [Nat.pow_succ, Nat.mod_mul, Nat.mod_mul, hn, hd]
    · refine ⟨2 ^ m + n, ?_⟩
      rw [Nat.pow_succ, lc_g_add, h]
      generalize lc_g n x = y at hn hd ⊢
      generalize 2 ^ m = P at hn hd hp ⊢
      rw [show (P * 4 * q + 1) * y + P * (2 * r + 1) = y + P * (2 * (2 * q * y + r) + 1) by grind]
      rw [Nat.mod_mul, Nat.mod_mul, Nat.add_mul_mod_self_left, Nat.add_mul_div_left _ _ hp, hn]
      generalize y / P = a at hd ⊢
      generalize t / P = b at hd ⊢
      rw [show (a + (2 * (2 * q * y + r) + 1)) % 2 = b % 2 by omega]
theorem lc_hit (s : Int32) {K j : Nat} (hj : j < K) (hK : K ≤ 32) : ∃ n, lc_hi (lc_st s (n + 1)) % K = j := by
  obtain ⟨n, hn⟩ := lc_reach 32 (lc_nx s).toBitVec.toNat (j * 65536)
  refine ⟨n, ?_⟩
  rw [← lc_st_shift]
  unfold lc_hi
  rw [lc_st_g, hn, Nat.mod_eq_of_lt (show j * 65536 < 2 ^ 32 by omega), Nat.mul_div_cancel _ (by omega), Nat.mod_eq_of_lt hj]
/-! the set that is drawn -/
def lc_ix (K : Nat) (s : Int32) (n : Nat) : Nat := lc_hi (lc_st s (n + 1)) % K
def lc_mask (K : Nat) (s : Int32) : Nat → Int32
  | 0 => 0
  | n + 1 => lc_mask K s n ||| pb_one (lc_ix K s n)
theorem lc_ix_lt {K : Nat} (h0 : 0 < K) (s : Int32) (n : Nat) : lc_ix K s n < K := Nat.mod_lt _ h0
theorem lc_mask_bt {K : Nat} (h0 : 0 < K) (hK : K ≤ 32) (s : Int32) (n i : Nat) : bt (lc_mask K s (n + 1)) i = (bt (lc_mask K s n) i || decide (i = lc_ix K s n)) := by
  show bt (lc_mask K s n ||| pb_one (lc_ix K s n)) i = _
  rw [b_or, pb_one_bt (Nat.lt_of_lt_of_le (lc_ix_lt h0 s n) hK)]
theorem lc_mask_up {K : Nat} (s : Int32) (a b i : Nat) (h : bt (lc_mask K s a) i = true) : bt (lc_mask K s (a + b)) i = true := by
  induction b with
  | zero => exact h
  | succ b ih =>
    show bt (lc_mask K s (a + b) ||| pb_one (lc_ix K s (a + b))) i = true
    rw [b_or, ih, Bool.true_or]
theorem lc_mask_in {K : Nat} (h0 : 0 < K) (hK : K ≤ 32) (s : Int32) (n i : Nat) (h : bt (lc_mask K s n) i = true) : i < K := by
  induction n with
  | zero =>
    have h : bt 0 i = true := h
    rw [b_0] at h
    cases h
  | succ n ih =>
    rw [lc_mask_bt h0 hK] at h
    rcases Bool.or_eq_true_iff.mp h with h | h
    · exact ih h
    · rw [of_decide_eq_true h]
      exact lc_ix_lt h0 s n
theorem lc_mask_all {K : Nat} (h0 : 0 < K) (hK : K ≤ 32) (s : Int32) (i : Nat) (hi : i ≤ K) : ∃ N, ∀ j, j < i → bt (lc_mask K s N) j = true := by
  induction i with
  | zero => exact ⟨0, fun j h => absurd h (Nat.not_lt_zero j)⟩
  | succ i ih =>
    obtain ⟨N, hN⟩ := ih (by omega)
    obtain ⟨n, hn⟩ := lc_hit s (K := K) (j := i) (by omega) hK
    refine ⟨N + (n + 1), fun j hj => ?_⟩
    rcases Nat.lt_or_ge j i with q | q
    · exact lc_mask_up s N (n + 1) j (hN j q)
    · have e : j = i := by omega
      subst e
      rw [Nat.add_comm]
      apply lc_mask_up
      rw [lc_mask_bt h0 hK, show lc_ix K s n = j from hn, decide_eq_true rfl, Bool.or_true]
theorem lc_mask_full {K : Nat} (h0 : 0 < K) (hK : K ≤ 32) (s : Int32) {d : Nat} (hd : d ≤ K) : ∃ N, d ≤ pb_pop (lc_mask K s N) := by
  obtain ⟨N, hN⟩ := lc_mask_all h0 hK s K (Nat.le_refl K)
  refine ⟨N, ?_⟩
  unfold pb_pop
  rw [pb_cnt_cut hK (fun i h1 _ => by
    cases h : bt (lc_mask K s N) i with
    | false => rfl
    | true => exact absurd (lc_mask_in h0 hK s N i h) (by omega)), pb_cnt_all hN]
  exact hd
theorem lc_pop_step {K : Nat} (h0 : 0 < K) (hK : K ≤ 32) (s : Int32) (n : Nat) : pb_pop (lc_mask K s (n + 1)) = pb_pop (lc_mask K s n) + (if bt (lc_mask K s n) (lc_ix K s n) = true then 0 else 1) := by
  unfold pb_pop
  cases h : bt (lc_mask K s n) (lc_ix K s n) with
  | true =>
    rw [if_pos rfl, Nat.add_zero]
    refine pb_cnt_ext (f := bt (lc_mask K s (n + 1))) (g := bt (lc_mask K s n)) (fun i _ => ?_)
    rw [lc_mask_bt h0 hK]
    by_cases e : i = lc_ix K s n
    · rw [e, h, Bool.true_or]
    · rw [decide_eq_false e, Bool.or_false]
  | false =>
    rw [if_neg (by decide)]
    refine pb_cnt_set (f := bt (lc_mask K s n)) (g := bt (lc_mask K s (n + 1))) (j := lc_ix K s n) (Nat.lt_of_lt_of_le (lc_ix_lt h0 s n) hK) h ?_ (fun i _ hne => ?_)
    · rw [lc_mask_bt h0 hK, decide_eq_true rfl, Bool.or_true]
    · rw [lc_mask_bt h0 hK, decide_eq_false hne, Bool.or_false]
noncomputable def lc_N (K d : Nat) (s : Int32) : Nat := by
  classical
  exact if h : ∃ n, d ≤ pb_pop (lc_mask K s n) then Classical.choose (pk_least _ h) else 0
theorem lc_N_spec {K : Nat} (h0 : 0 < K) (hK : K ≤ 32) (s : Int32) {d : Nat} (hd : d ≤ K) : d ≤ pb_pop (lc_mask K s (lc_N K d s)) ∧ ∀ j, j < lc_N K d s → pb_pop (lc_mask K s j) < d := by
  have h := lc_mask_full h0 hK s hd
  unfold lc_N
  rw [dif_pos h]
  have hs := Classical.choose_spec (pk_least _ h)
  exact ⟨hs.1, fun j hj => Nat.not_le.mp (hs.2 j hj)⟩
theorem lc_N_pop {K : Nat} (h0 : 0 < K) (hK : K ≤ 32) (s : Int32) {d : Nat} (hd : d ≤ K) : pb_pop (lc_mask K s (lc_N K d s)) = d := by
  obtain ⟨h1, h2⟩ := lc_N_spec h0 hK s hd
  cases hN : lc_N K d s with
  | zero =>
    rw [hN] at h1
    have : pb_pop (lc_mask K s 0) = 0 := pb_pop_zero.mpr rfl
    omega
  | succ N =>
    rw [hN] at h1 h2
    have h3 := h2 N (by omega)
    have h4 := lc_pop_step h0 hK s N
    split at h4 <;> omega
/-! the degree -/
def lc_tb (K : Nat) : Nat → Nat
  | 0 => 0
  | 1 => 65536 / K
  | d + 2 => lc_tb K (d + 1) + 65536 / ((d + 2) * (d + 1))
def lc_go (K r : Nat) : Nat → Nat → Nat
  | 0, d => d
  | f + 1, d => if d < K ∧ ¬ nI r < nI (lc_tb K d) then lc_go K r f (d + 1) else d
def lc_dg (K r : Nat) : Nat := lc_go K r K 1
theorem lc_go_stop {K r d : Nat} (f : Nat) (h : ¬ (d < K ∧ ¬ nI r < nI (lc_tb K d))) : lc_go K r f d = d := by
  cases f with
  | zero => rfl
  | succ f => exact if_neg h
theorem lc_go_next {K r d : Nat} (f : Nat) (h : d < K ∧ ¬ nI r < nI (lc_tb K d)) : lc_go K r (f + 1) d = lc_go K r f (d + 1) := if_pos h
theorem lc_go_in {K r : Nat} (f d : Nat) (h : d ≤ K) : d ≤ lc_go K r f d ∧ lc_go K r f d ≤ K := by
  induction f generalizing d with
  | zero => exact ⟨Nat.le_refl _, h⟩
  | succ f ih =>
    by_cases hc : d < K ∧ ¬ nI r < nI (lc_tb K d)
    · rw [lc_go_next f hc]
      have := ih (d + 1) (by omega)
      omega
    · rw [lc_go_stop _ hc]
      exact ⟨Nat.le_refl _, h⟩
theorem lc_dg_in {K : Nat} (h0 : 0 < K) (r : Nat) : 1 ≤ lc_dg K r ∧ lc_dg K r ≤ K := lc_go_in K 1 h0
/-- the set of a seed -/
noncomputable def lc_sm (K : Nat) (seed : Int32) : Int32 := lc_mask K (lc_nx seed) (lc_N K (lc_dg K (lc_hi (lc_nx seed))) (lc_nx seed))
theorem lc_sm_pop {K : Nat} (h0 : 0 < K) (hK : K ≤ 32) (seed : Int32) : pb_pop (lc_sm K seed) = lc_dg K (lc_hi (lc_nx seed)) := lc_N_pop h0 hK _ (lc_dg_in h0 _).2
theorem lc_sm_in {K : Nat} (h0 : 0 < K) (hK : K ≤ 32) (seed : Int32) {i : Nat} (h : bt (lc_sm K seed) i = true) : i < K := lc_mask_in h0 hK _ _ i h
end
section
/-! the decoder in plain numbers: what both classes compute -/
theorem ab_pigeon (n : Nat) : ∀ (t : Nat) (f : Nat → Nat), (∀ p, p < t → f p < n) → (∀ p q, p < t → q < t → f p = f q → p = q) → t ≤ n := by
  induction n with
  | zero =>
    intro t f hf _
    rcases Nat.eq_zero_or_pos t with q | q
    · omega
    · exact absurd (hf 0 q) (Nat.not_lt_zero _)
  | succ n ih =>
    intro t f hf hi
    rcases Nat.eq_zero_or_pos t with q | q
    · omega
    · obtain ⟨k, rfl⟩ : ∃ k, t = k + 1 := ⟨t - 1, by omega⟩
      have h := ih k (fun p => if f p = n then f k else f p) (fun p hp => ?_) (fun a b ha hb hab => ?_)
      · omega
      · show (if f p = n then f k else f p) < n
        have h1 := hf p (by omega)
        have h2 := hf k (by omega)
        split
        · rename_i e
          have : f k ≠ n := fun e2 => by
            have := hi p k (by omega) (by omega) (by omega)
            omega
          omega
        · omega
      · have hab : (if f a = n then f k else f a) = (if f b = n then f k else f b) := hab
        split at hab
        · rename_i e1
          split at hab
          · rename_i e2
            exact hi a b (by omega) (by omega) (by omega)
          · have := hi k b (by omega) (by omega) hab
            omega
        · split at hab
          · have := hi a k (by omega) (by omega) hab
            omega
          · exact hi a b (by omega) (by omega) hab
/-- a drop's word without the known ones of its set -/
def ab_rest (S h v : Int32) (t : Nat → Int32) : Int32 := v ^^^ pb_xr (bt (S &&& h)) t 32
def ab_pq (P : Nat → Bool) (qf : Nat → Nat) (tl : Nat) : Nat → (Nat → Nat) × Nat
  | 0 => (qf, tl)
  | j + 1 => if P j = true then (va_up (ab_pq P qf tl j).1 (ab_pq P qf tl j).2 j, (ab_pq P qf tl j).2 + 1) else ab_pq P qf tl j
theorem ab_pq_t {P : Nat → Bool} {qf : Nat → Nat} {tl j : Nat} (h : P j = true) : ab_pq P qf tl (j + 1) = (va_up (ab_pq P qf tl j).1 (ab_pq P qf tl j).2 j, (ab_pq P qf tl j).2 + 1) := if_pos h
theorem ab_pq_f {P : Nat → Bool} {qf : Nat → Nat} {tl j : Nat} (h : ¬ P j = true) : ab_pq P qf tl (j + 1) = ab_pq P qf tl j := if_neg h
theorem ab_us {α : Type} {f : Nat → α} {k : Nat} {x : α} : va_up f k x k = x := if_pos rfl
theorem ab_un {α : Type} {f : Nat → α} {k j : Nat} {x : α} (h : j ≠ k) : va_up f k x j = f j := if_neg h
/-- who is in the queue from place lo on -/
def ab_in (qf : Nat → Nat) (lo tl m : Nat) : Prop := ∃ p, lo ≤ p ∧ p < tl ∧ qf p = m
theorem ab_pq_spec {P : Nat → Bool} {qf : Nat → Nat} {tl : Nat} (hi : ∀ p q, p < tl → q < tl → qf p = qf q → p = q) (hP : ∀ m, P m = true → ∀ p, p < tl → qf p ≠ m) (j : Nat) :
    tl ≤ (ab_pq P qf tl j).2 ∧ (∀ p, p < tl → (ab_pq P qf tl j).1 p = qf p) ∧ (∀ p, tl ≤ p → p < (ab_pq P qf tl j).2 → (ab_pq P qf tl j).1 p < j ∧ P ((ab_pq P qf tl j).1 p) = true) ∧
    (∀ p q, p < (ab_pq P qf tl j).2 → q < (ab_pq P qf tl j).2 → (ab_pq P qf tl j).1 p = (ab_pq P qf tl j).1 q → p = q) ∧ (∀ m, m < j → P m = true → ab_in (ab_pq P qf tl j).1 tl (ab_pq P qf tl j).2 m) := by
  induction j with
  | zero => exact ⟨Nat.le_refl _, fun _ _ => rfl, fun p h1 h2 => absurd h2 (Nat.not_lt.mpr h1), hi, fun m h => absurd h (Nat.not_lt_zero m)⟩
  | succ j ih =>
    obtain ⟨a, b, c, d, e⟩ := ih
    by_cases hc : P j = true
    · rw [ab_pq_t hc]
      generalize (ab_pq P qf tl j).1 = q1 at a b c d e ⊢
      generalize (ab_pq P qf tl j).2 = t1 at a b c d e ⊢
      dsimp only
      have hne : ∀ p, p < t1 → q1 p ≠ j := by
        intro p hp h
        rcases Nat.lt_or_ge p tl with r | r
        · exact hP j hc p r (by rw [← b p r]; exact h)
        · have := (c p r hp).1
          omega
      refine ⟨by omega, fun p hp => ?_, fun p h1 h2 => ?_, fun p q h1 h2 h3 => ?_, fun m hm hPm => ?_⟩
      · rw [ab_un (by omega)]
        exact b p hp
      · by_cases hp : p = t1
        · rw [hp, ab_us]
          exact ⟨by omega, hc⟩
        · rw [ab_un hp]
          have := c p h1 (by omega)
          exact ⟨by omega, this.2⟩
      · by_cases hp : p = t1
        · by_cases hq : q = t1
          · omega
          · rw [hp, ab_us, ab_un hq] at h3
            exact absurd h3.symm (hne q (by omega))
        · by_cases hq : q = t1
          · rw [hq, ab_us, ab_un hp] at h3
            exact absurd h3 (hne p (by omega))
          · rw [ab_un hp, ab_un hq] at h3
            exact d p q (by omega) (by omega) h3
      · by_cases hmj : m = j
        · exact ⟨t1, a, by omega, by rw [ab_us, hmj]⟩
        · obtain ⟨p, h1, h2, h3⟩ := e m (by omega) hPm
          exact ⟨p, h1, by omega, by rw [ab_un (by omega)]; exact h3⟩
    · rw [ab_pq_f hc]
      refine ⟨a, b, fun p h1 h2 => ?_, d, fun m hm hPm => ?_⟩
      · have := c p h1 h2
        exact ⟨by omega, this.2⟩
      · by_cases hmj : m = j
        · exact absurd (hmj ▸ hPm) hc
        · exact e m (by omega) hPm
theorem ab_in_push {qf : Nat → Nat} {lo tl j m : Nat} (h : lo ≤ tl) : ab_in (va_up qf tl j) lo (tl + 1) m ↔ ab_in qf lo tl m ∨ m = j := by
  constructor
  · rintro ⟨p, h1, h2, h3⟩
    by_cases hp : p = tl
    · rw [hp, ab_us] at h3
      exact Or.inr h3.symm
    · rw [ab_un hp] at h3
      exact Or.inl ⟨p, h1, by omega, h3⟩
  · rintro (⟨p, h1, h2, h3⟩ | rfl)
    · exact ⟨p, h1, by omega, by rw [ab_un (by omega)]; exact h3⟩
    · exact ⟨tl, h, by omega, ab_us⟩
theorem ab_in_pop {qf : Nat → Nat} {hd tl m : Nat} (h : hd < tl) (hi : ∀ p q, p < tl → q < tl → qf p = qf q → p = q) : ab_in qf (hd + 1) tl m ↔ ab_in qf hd tl m ∧ m ≠ qf hd := by
  constructor
  · rintro ⟨p, h1, h2, h3⟩
    exact ⟨⟨p, by omega, h2, h3⟩, fun e => by have := hi p hd h2 h (by rw [h3, e]); omega⟩
  · rintro ⟨⟨p, h1, h2, h3⟩, hne⟩
    refine ⟨p, ?_, h2, h3⟩
    rcases Nat.eq_or_lt_of_le h1 with e | e
    · exact absurd (by rw [← h3, e]) hne
    · omega
/-- the index of a set's only word -/
noncomputable def ab_w (x : Int32) : Nat := by
  classical
  exact if h : ∃ i, bt x i = true then Classical.choose h else 0
theorem ab_w_spec {x : Int32} (h1 : pb_pop x ≤ 1) (h0 : x ≠ 0) : ab_w x < 32 ∧ ∀ j, bt x j = decide (j = ab_w x) := by
  have h2 : pb_pop x ≠ 0 := fun h => h0 (pb_pop_zero.mp h)
  obtain ⟨w, hw, hx⟩ := pb_pop_one (x := x) (by omega)
  have hex : ∃ i, bt x i = true := ⟨w, by rw [hx, decide_eq_true rfl]⟩
  have e : ab_w x = w := by
    unfold ab_w
    rw [dif_pos hex]
    have hs := Classical.choose_spec hex
    rw [hx] at hs
    exact of_decide_eq_true hs
  rw [e]
  exact ⟨hw, hx⟩
def ab_P (S : Nat → Int32) (w : Nat) (h : Int32) (m : Nat) : Bool := bt (S m) w && decide (pb_pop (pb_left (S m) h) = 1)
/-- known words, told words, order, count, clashes, queue, its head, its tail -/
abbrev ab_S : Type := Int32 × (Nat → Int32) × (Nat → Int32) × Nat × Int32 × (Nat → Nat) × Nat × Nat
noncomputable def ab_turn (n : Nat) (S V : Nat → Int32) (a : ab_S) : ab_S := match a with
  | (h, t, o, cn, cl, qf, hd, tl) => if pb_left (S (qf hd)) h = 0 then (h, t, o, cn, if ab_rest (S (qf hd)) h (V (qf hd)) t = 0 then cl else cl + 1, qf, hd + 1, tl)
    else (h ||| pb_left (S (qf hd)) h, upd t (ab_w (pb_left (S (qf hd)) h)) (ab_rest (S (qf hd)) h (V (qf hd)) t), upd o cn (nI (ab_w (pb_left (S (qf hd)) h))), cn + 1, cl, (ab_pq (ab_P S (ab_w (pb_left (S (qf hd)) h)) (h ||| pb_left (S (qf hd)) h)) qf tl n).1, hd + 1, (ab_pq (ab_P S (ab_w (pb_left (S (qf hd)) h)) (h ||| pb_left (S (qf hd)) h)) qf tl n).2)
noncomputable def ab_run (n : Nat) (S V : Nat → Int32) : Nat → ab_S → ab_S
  | 0, a => a
  | f + 1, a => if a.2.2.2.2.2.2.1 < a.2.2.2.2.2.2.2 then ab_run n S V f (ab_turn n S V a) else a
theorem ab_run_stop {n : Nat} {S V : Nat → Int32} {a : ab_S} (f : Nat) (h : ¬ a.2.2.2.2.2.2.1 < a.2.2.2.2.2.2.2) : ab_run n S V f a = a := by
  cases f with
  | zero => rfl
  | succ f => exact if_neg h
theorem ab_run_next {n : Nat} {S V : Nat → Int32} {a : ab_S} (f : Nat) (h : a.2.2.2.2.2.2.1 < a.2.2.2.2.2.2.2) : ab_run n S V (f + 1) a = ab_run n S V f (ab_turn n S V a) := if_pos h
/-- the new drop n - 1 has come -/
def ab_start (n : Nat) (S V : Nat → Int32) (h : Int32) (t o : Nat → Int32) (cn : Nat) (cl : Int32) : ab_S :=
  (h, t, o, cn, if pb_pop (pb_left (S n) h) = 0 ∧ ab_rest (S n) h (V n) t ≠ 0 then cl + 1 else cl, fun _ => n, 0, if pb_pop (pb_left (S n) h) = 1 then 1 else 0)
/-- what holds all along -/
def ab_Inv (K n : Nat) (S : Nat → Int32) (h : Int32) (cn : Nat) (qf : Nat → Nat) (hd tl : Nat) : Prop :=
  (∀ i, bt h i = true → i < K) ∧ cn = pb_pop h ∧ hd ≤ tl ∧ (∀ p, p < tl → qf p < n ∧ pb_pop (pb_left (S (qf p)) h) ≤ 1) ∧ (∀ p q, p < tl → q < tl → qf p = qf q → p = q) ∧ (∀ m, m < n → pb_pop (pb_left (S m) h) = 1 → ab_in qf hd tl m)
theorem ab_Inv.tl {K n : Nat} {S : Nat → Int32} {h : Int32} {cn : Nat} {qf : Nat → Nat} {hd tl : Nat} (I : ab_Inv K n S h cn qf hd tl) : tl ≤ n := ab_pigeon n tl qf (fun p hp => (I.2.2.2.1 p hp).1) I.2.2.2.2.1
/-- a turn by which nothing is learnt -/
theorem ab_Inv.skip {K n : Nat} {S : Nat → Int32} {h : Int32} {cn : Nat} {qf : Nat → Nat} {hd tl : Nat} (I : ab_Inv K n S h cn qf hd tl) (ht : hd < tl) (h0 : pb_left (S (qf hd)) h = 0) : ab_Inv K n S h cn qf (hd + 1) tl := by
  obtain ⟨a, b, c, d, e, f⟩ := I
  refine ⟨a, b, ht, d, e, fun m hm h1 => (ab_in_pop ht e).mpr ⟨f m hm h1, ?_⟩⟩
  rintro rfl
  rw [h0, pb_pop_zero.mpr rfl] at h1
  cases h1
section LEARN
variable {K : Nat} {h x : Int32} {w : Nat} {Sc : Int32}
/-- what learning one word does to the sets: x is what was left of the learner's set -/
theorem ab_or_bt (hx : ∀ j, bt x j = decide (j = w)) (i : Nat) : bt (h ||| x) i = (bt h i || decide (i = w)) := by rw [b_or, hx]
theorem ab_left_new (hx : ∀ j, bt x j = decide (j = w)) (S : Int32) (i : Nat) : bt (pb_left S (h ||| x)) i = (bt (pb_left S h) i && decide (i ≠ w)) := by
  rw [pb_left_bt, pb_left_bt, ab_or_bt hx]
  cases bt S i <;> cases bt h i <;> simp
theorem ab_left_same (hx : ∀ j, bt x j = decide (j = w)) {S : Int32} (hS : bt S w = false) : pb_left S (h ||| x) = pb_left S h := by
  refine b_ext (fun i _ => ?_)
  rw [ab_left_new hx]
  by_cases e : i = w
  · rw [e, pb_left_bt, hS]; rfl
  · simp [e]
theorem ab_left_pop (hx : ∀ j, bt x j = decide (j = w)) (hw : w < 32) (hn : bt h w = false) {S : Int32} (hS : bt S w = true) : pb_pop (pb_left S h) = pb_pop (pb_left S (h ||| x)) + 1 := by
  unfold pb_pop
  refine pb_cnt_set (f := bt (pb_left S (h ||| x))) (g := bt (pb_left S h)) hw ?_ ?_ (fun i _ hne => ?_)
  · rw [ab_left_new hx]; simp
  · rw [pb_left_bt, hS, hn]; rfl
  · rw [ab_left_new hx]; simp [hne]
theorem ab_pop_or (hx : ∀ j, bt x j = decide (j = w)) (hw : w < 32) (hn : bt h w = false) : pb_pop (h ||| x) = pb_pop h + 1 := by
  unfold pb_pop
  refine pb_cnt_set (f := bt h) (g := bt (h ||| x)) hw hn ?_ (fun i _ hne => ?_)
  · rw [ab_or_bt hx]; simp
  · rw [ab_or_bt hx]; simp [hne]
theorem ab_pop_cut (hK : K ≤ 32) (hi : ∀ i, bt h i = true → i < K) : pb_pop h = pb_cnt (bt h) K := pb_cnt_cut hK (fun i h1 _ => by
  cases q : bt h i with
  | false => rfl
  | true => exact absurd (hi i q) (by omega))
theorem ab_cn_lt (hx : ∀ j, bt x j = decide (j = w)) (hw : w < K) (hK : K ≤ 32) (hn : bt h w = false) (hi : ∀ i, bt h i = true → i < K) : pb_pop h < K := by
  have h1 := ab_pop_or (h := h) hx (by omega) hn
  have h2 : pb_pop (h ||| x) = pb_cnt (bt (h ||| x)) K := ab_pop_cut hK (fun i q => by
    rw [ab_or_bt hx] at q
    rcases Bool.or_eq_true_iff.mp q with q | q
    · exact hi i q
    · rw [of_decide_eq_true q]; exact hw)
  have h3 := pb_cnt_le (bt (h ||| x)) K
  omega
theorem ab_rest_new (hx : ∀ j, bt x j = decide (j = w)) (hw : w < 32) (hn : bt h w = false) {S v r : Int32} {t : Nat → Int32} (hS : bt S w = true) : ab_rest S (h ||| x) v (upd t w r) = ab_rest S h v t ^^^ r := by
  unfold ab_rest
  rw [pb_xa]
  congr 1
  have e := pb_xr_set (g := bt (S &&& h)) (g' := bt (S &&& (h ||| x))) (f := t) (f' := upd t w r) (n := 32) (j := w) hw (by rw [b_and, hn, Bool.and_false]) (by rw [b_and, hS, ab_or_bt hx]; simp) (fun i _ hne => by rw [b_and, b_and, ab_or_bt hx]; simp [hne]) (fun i _ hg => pk_un (fun e => by rw [e, b_and, hn, Bool.and_false] at hg; cases hg))
  rw [e, pk_us]
theorem ab_rest_same (hx : ∀ j, bt x j = decide (j = w)) {S v r : Int32} {t : Nat → Int32} (hS : bt S w = false) : ab_rest S (h ||| x) v (upd t w r) = ab_rest S h v t := by
  unfold ab_rest
  congr 1
  refine pb_xr_ext (fun i _ => ?_) (fun i _ hg => pk_un (fun e => ?_))
  · rw [b_and, b_and, ab_or_bt hx]
    by_cases e : i = w
    · rw [e, hS]; rfl
    · simp [e]
  · rw [e, b_and, hS, Bool.false_and] at hg
    cases hg
end LEARN
/-- the learner's word -/
theorem ab_Inv.word {K n : Nat} {S : Nat → Int32} {h : Int32} {cn : Nat} {qf : Nat → Nat} {hd tl : Nat} (I : ab_Inv K n S h cn qf hd tl) (hS : ∀ m, m < n → ∀ i, bt (S m) i = true → i < K) (ht : hd < tl) (h0 : pb_left (S (qf hd)) h ≠ 0) :
    ab_w (pb_left (S (qf hd)) h) < K ∧ (∀ j, bt (pb_left (S (qf hd)) h) j = decide (j = ab_w (pb_left (S (qf hd)) h))) ∧ bt (S (qf hd)) (ab_w (pb_left (S (qf hd)) h)) = true ∧ bt h (ab_w (pb_left (S (qf hd)) h)) = false := by
  obtain ⟨hw, hx⟩ := ab_w_spec (I.2.2.2.1 hd ht).2 h0
  have h1 := hx (ab_w (pb_left (S (qf hd)) h))
  rw [decide_eq_true rfl, pb_left_bt, Bool.and_eq_true, Bool.not_eq_true'] at h1
  exact ⟨hS _ (I.2.2.2.1 hd ht).1 _ h1.1, hx, h1.1, h1.2⟩
/-- who is pushed was not in the queue -/
theorem ab_Inv.fresh {K n : Nat} {S : Nat → Int32} {h x : Int32} {cn w : Nat} {qf : Nat → Nat} {hd tl : Nat} (I : ab_Inv K n S h cn qf hd tl) (hx : ∀ j, bt x j = decide (j = w)) (hw : w < 32) (hn : bt h w = false) : ∀ m, ab_P S w (h ||| x) m = true → ∀ p, p < tl → qf p ≠ m := by
  rintro m hP p hp rfl
  unfold ab_P at hP
  rw [Bool.and_eq_true, decide_eq_true_eq] at hP
  have h1 := ab_left_pop hx hw hn hP.1
  have h2 := (I.2.2.2.1 p hp).2
  omega
theorem ab_Inv.learn {K n : Nat} {S : Nat → Int32} {h x : Int32} {cn w : Nat} {qf : Nat → Nat} {hd tl : Nat} (I : ab_Inv K n S h cn qf hd tl) (ht : hd < tl) (hx : ∀ j, bt x j = decide (j = w)) (hw : w < K) (hK : K ≤ 32) (hn : bt h w = false) (hc : bt (S (qf hd)) w = true) :
    ab_Inv K n S (h ||| x) (cn + 1) (ab_pq (ab_P S w (h ||| x)) qf tl n).1 (hd + 1) (ab_pq (ab_P S w (h ||| x)) qf tl n).2 := by
  have hF := I.fresh hx (by omega) hn
  obtain ⟨a, b, c, d, e, f⟩ := I
  obtain ⟨p1, p2, p3, p4, p5⟩ := ab_pq_spec (P := ab_P S w (h ||| x)) e hF n
  generalize (ab_pq (ab_P S w (h ||| x)) qf tl n).1 = q1 at p1 p2 p3 p4 p5 ⊢
  generalize (ab_pq (ab_P S w (h ||| x)) qf tl n).2 = t1 at p1 p2 p3 p4 p5 ⊢
  refine ⟨fun i hi => ?_, ?_, by omega, fun p hp => ?_, p4, fun m hm h1 => ?_⟩
  · rw [ab_or_bt hx] at hi
    rcases Bool.or_eq_true_iff.mp hi with q | q
    · exact a i q
    · rw [of_decide_eq_true q]; exact hw
  · rw [ab_pop_or hx (by omega) hn, b]
  · rcases Nat.lt_or_ge p tl with q | q
    · rw [p2 p q]
      have h1 := d p q
      refine ⟨h1.1, ?_⟩
      cases hs : bt (S (qf p)) w with
      | true =>
        have := ab_left_pop hx (by omega) hn hs
        omega
      | false =>
        rw [ab_left_same hx hs]
        exact h1.2
    · obtain ⟨g1, g2⟩ := p3 p q hp
      refine ⟨g1, ?_⟩
      unfold ab_P at g2
      rw [Bool.and_eq_true, decide_eq_true_eq] at g2
      omega
  · cases hs : bt (S m) w with
    | true =>
      obtain ⟨p, g1, g2, g3⟩ := p5 m hm (by unfold ab_P; rw [hs, h1]; rfl)
      exact ⟨p, by omega, g2, g3⟩
    | false =>
      rw [ab_left_same hx hs] at h1
      obtain ⟨p, g1, g2, g3⟩ := f m hm h1
      refine ⟨p, ?_, by omega, by rw [p2 p g2]; exact g3⟩
      rcases Nat.eq_or_lt_of_le g1 with q | q
      · rw [← g3, ← q, hc] at hs
        cases hs
      · omega
/-- the start of a receive -/
theorem ab_Inv.start {K n : Nat} {S V : Nat → Int32} {h : Int32} {cn : Nat} (h1 : ∀ i, bt h i = true → i < K) (h2 : cn = pb_pop h) (h3 : ∀ m, m < n → pb_pop (pb_left (S m) h) ≠ 1) : ab_Inv K (n + 1) S h cn (fun _ => n) 0 (if pb_pop (pb_left (S n) h) = 1 then 1 else 0) := by
  refine ⟨h1, h2, Nat.zero_le _, fun p hp => ?_, fun p q hp hq _ => ?_, fun m hm hl => ?_⟩
  · split at hp
    · rename_i e
      exact ⟨Nat.lt_succ_self n, by rw [e]; exact Nat.le_refl _⟩
    · exact absurd hp (Nat.not_lt_zero p)
  · split at hp
    · rename_i e
      rw [if_pos e] at hq
      omega
    · exact absurd hp (Nat.not_lt_zero p)
  · rcases Nat.lt_or_ge m n with q | q
    · exact absurd hl (h3 m q)
    · have e : m = n := by omega
      subst e
      exact ⟨0, Nat.le_refl 0, by rw [if_pos hl]; exact Nat.zero_lt_one, rfl⟩
end
section
/-! the two objects as worlds: (int fields .., arrays ..) -/
abbrev x_S : Type := Int32 × Int32 × Int32 × Int32 × Int32 × Int32 × Int32 × Int32 × (Nat → Int32) × (Nat → Int32) × (Nat → Int32) × (Nat → Int32) × (Nat → Int32) × (Nat → Int32) × (Nat → Int32) × (Nat → Int32)
abbrev Xw (cI cZ : ClassId) (ad : Nat → Nat) (u : x_S) : va_W := match u with
  | (k, dr, he, ta, ha, co, cl, st, row, tb, le, re, wa, qu, wo, od) => [(ad 0, .inr (0, [.ref (ad 1), .ref (ad 2), .int k, .ref (ad 3), .ref (ad 4), .ref (ad 5), .int dr, .ref (ad 6), .int he, .int ta, .ref (ad 7), .ref (ad 8), .int ha, .int co, .int cl, .int st])), (ad 1, .inl (cI, 32, .inl row)), (ad 2, .inl (cI, 33, .inl tb)), (ad 3, .inl (cI, 60, .inl le)), (ad 4, .inl (cI, 60, .inl re)), (ad 5, .inl (cZ, 60, .inl wa)), (ad 6, .inl (cI, 64, .inl qu)), (ad 7, .inl (cI, 32, .inl wo)), (ad 8, .inl (cI, 32, .inl od))]
abbrev m_S : Type := Int32 × Int32 × Int32 × Int32 × Int32 × Int32 × (Nat → Int32) × (Nat → Int32) × (Nat → Int32) × (Nat → Int32) × (Nat → Int32) × (Nat → Int32) × (Nat → Int32) × (Nat → Int32)
abbrev Mw (cI cZ : ClassId) (am : Nat → Nat) (u : m_S) : va_W := match u with
  | (wd, ca, tu, fo, cl, st, row, se, va, wa, kn, to, od, inn) => [(am 0, .inr (1, [.int wd, .ref (am 1), .int ca, .ref (am 2), .ref (am 3), .ref (am 4), .int tu, .ref (am 5), .ref (am 6), .ref (am 7), .int fo, .int cl, .ref (am 8), .int st])), (am 1, .inl (cI, 32, .inl row)), (am 2, .inl (cI, 60, .inl se)), (am 3, .inl (cI, 60, .inl va)), (am 4, .inl (cI, 60, .inl wa)), (am 5, .inl (cZ, 32, .inl kn)), (am 6, .inl (cI, 32, .inl to)), (am 7, .inl (cI, 32, .inl od)), (am 8, .inl (cZ, 32, .inl inn))]
theorem dc_nrm {p : Program} {l : Launch} {e : Env} {R : Room} {s : State} {m : MethodId} {args : Array Value} {below : List Frame} {meth : Method} {c : Code} {H : Heap} {locs : List Loc} {cells slots : Nat} {Q : State → Prop} {pc : Nat} {ls : Array Slot} {rest : List Value} {x y : Int32} (h : x = y)
    (k : W p l e R s m args below meth c H locs cells slots Q (F0 m pc ls (.int y :: rest))) : W p l e R s m args below meth c H locs cells slots Q (F0 m pc ls (.int x :: rest)) := h ▸ k
/-- truth as a number -/
def b2 (b : Bool) : Int32 := if b = true then 1 else 0
theorem zi_le {a b : Nat} (h : nI a ≤ nI b) (ha : a < 2 ^ 31 := by omega) (hb : b < 2 ^ 31 := by omega) : a ≤ b := (nI_leI ha hb).mp h
theorem zi_nle {a b : Nat} (h : ¬ nI a ≤ nI b) (ha : a < 2 ^ 31 := by omega) (hb : b < 2 ^ 31 := by omega) : b < a := Nat.not_le.mp (fun q => h ((nI_leI ha hb).mpr q))
theorem zi_lt {a b : Nat} (h : nI a < nI b) (ha : a < 2 ^ 31 := by omega) (hb : b < 2 ^ 31 := by omega) : a < b := (nI_ltI ha hb).mp h
theorem zi_nlt {a b : Nat} (h : ¬ nI a < nI b) (ha : a < 2 ^ 31 := by omega) (hb : b < 2 ^ 31 := by omega) : b ≤ a := Nat.not_lt.mp (fun q => h ((nI_ltI ha hb).mpr q))
theorem zi_eq {a b : Nat} (h : nI a = nI b) (ha : a < 2 ^ 31 := by omega) (hb : b < 2 ^ 31 := by omega) : a = b := (nI_eq ha hb).mp h
theorem zi_ne {a b : Nat} (h : ¬ nI a = nI b) : a ≠ b := fun q => h (by rw [q])
theorem zi_m1 {a : Nat} (ha : a < 2 ^ 31) : nI a ≠ -1 := by
  intro h
  have h1 := nI_toInt ha
  rw [h] at h1
  have h2 : (-1 : Int32).toInt = -1 := by decide
  omega
end
section
set_option maxHeartbeats 4000000 in
set_option maxRecDepth 100000 in
/-- how many bits -/
theorem c_X_bits (l : Launch) (D : va_G) (cI cZ : ClassId) (v : Int32) : CtI l y_X_bits b_X_bits 3 .int 0 D [(cI, .int), (cZ, .boolean)] [.int v] ([]) (fun r (u : Unit) => r = nI (pb_pop v)) (fun u => []) := by
  refine CtI.of (by decide) (Nat.le_of_ble_eq_true rfl) ?_
  intro p e s m args below meth c A Q S hK hP hD hA hS hret ls hl
  have S : CallFix p m c b_X_bits 3 s args gw_tbl R_X := S
  have hx := S.1
  have hb := S.2.1
  have hl : lv_has ls 3 [(0, .int v)] := hl
  refine lv_iconst (v := 0) hx hb d_X_bits_0 (by decide) ?_
  refine lv_istore_n (lv' := [(1, .int 0), (0, .int v)]) hx hb d_X_bits_1 rfl hl (by decide) rfl (fun ls hl => ?_)
  refine lv_iload_n hx hb d_X_bits_2 rfl (lv_at hl 1 rfl) ?_
  refine lv_istore_n (lv' := [(2, .int v), (1, .int 0), (0, .int v)]) hx hb d_X_bits_3 rfl hl (by decide) rfl (fun ls hl => ?_)
  have loop : ∀ (f : Nat) (x : Int32) (j : Nat), pb_pop x < f → j + pb_pop x = pb_pop v → ∀ ls : Array Slot, lv_has ls 3 [(2, .int x), (1, .int (nI j)), (0, .int v)] → W p l e (rmD 0 0 0) s m args below meth c s.heap [] 0 0 Q (F0 m 4 ls []) := by
    intro f
    induction f with
    | zero => intro x j h; exact absurd h (Nat.not_lt_zero _)
    | succ f ih =>
      intro x j hf hj ls hl
      refine lv_iload_n hx hb d_X_bits_4 rfl (lv_at hl 0 rfl) ?_
      refine lv_if_eq (tgt := 20) hx hb d_X_bits_5 (by decide) (fun hc => ?_) (fun hc => ?_)
      · have e0 : pb_pop x = 0 := pb_pop_zero.mpr hc
        refine lv_iload_n hx hb d_X_bits_20 rfl (lv_at hl 1 rfl) ?_
        exact hret _ _ _ _ _ (()) d_X_bits_21 rfl (by rw [show j = pb_pop v by omega]) hP hD hS
      · have e1 := pb_low hc
        refine lv_iinc (v := nI (j + 1)) (lv' := [(1, .int (nI (j + 1))), (2, .int x), (0, .int v)]) hx hb d_X_bits_8 hl (k := 1) rfl (nI_1 _) (by decide) rfl (fun ls hl => ?_)
        refine lv_iload_n hx hb d_X_bits_11 rfl (lv_at hl 1 rfl) ?_
        refine lv_iload_n hx hb d_X_bits_12 rfl (lv_at hl 1 rfl) ?_
        refine lv_iconst (v := 1) hx hb d_X_bits_13 (by decide) ?_
        refine lv_isub hx hb d_X_bits_14 ?_
        refine lv_iand hx hb d_X_bits_15 ?_
        refine lv_istore_n (lv' := [(2, .int (x &&& (x - 1))), (1, .int (nI (j + 1))), (0, .int v)]) hx hb d_X_bits_16 rfl hl (by decide) rfl (fun ls hl => ?_)
        refine lv_goto (tgt := 4) hx hb d_X_bits_17 (by decide) ?_
        exact ih _ _ (by omega) (by omega) ls (lv_sub hl [0, 1, 2] rfl)
  exact loop (pb_pop v + 1) v 0 (by omega) (by omega) ls hl
set_option maxHeartbeats 4000000 in
set_option maxRecDepth 100000 in
/-- one step of the generator -/
theorem c_X_draw (l : Launch) (D : va_G) (cI cZ : ClassId) (ad : Nat → Nat) (k dr he ta ha co cl st : Int32) (row tb le re wa qu wo od : Nat → Int32) : CtI l y_X_draw b_X_draw 1 .int 0 D [(cI, .int), (cZ, .boolean)] [.ref (ad 0)] (Xw cI cZ ad (k, dr, he, ta, ha, co, cl, st, row, tb, le, re, wa, qu, wo, od)) (fun r (u : Unit) => r = nI (lc_hi (lc_nx st))) (fun u => Xw cI cZ ad (k, dr, he, ta, ha, co, cl, lc_nx st, row, tb, le, re, wa, qu, wo, od)) := by
  refine CtI.of (by decide) (Nat.le_of_ble_eq_true rfl) ?_
  intro p e s m args below meth c A Q S hK hP hD hA hS hret ls hl
  have S : CallFix p m c b_X_draw 1 s args gw_tbl R_X := S
  have hx := S.1
  have hb := S.2.1
  have hl : lv_has ls 1 [(0, .ref (ad 0))] := hl
  refine lv_aload_n hx hb d_X_draw_0 rfl (lv_at hl 0 rfl) ?_
  refine lv_aload_n hx hb d_X_draw_1 rfl (lv_at hl 0 rfl) ?_
  refine dc_get_X S hK hP 0 rfl fl_X_40 rfl d_X_draw_2 ?_
  refine dc_ldc S kc_X_43 d_X_draw_5 ?_
  refine lv_imul hx hb d_X_draw_7 ?_
  refine dc_ldc S kc_X_44 d_X_draw_8 ?_
  refine lv_iadd hx hb d_X_draw_10 ?_
  refine dc_nrm (y := lc_nx st) (rfl) ?_
  refine dc_put_X S hK hP hD hS 0 rfl fl_X_40 (Nat.le_of_ble_eq_true rfl) d_X_draw_11 (fun H locs (hP : va_P D classes (Xw cI cZ ad (k, dr, he, ta, ha, co, cl, lc_nx st, row, tb, le, re, wa, qu, wo, od)) H) (hD : va_D A (Xw cI cZ ad (k, dr, he, ta, ha, co, cl, lc_nx st, row, tb, le, re, wa, qu, wo, od))) hS => ?_)
  refine lv_aload_n hx hb d_X_draw_14 rfl (lv_at hl 0 rfl) ?_
  refine dc_get_X S hK hP 0 rfl fl_X_40 rfl d_X_draw_15 ?_
  refine lv_bipush (v := 16) hx hb d_X_draw_18 (by decide) ?_
  refine lv_iushr (v := nI (lc_hi (lc_nx st))) hx hb d_X_draw_20 (lc_hi_eq _) ?_
  exact hret _ _ _ _ _ (()) d_X_draw_21 rfl (rfl) hP hD hS
set_option maxHeartbeats 4000000 in
set_option maxRecDepth 100000 in
/-- one step of the generator -/
theorem c_M_drawn (l : Launch) (D : va_G) (cI cZ : ClassId) (am : Nat → Nat) (wd ca tu fo cl st : Int32) (row se va wa kn to od inn : Nat → Int32) : CtI l y_M_drawn b_M_drawn 1 .int 0 D [(cI, .int), (cZ, .boolean)] [.ref (am 0)] (Mw cI cZ am (wd, ca, tu, fo, cl, st, row, se, va, wa, kn, to, od, inn)) (fun r (u : Unit) => r = nI (lc_hi (lc_nx st))) (fun u => Mw cI cZ am (wd, ca, tu, fo, cl, lc_nx st, row, se, va, wa, kn, to, od, inn)) := by
  refine CtI.of (by decide) (Nat.le_of_ble_eq_true rfl) ?_
  intro p e s m args below meth c A Q S hK hP hD hA hS hret ls hl
  have S : CallFix p m c b_M_drawn 1 s args gw_tbl R_M := S
  have hx := S.1
  have hb := S.2.1
  have hl : lv_has ls 1 [(0, .ref (am 0))] := hl
  refine lv_aload_n hx hb d_M_drawn_0 rfl (lv_at hl 0 rfl) ?_
  refine lv_aload_n hx hb d_M_drawn_1 rfl (lv_at hl 0 rfl) ?_
  refine dc_get_M S hK hP 0 rfl fl_M_39 rfl d_M_drawn_2 ?_
  refine dc_ldc S kc_M_42 d_M_drawn_5 ?_
  refine lv_imul hx hb d_M_drawn_7 ?_
  refine dc_ldc S kc_M_43 d_M_drawn_8 ?_
  refine lv_iadd hx hb d_M_drawn_10 ?_
  refine dc_nrm (y := lc_nx st) (rfl) ?_
  refine dc_put_M S hK hP hD hS 0 rfl fl_M_39 (Nat.le_of_ble_eq_true rfl) d_M_drawn_11 (fun H locs (hP : va_P D classes (Mw cI cZ am (wd, ca, tu, fo, cl, lc_nx st, row, se, va, wa, kn, to, od, inn)) H) (hD : va_D A (Mw cI cZ am (wd, ca, tu, fo, cl, lc_nx st, row, se, va, wa, kn, to, od, inn))) hS => ?_)
  refine lv_aload_n hx hb d_M_drawn_14 rfl (lv_at hl 0 rfl) ?_
  refine dc_get_M S hK hP 0 rfl fl_M_39 rfl d_M_drawn_15 ?_
  refine lv_bipush (v := 16) hx hb d_M_drawn_18 (by decide) ?_
  refine lv_iushr (v := nI (lc_hi (lc_nx st))) hx hb d_M_drawn_20 (lc_hi_eq _) ?_
  exact hret _ _ _ _ _ (()) d_M_drawn_21 rfl (rfl) hP hD hS
set_option maxHeartbeats 4000000 in
set_option maxRecDepth 100000 in
/-- is it a word -/
theorem c_X_isWord (l : Launch) (D : va_G) (cI cZ : ClassId) (ad : Nat → Nat) (k dr he ta ha co cl st : Int32) (row tb le re wa qu wo od : Nat → Int32) (i : Int32) : CtI l y_X_isWord b_X_isWord 2 .boolean 0 D [(cI, .int), (cZ, .boolean)] [.ref (ad 0), .int i] (Xw cI cZ ad (k, dr, he, ta, ha, co, cl, st, row, tb, le, re, wa, qu, wo, od)) (fun r (u : Unit) => r = if ¬ i < 0 ∧ i < k then 1 else 0) (fun u => Xw cI cZ ad (k, dr, he, ta, ha, co, cl, st, row, tb, le, re, wa, qu, wo, od)) := by
  refine CtI.of (by decide) (Nat.le_of_ble_eq_true rfl) ?_
  intro p e s m args below meth c A Q S hK hP hD hA hS hret ls hl
  have S : CallFix p m c b_X_isWord 2 s args gw_tbl R_X := S
  have hx := S.1
  have hb := S.2.1
  have hl : lv_has ls 2 [(0, .ref (ad 0)), (1, .int i)] := hl
  refine lv_iload_n hx hb d_X_isWord_0 rfl (lv_at hl 1 rfl) ?_
  refine lv_if_lt (tgt := 16) hx hb d_X_isWord_1 (by decide) (fun hc => ?_) (fun hc => ?_)
  · refine lv_iconst (v := 0) hx hb d_X_isWord_16 (by decide) ?_
    exact hret _ _ _ _ _ () d_X_isWord_17 rfl (by rw [if_neg (fun h => h.1 hc)]) hP hD hS
  · refine lv_iload_n hx hb d_X_isWord_4 rfl (lv_at hl 1 rfl) ?_
    refine lv_aload_n hx hb d_X_isWord_5 rfl (lv_at hl 0 rfl) ?_
    refine dc_get_X S hK hP 0 rfl fl_X_35 rfl d_X_isWord_6 ?_
    refine lv_icmp_ge (tgt := 16) hx hb d_X_isWord_9 (by decide) (fun hc2 => ?_) (fun hc2 => ?_)
    · refine lv_iconst (v := 0) hx hb d_X_isWord_16 (by decide) ?_
      exact hret _ _ _ _ _ () d_X_isWord_17 rfl (by rw [if_neg (fun h => absurd h.2 (Int32.not_lt.mpr hc2))]) hP hD hS
    · refine lv_iconst (v := 1) hx hb d_X_isWord_12 (by decide) ?_
      refine lv_goto (tgt := 17) hx hb d_X_isWord_13 (by decide) ?_
      exact hret _ _ _ _ _ () d_X_isWord_17 rfl (by rw [if_pos ⟨hc, Int32.not_le.mp hc2⟩]) hP hD hS
set_option maxHeartbeats 4000000 in
set_option maxRecDepth 100000 in
/-- the xor over a set -/
theorem c_X_xor (l : Launch) (D : va_G) (cI cZ : ClassId) (a : Nat) (f : Nat → Int32) (x : Int32) : CtI l y_X_xor b_X_xor 4 .int 0 D [(cI, .int), (cZ, .boolean)] [.ref a, .int x] ([(a, .inl (cI, 32, .inl f))]) (fun r (u : Unit) => r = pb_xr (bt x) f 32) (fun u => [(a, .inl (cI, 32, .inl f))]) := by
  refine CtI.of (by decide) (Nat.le_of_ble_eq_true rfl) ?_
  intro p e s m args below meth c A Q S hK hP hD hA hS hret ls hl
  have S : CallFix p m c b_X_xor 4 s args gw_tbl R_X := S
  have hx := S.1
  have hb := S.2.1
  have hl : lv_has ls 4 [(0, .ref a), (1, .int x)] := hl
  refine lv_iconst (v := 0) hx hb d_X_xor_0 (by decide) ?_
  refine lv_istore_n (lv' := [(2, .int 0), (0, .ref a), (1, .int x)]) hx hb d_X_xor_1 rfl hl (by decide) rfl (fun ls hl => ?_)
  refine lv_iconst (v := 0) hx hb d_X_xor_2 (by decide) ?_
  refine lv_istore_n (lv' := [(3, .int 0), (2, .int 0), (0, .ref a), (1, .int x)]) hx hb d_X_xor_3 rfl hl (by decide) rfl (fun ls hl => ?_)
  have loop : ∀ (g j : Nat), 32 < j + g → j ≤ 32 → ∀ ls : Array Slot, lv_has ls 4 [(3, .int (nI j)), (2, .int (pb_xr (bt x) f j)), (0, .ref a), (1, .int x)] → W p l e (rmD 0 0 0) s m args below meth c s.heap [] 0 0 Q (F0 m 4 ls []) := by
    intro g
    induction g with
    | zero => intro j h1 h2; exact absurd h1 (by omega)
    | succ g ih =>
      intro j hg hj ls hl
      refine lv_iload_n hx hb d_X_xor_4 rfl (lv_at hl 0 rfl) ?_
      refine lv_bipush (v := 32) hx hb d_X_xor_5 (by decide) ?_
      refine lv_icmp_ge (tgt := 31) hx hb d_X_xor_7 (by decide) (fun hc => ?_) (fun hc => ?_)
      · have e0 : j = 32 := Nat.le_antisymm hj (zi_le (a := 32) (b := j) hc)
        subst e0
        refine lv_iload_n hx hb d_X_xor_31 rfl (lv_at hl 1 rfl) ?_
        exact hret _ _ _ _ _ () d_X_xor_32 rfl rfl hP hD hS
      · have hlt : j < 32 := zi_nle (a := 32) (b := j) hc
        refine lv_iload_n hx hb d_X_xor_10 rfl (lv_at hl 3 rfl) ?_
        refine lv_iload_n hx hb d_X_xor_11 rfl (lv_at hl 0 rfl) ?_
        refine lv_ishr hx hb d_X_xor_12 ?_
        refine lv_iconst (v := 1) hx hb d_X_xor_13 (by decide) ?_
        refine lv_iand hx hb d_X_xor_14 ?_
        refine dc_nrm (y := if bt x j = true then 1 else 0) (pb_bit x hlt) ?_
        refine lv_iconst (v := 1) hx hb d_X_xor_15 (by decide) ?_
        refine lv_icmp_ne (tgt := 25) hx hb d_X_xor_16 (by decide) (fun hc2 => ?_) (fun hc2 => ?_)
        · have e0 : bt x j = false := by
            cases q : bt x j with
            | false => rfl
            | true => exact absurd (if_pos q) hc2
          refine lv_iinc (v := nI (j + 1)) (lv' := [(3, .int (nI (j + 1))), (2, .int (pb_xr (bt x) f j)), (0, .ref a), (1, .int x)]) hx hb d_X_xor_25 hl (k := 0) rfl (nI_1 _) (by decide) rfl (fun ls hl => ?_)
          refine lv_goto (tgt := 4) hx hb d_X_xor_28 (by decide) ?_
          have e1 : pb_xr (bt x) f (j + 1) = (pb_xr (bt x) f j) := by show _ ^^^ (if bt x j = true then f j else 0) = _; rw [e0, if_neg (by decide), pb_x0]
          exact ih (j + 1) (by omega) (by omega) ls (e1 ▸ lv_sub hl [0, 1, 2, 3] rfl)
        · have e0 : bt x j = true := by
            cases q : bt x j with
            | false => rw [q] at hc2; exact absurd hc2 (by decide)
            | true => rfl
          refine lv_iload_n hx hb d_X_xor_19 rfl (lv_at hl 1 rfl) ?_
          refine lv_aload_n hx hb d_X_xor_20 rfl (lv_at hl 2 rfl) ?_
          refine lv_iload_n hx hb d_X_xor_21 rfl (lv_at hl 0 rfl) ?_
          refine dc_ild S hK hP 0 rfl (j := j) (rfl) (hlt) d_X_xor_22 ?_
          refine lv_ixor hx hb d_X_xor_23 ?_
          refine lv_istore_n (lv' := [(2, .int ((pb_xr (bt x) f j) ^^^ (f j))), (3, .int (nI j)), (0, .ref a), (1, .int x)]) hx hb d_X_xor_24 rfl hl (by decide) rfl (fun ls hl => ?_)
          refine lv_iinc (v := nI (j + 1)) (lv' := [(3, .int (nI (j + 1))), (2, .int ((pb_xr (bt x) f j) ^^^ (f j))), (0, .ref a), (1, .int x)]) hx hb d_X_xor_25 hl (k := 1) rfl (nI_1 _) (by decide) rfl (fun ls hl => ?_)
          refine lv_goto (tgt := 4) hx hb d_X_xor_28 (by decide) ?_
          have e1 : pb_xr (bt x) f (j + 1) = ((pb_xr (bt x) f j) ^^^ (f j)) := by show _ ^^^ (if bt x j = true then f j else 0) = _; rw [e0, if_pos rfl]
          exact ih (j + 1) (by omega) (by omega) ls (e1 ▸ lv_sub hl [0, 1, 2, 3] rfl)
  exact loop 33 0 (by omega) (by omega) ls (lv_sub hl [0, 1, 2, 3] rfl)
end
section
set_option maxHeartbeats 4000000 in
set_option maxRecDepth 100000 in
/-- the set of a seed -/
theorem c_X_set (l : Launch) (D : va_G) (cI cZ : ClassId) (ad : Nat → Nat) (dr he ta ha co cl st : Int32) (row tb le re wa qu wo od : Nat → Int32) (seed : Int32) (K : Nat) (h0 : 0 < K) (hK32 : K ≤ 32) (htb : ∀ d, 1 ≤ d → d ≤ K → tb d = nI (lc_tb K d)) : CtI l y_X_set b_X_set 5 .int 1 D [(cI, .int), (cZ, .boolean)] [.ref (ad 0), .int seed] (Xw cI cZ ad (nI K, dr, he, ta, ha, co, cl, st, row, tb, le, re, wa, qu, wo, od)) (fun r (u : Int32) => r = lc_sm K seed) (fun u => Xw cI cZ ad (nI K, dr, he, ta, ha, co, cl, u, row, tb, le, re, wa, qu, wo, od)) := by
  refine CtI.of (by decide) (Nat.le_of_ble_eq_true rfl) ?_
  intro p e s m args below meth c A Q S hK hP hD hA hS hret ls hl
  have S : CallFix p m c b_X_set 5 s args gw_tbl R_X := S
  have hx := S.1
  have hb := S.2.1
  have hl : lv_has ls 5 [(0, .ref (ad 0)), (1, .int seed)] := hl
  refine lv_aload_n hx hb d_X_set_0 rfl (lv_at hl 0 rfl) ?_
  refine lv_iload_n hx hb d_X_set_1 rfl (lv_at hl 1 rfl) ?_
  refine dc_put_X S hK hP hD hS 0 rfl fl_X_40 (Nat.le_of_ble_eq_true rfl) d_X_set_2 (fun H locs (hP : va_P D classes (Xw cI cZ ad (nI K, dr, he, ta, ha, co, cl, seed, row, tb, le, re, wa, qu, wo, od)) H) (hD : va_D A (Xw cI cZ ad (nI K, dr, he, ta, ha, co, cl, seed, row, tb, le, re, wa, qu, wo, od))) hS => ?_)
  refine lv_aload_n hx hb d_X_set_5 rfl (lv_at hl 0 rfl) ?_
  refine dc_callI S ok_X_draw ml_X_45 (c_X_draw l D cI cZ ad (nI K) dr he ta ha co cl seed row tb le re wa qu wo od) (As := []) (rest := []) (wr := []) ⟨Nat.le_of_ble_eq_true rfl, Nat.le_of_ble_eq_true rfl⟩ ⟨Nat.le_of_ble_eq_true rfl, Nat.le_of_ble_eq_true rfl⟩ hK hP hD hS hA [0, 1, 2, 3, 4, 5, 6, 7, 8] [] rfl rfl (by decide) (by decide) (by decide) rfl rfl rfl hl rfl (Nat.le_of_ble_eq_true rfl) d_X_set_6 (fun r0 u H locs hr0 hP hD hS => ?_)
  have hP : va_P D classes (Xw cI cZ ad (nI K, dr, he, ta, ha, co, cl, lc_nx seed, row, tb, le, re, wa, qu, wo, od)) H := hP
  have hD : va_D A (Xw cI cZ ad (nI K, dr, he, ta, ha, co, cl, lc_nx seed, row, tb, le, re, wa, qu, wo, od)) := hD
  subst hr0
  refine lv_istore_n (lv' := [(2, .int (nI (lc_hi (lc_nx seed)))), (0, .ref (ad 0)), (1, .int seed)]) hx hb d_X_set_9 rfl hl (by decide) rfl (fun ls hl => ?_)
  refine lv_iconst (v := 1) hx hb d_X_set_10 (by decide) ?_
  refine lv_istore_n (lv' := [(3, .int 1), (2, .int (nI (lc_hi (lc_nx seed)))), (0, .ref (ad 0)), (1, .int seed)]) hx hb d_X_set_11 rfl hl (by decide) rfl (fun ls hl => ?_)
  generalize hR0 : lc_hi (lc_nx seed) = R0 at hl ⊢
  have hR0lt : R0 < 65536 := by rw [← hR0]; exact lc_hi_lt _
  obtain ⟨dg1, dg2⟩ := lc_dg_in h0 R0
  have exit : ∀ ls : Array Slot, lv_has ls 5 [(3, .int (nI (lc_dg K R0))), (2, .int (nI R0)), (0, .ref (ad 0)), (1, .int seed)] → W p l e (rmD 1 0 0) s m args below meth c H locs 0 0 Q (F0 m 36 ls []) := by
    intro ls hl
    refine lv_iconst (v := 0) hx hb d_X_set_36 (by decide) ?_
    refine lv_istore (lv' := [(4, .int 0), (3, .int (nI (lc_dg K R0))), (2, .int (nI R0)), (0, .ref (ad 0)), (1, .int seed)]) hx hb d_X_set_37 hl (by decide) rfl (fun ls hl => ?_)
    obtain ⟨N1, N2⟩ := lc_N_spec h0 hK32 (lc_nx seed) dg2
    generalize hN : lc_N K (lc_dg K R0) (lc_nx seed) = N at N1 N2
    have loop2 : ∀ (f j : Nat), N < j + f → j ≤ N → ∀ (H : Heap) (locs : List Loc) (ls : Array Slot), va_P D classes (Xw cI cZ ad (nI K, dr, he, ta, ha, co, cl, lc_st (lc_nx seed) j, row, tb, le, re, wa, qu, wo, od)) H → va_D A (Xw cI cZ ad (nI K, dr, he, ta, ha, co, cl, lc_st (lc_nx seed) j, row, tb, le, re, wa, qu, wo, od)) → va_S A s.heap H locs → lv_has ls 5 [(4, .int (lc_mask K (lc_nx seed) j)), (3, .int (nI (lc_dg K R0))), (2, .int (nI R0)), (0, .ref (ad 0)), (1, .int seed)] → W p l e (rmD 1 0 0) s m args below meth c H locs 0 0 Q (F0 m 39 ls []) := by
      intro f
      induction f with
      | zero => intro j h1 h2; exact absurd h1 (by omega)
      | succ f ih =>
        intro j hf hj H locs ls hP hD hS hl
        have hpl := pb_pop_le (lc_mask K (lc_nx seed) j)
        refine lv_iload hx hb d_X_set_39 (lv_at hl 0 rfl) ?_
        refine dc_callS S ok_X_bits ml_X_49 (c_X_bits l D cI cZ (lc_mask K (lc_nx seed) j)) (As := [.int (lc_mask K (lc_nx seed) j)]) (rest := []) (wr := (Xw cI cZ ad (nI K, dr, he, ta, ha, co, cl, lc_st (lc_nx seed) j, row, tb, le, re, wa, qu, wo, od))) ⟨Nat.le_of_ble_eq_true rfl, Nat.le_of_ble_eq_true rfl⟩ ⟨Nat.le_of_ble_eq_true rfl, Nat.le_of_ble_eq_true rfl⟩ hK hP hD hS hA [] [0, 1, 2, 3, 4, 5, 6, 7, 8] rfl rfl (by decide) (by decide) (by decide) rfl hl rfl (Nat.le_of_ble_eq_true rfl) d_X_set_41 (fun rb ub H locs hrb hP hD hS => ?_)
        have hP : va_P D classes (Xw cI cZ ad (nI K, dr, he, ta, ha, co, cl, lc_st (lc_nx seed) j, row, tb, le, re, wa, qu, wo, od)) H := hP
        have hD : va_D A (Xw cI cZ ad (nI K, dr, he, ta, ha, co, cl, lc_st (lc_nx seed) j, row, tb, le, re, wa, qu, wo, od)) := hD
        subst hrb
        refine lv_iload_n hx hb d_X_set_44 rfl (lv_at hl 1 rfl) ?_
        refine lv_icmp_ge (tgt := 67) hx hb d_X_set_45 (by decide) (fun hc => ?_) (fun hc => ?_)
        · have e1 := zi_le hc
          have e2 : j = N := by
            rcases Nat.lt_or_ge j N with q | q
            · have := N2 j q
              omega
            · omega
          subst e2
          refine lv_iload hx hb d_X_set_67 (lv_at hl 0 rfl) ?_
          exact hret _ _ _ _ _ (lc_st (lc_nx seed) j) d_X_set_69 rfl (by unfold lc_sm; rw [hR0, hN]) hP hD hS
        · have e1 := zi_nle hc
          have e2 : j < N := by
            rcases Nat.lt_or_ge j N with q | q
            · exact q
            · have e : j = N := by omega
              subst e
              omega
          refine lv_iload hx hb d_X_set_48 (lv_at hl 0 rfl) ?_
          refine lv_iconst (v := 1) hx hb d_X_set_50 (by decide) ?_
          refine lv_aload_n hx hb d_X_set_51 rfl (lv_at hl 3 rfl) ?_
          refine dc_callI S ok_X_draw ml_X_45 (c_X_draw l D cI cZ ad (nI K) dr he ta ha co cl (lc_st (lc_nx seed) j) row tb le re wa qu wo od) (As := []) (rest := [.int 1, .int (lc_mask K (lc_nx seed) j)]) (wr := []) ⟨Nat.le_of_ble_eq_true rfl, Nat.le_of_ble_eq_true rfl⟩ ⟨Nat.le_of_ble_eq_true rfl, Nat.le_of_ble_eq_true rfl⟩ hK hP hD hS hA [0, 1, 2, 3, 4, 5, 6, 7, 8] [] rfl rfl (by decide) (by decide) (by decide) rfl rfl rfl hl rfl (Nat.le_of_ble_eq_true rfl) d_X_set_52 (fun r1 u H locs hr1 hP hD hS => ?_)
          have hP : va_P D classes (Xw cI cZ ad (nI K, dr, he, ta, ha, co, cl, lc_st (lc_nx seed) (j + 1), row, tb, le, re, wa, qu, wo, od)) H := hP
          have hD : va_D A (Xw cI cZ ad (nI K, dr, he, ta, ha, co, cl, lc_st (lc_nx seed) (j + 1), row, tb, le, re, wa, qu, wo, od)) := hD
          subst hr1
          refine lv_aload_n hx hb d_X_set_55 rfl (lv_at hl 3 rfl) ?_
          refine dc_get_X S hK hP 0 rfl fl_X_35 rfl d_X_set_56 ?_
          refine lv_irem hx hb d_X_set_59 (nI_ne0 h0 (by omega)) ?_
          have hh := lc_hi_lt (lc_st (lc_nx seed) (j + 1))
          refine dc_nrm (y := nI (lc_ix K (lc_nx seed) j)) (pk_rem (a := lc_hi (lc_st (lc_nx seed) (j + 1))) (by omega) h0 (by omega)) ?_
          refine lv_ishl hx hb d_X_set_60 ?_
          refine lv_ior hx hb d_X_set_61 ?_
          refine dc_nrm (y := lc_mask K (lc_nx seed) (j + 1)) (rfl) ?_
          refine lv_istore (lv' := [(4, .int (lc_mask K (lc_nx seed) (j + 1))), (3, .int (nI (lc_dg K R0))), (2, .int (nI R0)), (0, .ref (ad 0)), (1, .int seed)]) hx hb d_X_set_62 hl (by decide) rfl (fun ls hl => ?_)
          refine lv_goto (tgt := 39) hx hb d_X_set_64 (by decide) ?_
          exact ih (j + 1) (by omega) (by omega) _ _ ls hP hD hS (lv_sub hl [0, 1, 2, 3, 4] rfl)
    exact loop2 (N + 1) 0 (by omega) (by omega) _ _ ls hP hD hS hl
  have loop1 : ∀ (f d : Nat), K < d + f → 1 ≤ d → d ≤ K → lc_go K R0 f d = lc_dg K R0 → ∀ ls : Array Slot, lv_has ls 5 [(3, .int (nI d)), (2, .int (nI R0)), (0, .ref (ad 0)), (1, .int seed)] → W p l e (rmD 1 0 0) s m args below meth c H locs 0 0 Q (F0 m 12 ls []) := by
    intro f
    induction f with
    | zero => intro d h1 h2 h3; exact absurd h1 (by omega)
    | succ f ih =>
      intro d hf hd1 hdK hgo ls hl
      refine lv_iload_n hx hb d_X_set_12 rfl (lv_at hl 0 rfl) ?_
      refine lv_aload_n hx hb d_X_set_13 rfl (lv_at hl 2 rfl) ?_
      refine dc_get_X S hK hP 0 rfl fl_X_35 rfl d_X_set_14 ?_
      refine lv_icmp_ge (tgt := 36) hx hb d_X_set_17 (by decide) (fun hc => ?_) (fun hc => ?_)
      · have e1 := zi_le hc
        rw [lc_go_stop _ (fun q => by omega)] at hgo
        exact exit ls (hgo ▸ hl)
      · have e1 := zi_nle hc
        refine lv_iload_n hx hb d_X_set_20 rfl (lv_at hl 1 rfl) ?_
        refine lv_aload_n hx hb d_X_set_21 rfl (lv_at hl 2 rfl) ?_
        refine dc_get_X S hK hP 0 rfl fl_X_13 rfl d_X_set_22 ?_
        refine lv_iload_n hx hb d_X_set_25 rfl (lv_at hl 0 rfl) ?_
        refine dc_ild S hK hP 2 rfl (j := d) (rfl) (by omega) d_X_set_26 ?_
        refine dc_nrm (y := nI (lc_tb K d)) (htb d hd1 hdK) ?_
        refine lv_icmp_lt (tgt := 36) hx hb d_X_set_27 (by decide) (fun hc2 => ?_) (fun hc2 => ?_)
        · rw [lc_go_stop _ (fun q => q.2 hc2)] at hgo
          exact exit ls (hgo ▸ hl)
        · rw [lc_go_next _ ⟨e1, hc2⟩] at hgo
          refine lv_iinc (v := nI (d + 1)) (lv' := [(3, .int (nI (d + 1))), (2, .int (nI R0)), (0, .ref (ad 0)), (1, .int seed)]) hx hb d_X_set_30 hl (k := 0) rfl (nI_1 _) (by decide) rfl (fun ls hl => ?_)
          refine lv_goto (tgt := 12) hx hb d_X_set_33 (by decide) ?_
          exact ih (d + 1) (by omega) (by omega) (by omega) hgo ls hl
  exact loop1 K 1 (by omega) (by omega) (by omega) rfl ls hl
end
section
set_option maxHeartbeats 4000000 in
set_option maxRecDepth 100000 in
theorem c_X_degree (l : Launch) (D : va_G) (cI cZ : ClassId) (ad : Nat → Nat) (dr he ta ha co cl st : Int32) (row tb le re wa qu wo od : Nat → Int32) (seed : Int32) (K : Nat) (h0 : 0 < K) (hK32 : K ≤ 32) (htb : ∀ d, 1 ≤ d → d ≤ K → tb d = nI (lc_tb K d)) : CtI l y_X_degree b_X_degree 2 .int 2 D [(cI, .int), (cZ, .boolean)] [.ref (ad 0), .int seed] (Xw cI cZ ad (nI K, dr, he, ta, ha, co, cl, st, row, tb, le, re, wa, qu, wo, od)) (fun r (u : Int32) => r = nI (lc_dg K (lc_hi (lc_nx seed)))) (fun u => Xw cI cZ ad (nI K, dr, he, ta, ha, co, cl, u, row, tb, le, re, wa, qu, wo, od)) := by
  refine CtI.of (by decide) (Nat.le_of_ble_eq_true rfl) ?_
  intro p e s m args below meth c A Q S hK hP hD hA hS hret ls hl
  have S : CallFix p m c b_X_degree 2 s args gw_tbl R_X := S
  have hx := S.1
  have hb := S.2.1
  have hl : lv_has ls 2 [(0, .ref (ad 0)), (1, .int seed)] := hl
  refine lv_aload_n hx hb d_X_degree_0 rfl (lv_at hl 0 rfl) ?_
  refine lv_iload_n hx hb d_X_degree_1 rfl (lv_at hl 1 rfl) ?_
  refine dc_callI S ok_X_set ml_X_53 (c_X_set l D cI cZ ad dr he ta ha co cl st row tb le re wa qu wo od seed K h0 hK32 htb) (As := [.int seed]) (rest := []) (wr := []) ⟨Nat.le_of_ble_eq_true rfl, Nat.le_of_ble_eq_true rfl⟩ ⟨Nat.le_of_ble_eq_true rfl, Nat.le_of_ble_eq_true rfl⟩ hK hP hD hS hA [0, 1, 2, 3, 4, 5, 6, 7, 8] [] rfl rfl (by decide) (by decide) (by decide) rfl rfl rfl hl rfl (Nat.le_of_ble_eq_true rfl) d_X_degree_2 (fun rs us H locs hrs hP hD hS => ?_)
  have hP : va_P D classes (Xw cI cZ ad (nI K, dr, he, ta, ha, co, cl, us, row, tb, le, re, wa, qu, wo, od)) H := hP
  have hD : va_D A (Xw cI cZ ad (nI K, dr, he, ta, ha, co, cl, us, row, tb, le, re, wa, qu, wo, od)) := hD
  subst hrs
  refine dc_callS S ok_X_bits ml_X_49 (c_X_bits l D cI cZ (lc_sm K seed)) (As := [.int (lc_sm K seed)]) (rest := []) (wr := (Xw cI cZ ad (nI K, dr, he, ta, ha, co, cl, us, row, tb, le, re, wa, qu, wo, od))) ⟨Nat.le_of_ble_eq_true rfl, Nat.le_of_ble_eq_true rfl⟩ ⟨Nat.le_of_ble_eq_true rfl, Nat.le_of_ble_eq_true rfl⟩ hK hP hD hS hA [] [0, 1, 2, 3, 4, 5, 6, 7, 8] rfl rfl (by decide) (by decide) (by decide) rfl hl rfl (Nat.le_of_ble_eq_true rfl) d_X_degree_5 (fun rb ub H locs hrb hP hD hS => ?_)
  have hP : va_P D classes (Xw cI cZ ad (nI K, dr, he, ta, ha, co, cl, us, row, tb, le, re, wa, qu, wo, od)) H := hP
  have hD : va_D A (Xw cI cZ ad (nI K, dr, he, ta, ha, co, cl, us, row, tb, le, re, wa, qu, wo, od)) := hD
  subst hrb
  exact hret _ _ _ _ _ (us) d_X_degree_8 rfl (by rw [lc_sm_pop h0 hK32]) hP hD hS
set_option maxHeartbeats 4000000 in
set_option maxRecDepth 100000 in
theorem c_X_drop (l : Launch) (D : va_G) (cI cZ : ClassId) (ad : Nat → Nat) (dr he ta ha co cl st : Int32) (row tb le re wa qu wo od : Nat → Int32) (seed : Int32) (K : Nat) (h0 : 0 < K) (hK32 : K ≤ 32) (htb : ∀ d, 1 ≤ d → d ≤ K → tb d = nI (lc_tb K d)) : CtI l y_X_drop b_X_drop 2 .int 2 D [(cI, .int), (cZ, .boolean)] [.ref (ad 0), .int seed] (Xw cI cZ ad (nI K, dr, he, ta, ha, co, cl, st, row, tb, le, re, wa, qu, wo, od)) (fun r (u : Int32) => r = pb_xr (bt (lc_sm K seed)) row 32) (fun u => Xw cI cZ ad (nI K, dr, he, ta, ha, co, cl, u, row, tb, le, re, wa, qu, wo, od)) := by
  refine CtI.of (by decide) (Nat.le_of_ble_eq_true rfl) ?_
  intro p e s m args below meth c A Q S hK hP hD hA hS hret ls hl
  have S : CallFix p m c b_X_drop 2 s args gw_tbl R_X := S
  have hx := S.1
  have hb := S.2.1
  have hl : lv_has ls 2 [(0, .ref (ad 0)), (1, .int seed)] := hl
  refine lv_aload_n hx hb d_X_drop_0 rfl (lv_at hl 0 rfl) ?_
  refine dc_get_X S hK hP 0 rfl fl_X_7 rfl d_X_drop_1 ?_
  refine lv_aload_n hx hb d_X_drop_4 rfl (lv_at hl 0 rfl) ?_
  refine lv_iload_n hx hb d_X_drop_5 rfl (lv_at hl 1 rfl) ?_
  refine dc_callI S ok_X_set ml_X_53 (c_X_set l D cI cZ ad dr he ta ha co cl st row tb le re wa qu wo od seed K h0 hK32 htb) (As := [.int seed]) (rest := [.ref (ad 1)]) (wr := []) ⟨Nat.le_of_ble_eq_true rfl, Nat.le_of_ble_eq_true rfl⟩ ⟨Nat.le_of_ble_eq_true rfl, Nat.le_of_ble_eq_true rfl⟩ hK hP hD hS hA [0, 1, 2, 3, 4, 5, 6, 7, 8] [] rfl rfl (by decide) (by decide) (by decide) rfl rfl rfl hl rfl (Nat.le_of_ble_eq_true rfl) d_X_drop_6 (fun rs us H locs hrs hP hD hS => ?_)
  have hP : va_P D classes (Xw cI cZ ad (nI K, dr, he, ta, ha, co, cl, us, row, tb, le, re, wa, qu, wo, od)) H := hP
  have hD : va_D A (Xw cI cZ ad (nI K, dr, he, ta, ha, co, cl, us, row, tb, le, re, wa, qu, wo, od)) := hD
  subst hrs
  refine dc_callS S ok_X_xor ml_X_60 (c_X_xor l D cI cZ (ad 1) row (lc_sm K seed)) (As := [.ref (ad 1), .int (lc_sm K seed)]) (rest := []) (wr := ((Xw cI cZ ad (nI K, dr, he, ta, ha, co, cl, us, row, tb, le, re, wa, qu, wo, od)).eraseIdx 1)) ⟨Nat.le_of_ble_eq_true rfl, Nat.le_of_ble_eq_true rfl⟩ ⟨Nat.le_of_ble_eq_true rfl, Nat.le_of_ble_eq_true rfl⟩ hK hP hD hS hA [1] [0, 2, 3, 4, 5, 6, 7, 8] rfl rfl (by decide) (by decide) (by decide) rfl hl rfl (Nat.le_of_ble_eq_true rfl) d_X_drop_9 (fun rx ux H locs hrx hP hD hS => ?_)
  subst hrx
  have hP : va_P D classes (Xw cI cZ ad (nI K, dr, he, ta, ha, co, cl, us, row, tb, le, re, wa, qu, wo, od)) H := hP.sub [0, 8, 1, 2, 3, 4, 5, 6, 7] rfl
  have hD : va_D A (Xw cI cZ ad (nI K, dr, he, ta, ha, co, cl, us, row, tb, le, re, wa, qu, wo, od)) := hD.sub [0, 8, 1, 2, 3, 4, 5, 6, 7] (by decide) rfl
  exact hret _ _ _ _ _ (us) d_X_drop_12 rfl (rfl) hP hD hS
set_option maxHeartbeats 4000000 in
set_option maxRecDepth 100000 in
theorem c_X_put (l : Launch) (D : va_G) (cI cZ : ClassId) (ad : Nat → Nat) (dr he ta ha co cl st : Int32) (row tb le re wa qu wo od : Nat → Int32) (i v : Int32) (K : Nat) (h0 : 0 < K) (hK32 : K ≤ 32) : CtI l y_X_put b_X_put 3 .int 1 D [(cI, .int), (cZ, .boolean)] [.ref (ad 0), .int i, .int v] (Xw cI cZ ad (nI K, dr, he, ta, ha, co, cl, st, row, tb, le, re, wa, qu, wo, od)) (fun r (u : Nat → Int32) => r = (if ¬ i < 0 ∧ i < nI K then 1 else -1) ∧ u = (if ¬ i < 0 ∧ i < nI K then upd row i.toNatClampNeg v else row)) (fun u => Xw cI cZ ad (nI K, dr, he, ta, ha, co, cl, st, u, tb, le, re, wa, qu, wo, od)) := by
  refine CtI.of (by decide) (Nat.le_of_ble_eq_true rfl) ?_
  intro p e s m args below meth c A Q S hK hP hD hA hS hret ls hl
  have S : CallFix p m c b_X_put 3 s args gw_tbl R_X := S
  have hx := S.1
  have hb := S.2.1
  have hl : lv_has ls 3 [(0, .ref (ad 0)), (1, .int i), (2, .int v)] := hl
  refine lv_aload_n hx hb d_X_put_0 rfl (lv_at hl 0 rfl) ?_
  refine lv_iload_n hx hb d_X_put_1 rfl (lv_at hl 1 rfl) ?_
  refine dc_callI S ok_X_isWord ml_X_56 (c_X_isWord l D cI cZ ad (nI K) dr he ta ha co cl st row tb le re wa qu wo od i) (As := [.int i]) (rest := []) (wr := []) ⟨Nat.le_of_ble_eq_true rfl, Nat.le_of_ble_eq_true rfl⟩ ⟨Nat.le_of_ble_eq_true rfl, Nat.le_of_ble_eq_true rfl⟩ hK hP hD hS hA [0, 1, 2, 3, 4, 5, 6, 7, 8] [] rfl rfl (by decide) (by decide) (by decide) rfl rfl rfl hl rfl (Nat.le_of_ble_eq_true rfl) d_X_put_2 (fun ri ui H locs hri hP hD hS => ?_)
  have hP : va_P D classes (Xw cI cZ ad (nI K, dr, he, ta, ha, co, cl, st, row, tb, le, re, wa, qu, wo, od)) H := hP
  have hD : va_D A (Xw cI cZ ad (nI K, dr, he, ta, ha, co, cl, st, row, tb, le, re, wa, qu, wo, od)) := hD
  refine lv_if_ne (tgt := 10) hx hb d_X_put_5 (by decide) (fun hc => ?_) (fun hc => ?_)
  · have hw : ¬ i < 0 ∧ i < nI K := by
      rcases Decidable.em (¬ i < 0 ∧ i < nI K) with q | q
      · exact q
      · rw [if_neg q] at hri; exact absurd hri hc
    obtain ⟨j, hj, hij⟩ : ∃ j : Nat, j < K ∧ i = nI j := by
      rcases pk_ix i (n := K) (by omega) with q | q | q
      · exact absurd q hw.1
      · exact absurd hw.2 (Int32.not_lt.mpr q)
      · exact q
    refine lv_aload_n hx hb d_X_put_10 rfl (lv_at hl 0 rfl) ?_
    refine dc_get_X S hK hP 0 rfl fl_X_7 rfl d_X_put_11 ?_
    refine lv_iload_n hx hb d_X_put_14 rfl (lv_at hl 1 rfl) ?_
    refine lv_iload_n hx hb d_X_put_15 rfl (lv_at hl 2 rfl) ?_
    refine dc_ist S hK hP hD hS 1 rfl (j := j) (hij) (by omega) d_X_put_16 (fun H locs (hP : va_P D classes (Xw cI cZ ad (nI K, dr, he, ta, ha, co, cl, st, upd row j v, tb, le, re, wa, qu, wo, od)) H) (hD : va_D A (Xw cI cZ ad (nI K, dr, he, ta, ha, co, cl, st, upd row j v, tb, le, re, wa, qu, wo, od))) hS => ?_)
    refine lv_iconst (v := 1) hx hb d_X_put_17 (by decide) ?_
    exact hret _ _ _ _ _ (upd row j v) d_X_put_18 rfl (⟨by rw [if_pos hw], by rw [if_pos hw, hij, nI_clamp (by omega)]⟩) hP hD hS
  · have hw : ¬ (¬ i < 0 ∧ i < nI K) := by
      intro q
      rw [if_pos q] at hri
      rw [hri] at hc
      exact absurd hc (by decide)
    refine lv_iconst (v := (-1)) hx hb d_X_put_8 (by decide) ?_
    exact hret _ _ _ _ _ (row) d_X_put_9 rfl (⟨by rw [if_neg hw], by rw [if_neg hw]⟩) hP hD hS
set_option maxHeartbeats 4000000 in
set_option maxRecDepth 100000 in
theorem c_X_known (l : Launch) (D : va_G) (cI cZ : ClassId) (ad : Nat → Nat) (dr he ta ha co cl st : Int32) (row tb le re wa qu wo od : Nat → Int32) (i : Int32) (K : Nat) (h0 : 0 < K) (hK32 : K ≤ 32) : CtI l y_X_known b_X_known 2 .int 1 D [(cI, .int), (cZ, .boolean)] [.ref (ad 0), .int i] (Xw cI cZ ad (nI K, dr, he, ta, ha, co, cl, st, row, tb, le, re, wa, qu, wo, od)) (fun r (u : Unit) => r = if ¬ i < 0 ∧ i < nI K then (if bt ha i.toNatClampNeg = true then 1 else 0) else -1) (fun u => Xw cI cZ ad (nI K, dr, he, ta, ha, co, cl, st, row, tb, le, re, wa, qu, wo, od)) := by
  refine CtI.of (by decide) (Nat.le_of_ble_eq_true rfl) ?_
  intro p e s m args below meth c A Q S hK hP hD hA hS hret ls hl
  have S : CallFix p m c b_X_known 2 s args gw_tbl R_X := S
  have hx := S.1
  have hb := S.2.1
  have hl : lv_has ls 2 [(0, .ref (ad 0)), (1, .int i)] := hl
  refine lv_aload_n hx hb d_X_known_0 rfl (lv_at hl 0 rfl) ?_
  refine lv_iload_n hx hb d_X_known_1 rfl (lv_at hl 1 rfl) ?_
  refine dc_callI S ok_X_isWord ml_X_56 (c_X_isWord l D cI cZ ad (nI K) dr he ta ha co cl st row tb le re wa qu wo od i) (As := [.int i]) (rest := []) (wr := []) ⟨Nat.le_of_ble_eq_true rfl, Nat.le_of_ble_eq_true rfl⟩ ⟨Nat.le_of_ble_eq_true rfl, Nat.le_of_ble_eq_true rfl⟩ hK hP hD hS hA [0, 1, 2, 3, 4, 5, 6, 7, 8] [] rfl rfl (by decide) (by decide) (by decide) rfl rfl rfl hl rfl (Nat.le_of_ble_eq_true rfl) d_X_known_2 (fun ri ui H locs hri hP hD hS => ?_)
  have hP : va_P D classes (Xw cI cZ ad (nI K, dr, he, ta, ha, co, cl, st, row, tb, le, re, wa, qu, wo, od)) H := hP
  have hD : va_D A (Xw cI cZ ad (nI K, dr, he, ta, ha, co, cl, st, row, tb, le, re, wa, qu, wo, od)) := hD
  refine lv_if_eq (tgt := 19) hx hb d_X_known_5 (by decide) (fun hc => ?_) (fun hc => ?_)
  · have hw : ¬ (¬ i < 0 ∧ i < nI K) := by
      intro q
      rw [if_pos q] at hri
      rw [hri] at hc
      exact absurd hc (by decide)
    refine lv_iconst (v := (-1)) hx hb d_X_known_19 (by decide) ?_
    exact hret _ _ _ _ _ (()) d_X_known_20 rfl (by rw [if_neg hw]) hP hD hS
  · have hw : ¬ i < 0 ∧ i < nI K := by
      rcases Decidable.em (¬ i < 0 ∧ i < nI K) with q | q
      · exact q
      · rw [if_neg q] at hri; exact absurd hri hc
    obtain ⟨j, hj, rfl⟩ : ∃ j : Nat, j < K ∧ i = nI j := by
      rcases pk_ix i (n := K) (by omega) with q | q | q
      · exact absurd q hw.1
      · exact absurd hw.2 (Int32.not_lt.mpr q)
      · exact q
    refine lv_aload_n hx hb d_X_known_8 rfl (lv_at hl 0 rfl) ?_
    refine dc_get_X S hK hP 0 rfl fl_X_67 rfl d_X_known_9 ?_
    refine lv_iload_n hx hb d_X_known_12 rfl (lv_at hl 1 rfl) ?_
    refine lv_ishr hx hb d_X_known_13 ?_
    refine lv_iconst (v := 1) hx hb d_X_known_14 (by decide) ?_
    refine lv_iand hx hb d_X_known_15 ?_
    refine dc_nrm (y := if bt ha j = true then 1 else 0) (pb_bit ha (by omega)) ?_
    refine lv_goto (tgt := 20) hx hb d_X_known_16 (by decide) ?_
    exact hret _ _ _ _ _ (()) d_X_known_20 rfl (by rw [if_pos hw, nI_clamp (by omega)]) hP hD hS
set_option maxHeartbeats 4000000 in
set_option maxRecDepth 100000 in
theorem c_X_word (l : Launch) (D : va_G) (cI cZ : ClassId) (ad : Nat → Nat) (dr he ta ha co cl st : Int32) (row tb le re wa qu wo od : Nat → Int32) (i : Int32) (K : Nat) (h0 : 0 < K) (hK32 : K ≤ 32) : CtI l y_X_word b_X_word 2 .int 1 D [(cI, .int), (cZ, .boolean)] [.ref (ad 0), .int i] (Xw cI cZ ad (nI K, dr, he, ta, ha, co, cl, st, row, tb, le, re, wa, qu, wo, od)) (fun r (u : Unit) => r = if (¬ i < 0 ∧ i < nI K) ∧ bt ha i.toNatClampNeg = true then wo i.toNatClampNeg else 0) (fun u => Xw cI cZ ad (nI K, dr, he, ta, ha, co, cl, st, row, tb, le, re, wa, qu, wo, od)) := by
  refine CtI.of (by decide) (Nat.le_of_ble_eq_true rfl) ?_
  intro p e s m args below meth c A Q S hK hP hD hA hS hret ls hl
  have S : CallFix p m c b_X_word 2 s args gw_tbl R_X := S
  have hx := S.1
  have hb := S.2.1
  have hl : lv_has ls 2 [(0, .ref (ad 0)), (1, .int i)] := hl
  refine lv_aload_n hx hb d_X_word_0 rfl (lv_at hl 0 rfl) ?_
  refine lv_iload_n hx hb d_X_word_1 rfl (lv_at hl 1 rfl) ?_
  refine dc_callI S ok_X_isWord ml_X_56 (c_X_isWord l D cI cZ ad (nI K) dr he ta ha co cl st row tb le re wa qu wo od i) (As := [.int i]) (rest := []) (wr := []) ⟨Nat.le_of_ble_eq_true rfl, Nat.le_of_ble_eq_true rfl⟩ ⟨Nat.le_of_ble_eq_true rfl, Nat.le_of_ble_eq_true rfl⟩ hK hP hD hS hA [0, 1, 2, 3, 4, 5, 6, 7, 8] [] rfl rfl (by decide) (by decide) (by decide) rfl rfl rfl hl rfl (Nat.le_of_ble_eq_true rfl) d_X_word_2 (fun ri ui H locs hri hP hD hS => ?_)
  have hP : va_P D classes (Xw cI cZ ad (nI K, dr, he, ta, ha, co, cl, st, row, tb, le, re, wa, qu, wo, od)) H := hP
  have hD : va_D A (Xw cI cZ ad (nI K, dr, he, ta, ha, co, cl, st, row, tb, le, re, wa, qu, wo, od)) := hD
  refine lv_if_eq (tgt := 29) hx hb d_X_word_5 (by decide) (fun hc => ?_) (fun hc => ?_)
  · have hw : ¬ (¬ i < 0 ∧ i < nI K) := by
      intro q
      rw [if_pos q] at hri
      rw [hri] at hc
      exact absurd hc (by decide)
    refine lv_iconst (v := 0) hx hb d_X_word_29 (by decide) ?_
    exact hret _ _ _ _ _ (()) d_X_word_30 rfl (by rw [if_neg (fun q => hw q.1)]) hP hD hS
  · have hw : ¬ i < 0 ∧ i < nI K := by
      rcases Decidable.em (¬ i < 0 ∧ i < nI K) with q | q
      · exact q
      · rw [if_neg q] at hri; exact absurd hri hc
    obtain ⟨j, hj, rfl⟩ : ∃ j : Nat, j < K ∧ i = nI j := by
      rcases pk_ix i (n := K) (by omega) with q | q | q
      · exact absurd q hw.1
      · exact absurd hw.2 (Int32.not_lt.mpr q)
      · exact q
    refine lv_aload_n hx hb d_X_word_8 rfl (lv_at hl 0 rfl) ?_
    refine dc_get_X S hK hP 0 rfl fl_X_67 rfl d_X_word_9 ?_
    refine lv_iload_n hx hb d_X_word_12 rfl (lv_at hl 1 rfl) ?_
    refine lv_ishr hx hb d_X_word_13 ?_
    refine lv_iconst (v := 1) hx hb d_X_word_14 (by decide) ?_
    refine lv_iand hx hb d_X_word_15 ?_
    refine dc_nrm (y := if bt ha j = true then 1 else 0) (pb_bit ha (by omega)) ?_
    refine lv_iconst (v := 1) hx hb d_X_word_16 (by decide) ?_
    refine lv_icmp_ne (tgt := 29) hx hb d_X_word_17 (by decide) (fun hc2 => ?_) (fun hc2 => ?_)
    · have hb0 : ¬ bt ha j = true := fun q => hc2 (if_pos q)
      refine lv_iconst (v := 0) hx hb d_X_word_29 (by decide) ?_
      exact hret _ _ _ _ _ (()) d_X_word_30 rfl (by rw [if_neg (fun q => hb0 (by rw [nI_clamp (by omega)] at q; exact q.2))]) hP hD hS
    · have hb1 : bt ha j = true := by
        rcases Decidable.em (bt ha j = true) with q | q
        · exact q
        · rw [if_neg q] at hc2; exact absurd hc2 (by decide)
      refine lv_aload_n hx hb d_X_word_20 rfl (lv_at hl 0 rfl) ?_
      refine dc_get_X S hK hP 0 rfl fl_X_29 rfl d_X_word_21 ?_
      refine lv_iload_n hx hb d_X_word_24 rfl (lv_at hl 1 rfl) ?_
      refine dc_ild S hK hP 7 rfl (j := j) (rfl) (by omega) d_X_word_25 ?_
      refine lv_goto (tgt := 30) hx hb d_X_word_26 (by decide) ?_
      exact hret _ _ _ _ _ (()) d_X_word_30 rfl (by rw [nI_clamp (by omega), if_pos ⟨hw, hb1⟩]) hP hD hS
set_option maxHeartbeats 4000000 in
set_option maxRecDepth 100000 in
theorem c_X_order (l : Launch) (D : va_G) (cI cZ : ClassId) (ad : Nat → Nat) (k dr he ta ha cl st : Int32) (row tb le re wa qu wo od : Nat → Int32) (i : Int32) (cn : Nat) (hcn : cn ≤ 32) : CtI l y_X_order b_X_order 2 .int 0 D [(cI, .int), (cZ, .boolean)] [.ref (ad 0), .int i] (Xw cI cZ ad (k, dr, he, ta, ha, nI cn, cl, st, row, tb, le, re, wa, qu, wo, od)) (fun r (u : Unit) => r = if ¬ i < 0 ∧ i < nI cn then od i.toNatClampNeg else -1) (fun u => Xw cI cZ ad (k, dr, he, ta, ha, nI cn, cl, st, row, tb, le, re, wa, qu, wo, od)) := by
  refine CtI.of (by decide) (Nat.le_of_ble_eq_true rfl) ?_
  intro p e s m args below meth c A Q S hK hP hD hA hS hret ls hl
  have S : CallFix p m c b_X_order 2 s args gw_tbl R_X := S
  have hx := S.1
  have hb := S.2.1
  have hl : lv_has ls 2 [(0, .ref (ad 0)), (1, .int i)] := hl
  refine lv_iload_n hx hb d_X_order_0 rfl (lv_at hl 1 rfl) ?_
  refine lv_if_lt (tgt := 21) hx hb d_X_order_1 (by decide) (fun hc => ?_) (fun hc => ?_)
  · refine lv_iconst (v := (-1)) hx hb d_X_order_21 (by decide) ?_
    exact hret _ _ _ _ _ (()) d_X_order_22 rfl (by rw [if_neg (fun q => q.1 hc)]) hP hD hS
  · refine lv_iload_n hx hb d_X_order_4 rfl (lv_at hl 1 rfl) ?_
    refine lv_aload_n hx hb d_X_order_5 rfl (lv_at hl 0 rfl) ?_
    refine dc_get_X S hK hP 0 rfl fl_X_83 rfl d_X_order_6 ?_
    refine lv_icmp_ge (tgt := 21) hx hb d_X_order_9 (by decide) (fun hc2 => ?_) (fun hc2 => ?_)
    · refine lv_iconst (v := (-1)) hx hb d_X_order_21 (by decide) ?_
      exact hret _ _ _ _ _ (()) d_X_order_22 rfl (by rw [if_neg (fun q => absurd q.2 (Int32.not_lt.mpr hc2))]) hP hD hS
    · have hw : ¬ i < 0 ∧ i < nI cn := ⟨hc, Int32.not_le.mp hc2⟩
      obtain ⟨j, hj, rfl⟩ : ∃ j : Nat, j < cn ∧ i = nI j := by
        rcases pk_ix i (n := cn) (by omega) with q | q | q
        · exact absurd q hw.1
        · exact absurd hw.2 (Int32.not_lt.mpr q)
        · exact q
      refine lv_aload_n hx hb d_X_order_12 rfl (lv_at hl 0 rfl) ?_
      refine dc_get_X S hK hP 0 rfl fl_X_32 rfl d_X_order_13 ?_
      refine lv_iload_n hx hb d_X_order_16 rfl (lv_at hl 1 rfl) ?_
      refine dc_ild S hK hP 8 rfl (j := j) (rfl) (by omega) d_X_order_17 ?_
      refine lv_goto (tgt := 22) hx hb d_X_order_18 (by decide) ?_
      exact hret _ _ _ _ _ (()) d_X_order_22 rfl (by rw [if_pos hw, nI_clamp (by omega)]) hP hD hS
set_option maxHeartbeats 4000000 in
set_option maxRecDepth 100000 in
theorem c_X_open (l : Launch) (D : va_G) (cI cZ : ClassId) (ad : Nat → Nat) (k he ta ha co cl st : Int32) (row tb le re wa qu wo od : Nat → Int32) (i : Int32) (nd : Nat) (hnd : nd ≤ 60) : CtI l y_X_open b_X_open 2 .int 1 D [(cI, .int), (cZ, .boolean)] [.ref (ad 0), .int i] (Xw cI cZ ad (k, nI nd, he, ta, ha, co, cl, st, row, tb, le, re, wa, qu, wo, od)) (fun r (u : Unit) => r = if ¬ i < 0 ∧ i < nI nd then nI (pb_pop (le i.toNatClampNeg)) else -1) (fun u => Xw cI cZ ad (k, nI nd, he, ta, ha, co, cl, st, row, tb, le, re, wa, qu, wo, od)) := by
  refine CtI.of (by decide) (Nat.le_of_ble_eq_true rfl) ?_
  intro p e s m args below meth c A Q S hK hP hD hA hS hret ls hl
  have S : CallFix p m c b_X_open 2 s args gw_tbl R_X := S
  have hx := S.1
  have hb := S.2.1
  have hl : lv_has ls 2 [(0, .ref (ad 0)), (1, .int i)] := hl
  refine lv_iload_n hx hb d_X_open_0 rfl (lv_at hl 1 rfl) ?_
  refine lv_if_lt (tgt := 24) hx hb d_X_open_1 (by decide) (fun hc => ?_) (fun hc => ?_)
  · refine lv_iconst (v := (-1)) hx hb d_X_open_24 (by decide) ?_
    exact hret _ _ _ _ _ (()) d_X_open_25 rfl (by rw [if_neg (fun q => q.1 hc)]) hP hD hS
  · refine lv_iload_n hx hb d_X_open_4 rfl (lv_at hl 1 rfl) ?_
    refine lv_aload_n hx hb d_X_open_5 rfl (lv_at hl 0 rfl) ?_
    refine dc_get_X S hK hP 0 rfl fl_X_64 rfl d_X_open_6 ?_
    refine lv_icmp_ge (tgt := 24) hx hb d_X_open_9 (by decide) (fun hc2 => ?_) (fun hc2 => ?_)
    · refine lv_iconst (v := (-1)) hx hb d_X_open_24 (by decide) ?_
      exact hret _ _ _ _ _ (()) d_X_open_25 rfl (by rw [if_neg (fun q => absurd q.2 (Int32.not_lt.mpr hc2))]) hP hD hS
    · have hw : ¬ i < 0 ∧ i < nI nd := ⟨hc, Int32.not_le.mp hc2⟩
      obtain ⟨j, hj, rfl⟩ : ∃ j : Nat, j < nd ∧ i = nI j := by
        rcases pk_ix i (n := nd) (by omega) with q | q | q
        · exact absurd q hw.1
        · exact absurd hw.2 (Int32.not_lt.mpr q)
        · exact q
      refine lv_aload_n hx hb d_X_open_12 rfl (lv_at hl 0 rfl) ?_
      refine dc_get_X S hK hP 0 rfl fl_X_16 rfl d_X_open_13 ?_
      refine lv_iload_n hx hb d_X_open_16 rfl (lv_at hl 1 rfl) ?_
      refine dc_ild S hK hP 3 rfl (j := j) (rfl) (by omega) d_X_open_17 ?_
      refine dc_callS S ok_X_bits ml_X_49 (c_X_bits l D cI cZ (le j)) (As := [.int (le j)]) (rest := []) (wr := (Xw cI cZ ad (k, nI nd, he, ta, ha, co, cl, st, row, tb, le, re, wa, qu, wo, od))) ⟨Nat.le_of_ble_eq_true rfl, Nat.le_of_ble_eq_true rfl⟩ ⟨Nat.le_of_ble_eq_true rfl, Nat.le_of_ble_eq_true rfl⟩ hK hP hD hS hA [] [0, 1, 2, 3, 4, 5, 6, 7, 8] rfl rfl (by decide) (by decide) (by decide) rfl hl rfl (Nat.le_of_ble_eq_true rfl) d_X_open_18 (fun rb ub H locs hrb hP hD hS => ?_)
      have hP : va_P D classes (Xw cI cZ ad (k, nI nd, he, ta, ha, co, cl, st, row, tb, le, re, wa, qu, wo, od)) H := hP
      have hD : va_D A (Xw cI cZ ad (k, nI nd, he, ta, ha, co, cl, st, row, tb, le, re, wa, qu, wo, od)) := hD
      subst hrb
      refine lv_goto (tgt := 25) hx hb d_X_open_21 (by decide) ?_
      exact hret _ _ _ _ _ (()) d_X_open_25 rfl (by rw [if_pos hw, nI_clamp (by omega)]) hP hD hS
set_option maxHeartbeats 4000000 in
set_option maxRecDepth 100000 in
theorem c_X_drops (l : Launch) (D : va_G) (cI cZ : ClassId) (ad : Nat → Nat) (k dr he ta ha co cl st : Int32) (row tb le re wa qu wo od : Nat → Int32) : CtI l y_X_drops b_X_drops 1 .int 0 D [(cI, .int), (cZ, .boolean)] [.ref (ad 0)] (Xw cI cZ ad (k, dr, he, ta, ha, co, cl, st, row, tb, le, re, wa, qu, wo, od)) (fun r (u : Unit) => r = dr) (fun u => Xw cI cZ ad (k, dr, he, ta, ha, co, cl, st, row, tb, le, re, wa, qu, wo, od)) := by
  refine CtI.of (by decide) (Nat.le_of_ble_eq_true rfl) ?_
  intro p e s m args below meth c A Q S hK hP hD hA hS hret ls hl
  have S : CallFix p m c b_X_drops 1 s args gw_tbl R_X := S
  have hx := S.1
  have hb := S.2.1
  have hl : lv_has ls 1 [(0, .ref (ad 0))] := hl
  refine lv_aload_n hx hb d_X_drops_0 rfl (lv_at hl 0 rfl) ?_
  refine dc_get_X S hK hP 0 rfl fl_X_64 rfl d_X_drops_1 ?_
  exact hret _ _ _ _ _ (()) d_X_drops_4 rfl (rfl) hP hD hS
set_option maxHeartbeats 4000000 in
set_option maxRecDepth 100000 in
theorem c_X_count (l : Launch) (D : va_G) (cI cZ : ClassId) (ad : Nat → Nat) (k dr he ta ha co cl st : Int32) (row tb le re wa qu wo od : Nat → Int32) : CtI l y_X_count b_X_count 1 .int 0 D [(cI, .int), (cZ, .boolean)] [.ref (ad 0)] (Xw cI cZ ad (k, dr, he, ta, ha, co, cl, st, row, tb, le, re, wa, qu, wo, od)) (fun r (u : Unit) => r = co) (fun u => Xw cI cZ ad (k, dr, he, ta, ha, co, cl, st, row, tb, le, re, wa, qu, wo, od)) := by
  refine CtI.of (by decide) (Nat.le_of_ble_eq_true rfl) ?_
  intro p e s m args below meth c A Q S hK hP hD hA hS hret ls hl
  have S : CallFix p m c b_X_count 1 s args gw_tbl R_X := S
  have hx := S.1
  have hb := S.2.1
  have hl : lv_has ls 1 [(0, .ref (ad 0))] := hl
  refine lv_aload_n hx hb d_X_count_0 rfl (lv_at hl 0 rfl) ?_
  refine dc_get_X S hK hP 0 rfl fl_X_83 rfl d_X_count_1 ?_
  exact hret _ _ _ _ _ (()) d_X_count_4 rfl (rfl) hP hD hS
set_option maxHeartbeats 4000000 in
set_option maxRecDepth 100000 in
theorem c_X_clashes (l : Launch) (D : va_G) (cI cZ : ClassId) (ad : Nat → Nat) (k dr he ta ha co cl st : Int32) (row tb le re wa qu wo od : Nat → Int32) : CtI l y_X_clashes b_X_clashes 1 .int 0 D [(cI, .int), (cZ, .boolean)] [.ref (ad 0)] (Xw cI cZ ad (k, dr, he, ta, ha, co, cl, st, row, tb, le, re, wa, qu, wo, od)) (fun r (u : Unit) => r = cl) (fun u => Xw cI cZ ad (k, dr, he, ta, ha, co, cl, st, row, tb, le, re, wa, qu, wo, od)) := by
  refine CtI.of (by decide) (Nat.le_of_ble_eq_true rfl) ?_
  intro p e s m args below meth c A Q S hK hP hD hA hS hret ls hl
  have S : CallFix p m c b_X_clashes 1 s args gw_tbl R_X := S
  have hx := S.1
  have hb := S.2.1
  have hl : lv_has ls 1 [(0, .ref (ad 0))] := hl
  refine lv_aload_n hx hb d_X_clashes_0 rfl (lv_at hl 0 rfl) ?_
  refine dc_get_X S hK hP 0 rfl fl_X_86 rfl d_X_clashes_1 ?_
  exact hret _ _ _ _ _ (()) d_X_clashes_4 rfl (rfl) hP hD hS
set_option maxHeartbeats 4000000 in
set_option maxRecDepth 100000 in
theorem c_X_forget (l : Launch) (D : va_G) (cI cZ : ClassId) (ad : Nat → Nat) (k dr he ta ha co cl st : Int32) (row tb le re wa qu wo od : Nat → Int32) : CtI l y_X_forget b_X_forget 3 .int 0 D [(cI, .int), (cZ, .boolean)] [.ref (ad 0)] (Xw cI cZ ad (k, dr, he, ta, ha, co, cl, st, row, tb, le, re, wa, qu, wo, od)) (fun r (u : Nat → Int32) => r = dr) (fun u => Xw cI cZ ad (k, 0, he, ta, 0, 0, 0, st, row, tb, le, re, wa, qu, u, od)) := by
  refine CtI.of (by decide) (Nat.le_of_ble_eq_true rfl) ?_
  intro p e s m args below meth c A Q S hK hP hD hA hS hret ls hl
  have S : CallFix p m c b_X_forget 3 s args gw_tbl R_X := S
  have hx := S.1
  have hb := S.2.1
  have hl : lv_has ls 3 [(0, .ref (ad 0))] := hl
  refine lv_aload_n hx hb d_X_forget_0 rfl (lv_at hl 0 rfl) ?_
  refine dc_get_X S hK hP 0 rfl fl_X_64 rfl d_X_forget_1 ?_
  refine lv_istore_n (lv' := [(1, .int dr), (0, .ref (ad 0))]) hx hb d_X_forget_4 rfl hl (by decide) rfl (fun ls hl => ?_)
  refine lv_aload_n hx hb d_X_forget_5 rfl (lv_at hl 1 rfl) ?_
  refine lv_iconst (v := 0) hx hb d_X_forget_6 (by decide) ?_
  refine dc_put_X S hK hP hD hS 0 rfl fl_X_64 (Nat.le_of_ble_eq_true rfl) d_X_forget_7 (fun H locs (hP : va_P D classes (Xw cI cZ ad (k, 0, he, ta, ha, co, cl, st, row, tb, le, re, wa, qu, wo, od)) H) (hD : va_D A (Xw cI cZ ad (k, 0, he, ta, ha, co, cl, st, row, tb, le, re, wa, qu, wo, od))) hS => ?_)
  refine lv_aload_n hx hb d_X_forget_10 rfl (lv_at hl 1 rfl) ?_
  refine lv_iconst (v := 0) hx hb d_X_forget_11 (by decide) ?_
  refine dc_put_X S hK hP hD hS 0 rfl fl_X_67 (Nat.le_of_ble_eq_true rfl) d_X_forget_12 (fun H locs (hP : va_P D classes (Xw cI cZ ad (k, 0, he, ta, 0, co, cl, st, row, tb, le, re, wa, qu, wo, od)) H) (hD : va_D A (Xw cI cZ ad (k, 0, he, ta, 0, co, cl, st, row, tb, le, re, wa, qu, wo, od))) hS => ?_)
  refine lv_aload_n hx hb d_X_forget_15 rfl (lv_at hl 1 rfl) ?_
  refine lv_iconst (v := 0) hx hb d_X_forget_16 (by decide) ?_
  refine dc_put_X S hK hP hD hS 0 rfl fl_X_83 (Nat.le_of_ble_eq_true rfl) d_X_forget_17 (fun H locs (hP : va_P D classes (Xw cI cZ ad (k, 0, he, ta, 0, 0, cl, st, row, tb, le, re, wa, qu, wo, od)) H) (hD : va_D A (Xw cI cZ ad (k, 0, he, ta, 0, 0, cl, st, row, tb, le, re, wa, qu, wo, od))) hS => ?_)
  refine lv_aload_n hx hb d_X_forget_20 rfl (lv_at hl 1 rfl) ?_
  refine lv_iconst (v := 0) hx hb d_X_forget_21 (by decide) ?_
  refine dc_put_X S hK hP hD hS 0 rfl fl_X_86 (Nat.le_of_ble_eq_true rfl) d_X_forget_22 (fun H locs (hP : va_P D classes (Xw cI cZ ad (k, 0, he, ta, 0, 0, 0, st, row, tb, le, re, wa, qu, wo, od)) H) (hD : va_D A (Xw cI cZ ad (k, 0, he, ta, 0, 0, 0, st, row, tb, le, re, wa, qu, wo, od))) hS => ?_)
  refine lv_iconst (v := 0) hx hb d_X_forget_25 (by decide) ?_
  refine lv_istore_n (lv' := [(2, .int 0), (1, .int dr), (0, .ref (ad 0))]) hx hb d_X_forget_26 rfl hl (by decide) rfl (fun ls hl => ?_)
  have loop : ∀ (f j : Nat), 32 < j + f → j ≤ 32 → ∀ (wo : Nat → Int32) (H : Heap) (locs : List Loc) (ls : Array Slot), va_P D classes (Xw cI cZ ad (k, 0, he, ta, 0, 0, 0, st, row, tb, le, re, wa, qu, wo, od)) H → va_D A (Xw cI cZ ad (k, 0, he, ta, 0, 0, 0, st, row, tb, le, re, wa, qu, wo, od)) → va_S A s.heap H locs → lv_has ls 3 [(2, .int (nI j)), (1, .int dr), (0, .ref (ad 0))] → W p l e (rmD 0 0 0) s m args below meth c H locs 0 0 Q (F0 m 27 ls []) := by
    intro f
    induction f with
    | zero => intro j h1 h2; exact absurd h1 (by omega)
    | succ f ih =>
      intro j hf hj wo H locs ls hP hD hS hl
      refine lv_iload_n hx hb d_X_forget_27 rfl (lv_at hl 0 rfl) ?_
      refine lv_bipush (v := 32) hx hb d_X_forget_28 (by decide) ?_
      refine lv_icmp_ge (tgt := 46) hx hb d_X_forget_30 (by decide) (fun hc => ?_) (fun hc => ?_)
      · refine lv_iload_n hx hb d_X_forget_46 rfl (lv_at hl 1 rfl) ?_
        exact hret _ _ _ _ _ (wo) d_X_forget_47 rfl (rfl) hP hD hS
      · have hlt : j < 32 := zi_nle (a := 32) (b := j) hc
        refine lv_aload_n hx hb d_X_forget_33 rfl (lv_at hl 2 rfl) ?_
        refine dc_get_X S hK hP 0 rfl fl_X_29 rfl d_X_forget_34 ?_
        refine lv_iload_n hx hb d_X_forget_37 rfl (lv_at hl 0 rfl) ?_
        refine lv_iconst (v := 0) hx hb d_X_forget_38 (by decide) ?_
        refine dc_ist S hK hP hD hS 7 rfl (j := j) (rfl) (hlt) d_X_forget_39 (fun H locs (hP : va_P D classes (Xw cI cZ ad (k, 0, he, ta, 0, 0, 0, st, row, tb, le, re, wa, qu, upd wo j 0, od)) H) (hD : va_D A (Xw cI cZ ad (k, 0, he, ta, 0, 0, 0, st, row, tb, le, re, wa, qu, upd wo j 0, od))) hS => ?_)
        refine lv_iinc (v := nI (j + 1)) (lv' := [(2, .int (nI (j + 1))), (1, .int dr), (0, .ref (ad 0))]) hx hb d_X_forget_40 hl (k := 0) rfl (nI_1 _) (by decide) rfl (fun ls hl => ?_)
        refine lv_goto (tgt := 27) hx hb d_X_forget_43 (by decide) ?_
        exact ih (j + 1) (by omega) (by omega) _ _ _ ls hP hD hS hl
  exact loop 33 0 (by omega) (by omega) _ _ _ ls hP hD hS hl
end
section
/-! DropCode's own cells against the plain decoder -/
def x_look (le re wa qu : Nat → Int32) (tl : Nat) (cl : Int32) (j : Nat) : Int32 × Int32 × (Nat → Int32) × (Nat → Int32) :=
  if pb_pop (le j) = 1 ∧ wa j = 0 then (nI (tl + 1), cl, upd wa j 1, upd qu tl (nI j)) else if pb_pop (le j) = 0 ∧ wa j = 0 ∧ re j ≠ 0 then (nI tl, cl + 1, wa, qu) else (nI tl, cl, wa, qu)
theorem ab_left_step {x h S : Int32} {w : Nat} (hx : ∀ j, bt x j = decide (j = w)) : pb_left S h &&& (x ^^^ (-1)) = pb_left S (h ||| x) := by
  refine b_ext (fun i hi => ?_)
  rw [b_and, b_not x hi, ab_left_new hx, hx]
  by_cases e : i = w <;> simp [e]
theorem ab_and_zero {x h S : Int32} {w : Nat} (hx : ∀ j, bt x j = decide (j = w)) (hn : bt h w = false) : pb_left S h &&& x = 0 ↔ bt S w = false := by
  constructor
  · intro q
    have h1 := b_and (pb_left S h) x w
    rw [q, b_0, hx, decide_eq_true rfl, Bool.and_true, pb_left_bt, hn] at h1
    cases hS : bt S w with
    | false => rfl
    | true => rw [hS] at h1; cases h1
  · intro q
    refine b_ext (fun i _ => ?_)
    rw [b_and, hx, b_0]
    by_cases e : i = w
    · rw [e, pb_left_bt, q]; rfl
    · simp [e]
/-- the state of the loop in turn, in front of drop j -/
def x_Stg (n : Nat) (S V : Nat → Int32) (h x r : Int32) (t : Nat → Int32) (qf : Nat → Nat) (hd tl w j : Nat) (le re wa qu : Nat → Int32) : Prop :=
  (∀ m, m < n → le m = if m < j ∨ m = qf hd then pb_left (S m) (h ||| x) else pb_left (S m) h) ∧
  (∀ m, m < n → re m = if m < j ∨ m = qf hd then ab_rest (S m) (h ||| x) (V m) (upd t w r) else ab_rest (S m) h (V m) t) ∧
  (∀ m, m < n → (ab_in (ab_pq (ab_P S w (h ||| x)) qf tl j).1 (hd + 1) (ab_pq (ab_P S w (h ||| x)) qf tl j).2 m → wa m = 1) ∧ (¬ ab_in (ab_pq (ab_P S w (h ||| x)) qf tl j).1 (hd + 1) (ab_pq (ab_P S w (h ||| x)) qf tl j).2 m → wa m = 0)) ∧
  (∀ p, p < (ab_pq (ab_P S w (h ||| x)) qf tl j).2 → qu p = nI ((ab_pq (ab_P S w (h ||| x)) qf tl j).1 p))
section STG
variable {K n : Nat} {S V : Nat → Int32} {h x r : Int32} {t : Nat → Int32} {cn : Nat} {qf : Nat → Nat} {hd tl w j : Nat} {le re wa qu : Nat → Int32}
theorem x_Stg.skip (G : x_Stg n S V h x r t qf hd tl w j le re wa qu) (hj : j < n) (hx : ∀ j, bt x j = decide (j = w)) (hw : w < 32) (hn : bt h w = false) (hc : bt (S (qf hd)) w = true) (hl0 : pb_left (S (qf hd)) (h ||| x) = 0) (h0 : le j &&& x = 0) :
    x_Stg n S V h x r t qf hd tl w (j + 1) le re wa qu ∧ (ab_pq (ab_P S w (h ||| x)) qf tl (j + 1)).2 = (ab_pq (ab_P S w (h ||| x)) qf tl j).2 := by
  obtain ⟨a, b, c, d⟩ := G
  have hP : ¬ ab_P S w (h ||| x) j = true := by
    unfold ab_P
    rw [Bool.and_eq_true, decide_eq_true_eq]
    rintro ⟨q1, q2⟩
    by_cases e : j = qf hd
    · rw [e, hl0, pb_pop_zero.mpr rfl] at q2
      cases q2
    · rw [a j hj, if_neg (by omega), ab_and_zero hx hn] at h0
      rw [h0] at q1
      cases q1
  have hs : ¬ j = qf hd → bt (S j) w = false := fun e => by
    rw [a j hj, if_neg (by omega), ab_and_zero hx hn] at h0
    exact h0
  unfold x_Stg
  rw [ab_pq_f hP]
  refine ⟨⟨fun m hm => ?_, fun m hm => ?_, c, d⟩, rfl⟩
  · rw [a m hm]
    by_cases e : m = j
    · subst e
      by_cases e2 : m = qf hd
      · rw [if_pos (Or.inr e2), if_pos (Or.inr e2)]
      · rw [if_neg (by omega), if_pos (by omega), ab_left_same hx (hs e2)]
    · by_cases q : m < j ∨ m = qf hd
      · rw [if_pos q, if_pos (by omega)]
      · rw [if_neg q, if_neg (by omega)]
  · rw [b m hm]
    by_cases e : m = j
    · subst e
      by_cases e2 : m = qf hd
      · rw [if_pos (Or.inr e2), if_pos (Or.inr e2)]
      · rw [if_neg (by omega), if_pos (by omega), ab_rest_same hx (hs e2)]
    · by_cases q : m < j ∨ m = qf hd
      · rw [if_pos q, if_pos (by omega)]
      · rw [if_neg q, if_neg (by omega)]
theorem x_Stg.step (I : ab_Inv K n S h cn qf hd tl) (ht : hd < tl) (G : x_Stg n S V h x r t qf hd tl w j le re wa qu) (hj : j < n) (hx : ∀ j, bt x j = decide (j = w)) (hw : w < 32) (hn : bt h w = false) (hl0 : pb_left (S (qf hd)) (h ||| x) = 0) (h0 : ¬ le j &&& x = 0) (cl : Int32) :
    ∃ wa' qu', x_look (upd le j (le j &&& (x ^^^ (-1)))) (upd re j (re j ^^^ r)) wa qu (ab_pq (ab_P S w (h ||| x)) qf tl j).2 cl j = (nI (ab_pq (ab_P S w (h ||| x)) qf tl (j + 1)).2, cl, wa', qu') ∧
      x_Stg n S V h x r t qf hd tl w (j + 1) (upd le j (le j &&& (x ^^^ (-1)))) (upd re j (re j ^^^ r)) wa' qu' := by
  have hF := I.fresh hx hw hn
  obtain ⟨p1, p2, p3, p4, p5⟩ := ab_pq_spec (P := ab_P S w (h ||| x)) I.2.2.2.2.1 hF j
  obtain ⟨a, b, c, d⟩ := G
  have hne : j ≠ qf hd := by
    intro e
    rw [a j hj, if_pos (Or.inr e), e, hl0] at h0
    exact h0 (b_ext (fun i _ => by rw [b_and, b_0, Bool.false_and]))
  have hlj : le j = pb_left (S j) h := by rw [a j hj, if_neg (by omega)]
  have hrj : re j = ab_rest (S j) h (V j) t := by rw [b j hj, if_neg (by omega)]
  have hSw : bt (S j) w = true := by
    cases q : bt (S j) w with
    | true => rfl
    | false => rw [hlj] at h0; exact absurd ((ab_and_zero hx hn).mpr q) h0
  have el : le j &&& (x ^^^ (-1)) = pb_left (S j) (h ||| x) := by rw [hlj, ab_left_step hx]
  have er : re j ^^^ r = ab_rest (S j) (h ||| x) (V j) (upd t w r) := by rw [hrj, ab_rest_new hx hw hn hSw]
  have hpop := ab_left_pop hx hw hn hSw
  rw [el, er]
  have A : ∀ m, m < n → upd le j (pb_left (S j) (h ||| x)) m = if m < j + 1 ∨ m = qf hd then pb_left (S m) (h ||| x) else pb_left (S m) h := by
    intro m hm
    by_cases e : m = j
    · rw [e, pk_us, if_pos (Or.inl (Nat.lt_succ_self j))]
    · rw [pk_un e, a m hm]
      by_cases q : m < j ∨ m = qf hd
      · rw [if_pos q, if_pos (by omega)]
      · rw [if_neg q, if_neg (by omega)]
  have B : ∀ m, m < n → upd re j (ab_rest (S j) (h ||| x) (V j) (upd t w r)) m = if m < j + 1 ∨ m = qf hd then ab_rest (S m) (h ||| x) (V m) (upd t w r) else ab_rest (S m) h (V m) t := by
    intro m hm
    by_cases e : m = j
    · rw [e, pk_us, if_pos (Or.inl (Nat.lt_succ_self j))]
    · rw [pk_un e, b m hm]
      by_cases q : m < j ∨ m = qf hd
      · rw [if_pos q, if_pos (by omega)]
      · rw [if_neg q, if_neg (by omega)]
  unfold x_look
  rw [pk_us, pk_us]
  by_cases h1 : pb_pop (pb_left (S j) (h ||| x)) = 1
  · have hP : ab_P S w (h ||| x) j = true := by
      unfold ab_P
      rw [hSw, h1]; rfl
    have hwj : wa j = 0 := (c j hj).2 (by
      rintro ⟨p, g1, g2, g3⟩
      rcases Nat.lt_or_ge p tl with q | q
      · exact hF j hP p q (by rw [← p2 p q]; exact g3)
      · have := (p3 p q g2).1
        omega)
    rw [if_pos ⟨h1, hwj⟩]
    refine ⟨_, _, by rw [ab_pq_t hP], A, B, fun m hm => ?_, fun p hp => ?_⟩
    · rw [ab_pq_t hP]
      dsimp only
      have hlo : hd + 1 ≤ (ab_pq (ab_P S w (h ||| x)) qf tl j).2 := by omega
      constructor
      · intro q
        rcases (ab_in_push hlo).mp q with q | q
        · by_cases e : m = j
          · rw [e, pk_us]
          · rw [pk_un e]; exact (c m hm).1 q
        · rw [q, pk_us]
      · intro q
        have q2 : m ≠ j := fun e => q ((ab_in_push hlo).mpr (Or.inr e))
        rw [pk_un q2]
        exact (c m hm).2 (fun z => q ((ab_in_push hlo).mpr (Or.inl z)))
    · rw [ab_pq_t hP] at hp ⊢
      dsimp only at hp ⊢
      by_cases e : p = (ab_pq (ab_P S w (h ||| x)) qf tl j).2
      · rw [e, pk_us, ab_us]
      · rw [pk_un e, ab_un e]
        exact d p (by omega)
  · have hP : ¬ ab_P S w (h ||| x) j = true := by
      unfold ab_P
      rw [Bool.and_eq_true, decide_eq_true_eq]
      exact fun q => h1 q.2
    have h2 : ¬ (pb_pop (pb_left (S j) (h ||| x)) = 0 ∧ wa j = 0 ∧ ab_rest (S j) (h ||| x) (V j) (upd t w r) ≠ 0) := by
      rintro ⟨q1, q2, -⟩
      have h3 : ab_in qf hd tl j := I.2.2.2.2.2 j hj (by omega)
      obtain ⟨p, g1, g2, g3⟩ := (ab_in_pop ht I.2.2.2.2.1).mpr ⟨h3, hne⟩
      have h4 := (c j hj).1 ⟨p, g1, by omega, by rw [p2 p g2]; exact g3⟩
      rw [q2] at h4
      exact absurd h4 (by decide)
    rw [if_neg (fun q => h1 q.1), if_neg h2]
    refine ⟨wa, qu, by rw [ab_pq_f hP], A, B, ?_, ?_⟩
    · rw [ab_pq_f hP]; exact c
    · rw [ab_pq_f hP]; exact d
end STG
/-- DropCode's cells hold the decoder's state -/
def x_Rel (K n : Nat) (S V : Nat → Int32) (h : Int32) (t : Nat → Int32) (cn : Nat) (qf : Nat → Nat) (hd tl : Nat) (le re wa qu : Nat → Int32) : Prop :=
  (∀ m, m < n → le m = pb_left (S m) h) ∧ (∀ m, m < n → re m = ab_rest (S m) h (V m) t) ∧ (∀ m, m < n → (ab_in qf hd tl m → wa m = 1) ∧ (¬ ab_in qf hd tl m → wa m = 0)) ∧ (∀ p, p < tl → qu p = nI (qf p)) ∧ ab_Inv K n S h cn qf hd tl
/-- the two ends of the loop in turn -/
theorem x_Stg.zero {K n : Nat} {S V : Nat → Int32} {h x r : Int32} {t : Nat → Int32} {cn : Nat} {qf : Nat → Nat} {hd tl w : Nat} {le re wa qu : Nat → Int32} (G : x_Rel K n S V h t cn qf hd tl le re wa qu) (ht : hd < tl) (hl0 : pb_left (S (qf hd)) (h ||| x) = 0) (hr0 : ab_rest (S (qf hd)) (h ||| x) (V (qf hd)) (upd t w r) = 0) :
    x_Stg n S V h x r t qf hd tl w 0 (upd le (qf hd) 0) (upd re (qf hd) 0) (upd wa (qf hd) 0) qu := by
  obtain ⟨a, b, c, d, I⟩ := G
  refine ⟨fun m hm => ?_, fun m hm => ?_, fun m hm => ?_, d⟩
  · by_cases e : m = qf hd
    · rw [e, pk_us, if_pos (Or.inr rfl), hl0]
    · rw [pk_un e, a m hm, if_neg (by omega)]
  · by_cases e : m = qf hd
    · rw [e, pk_us, if_pos (Or.inr rfl), hr0]
    · rw [pk_un e, b m hm, if_neg (by omega)]
  · show (ab_in qf (hd + 1) tl m → _) ∧ (¬ ab_in qf (hd + 1) tl m → _)
    rw [ab_in_pop ht I.2.2.2.2.1]
    by_cases e : m = qf hd
    · rw [e, pk_us]
      exact ⟨fun q => absurd rfl q.2, fun _ => rfl⟩
    · rw [pk_un e]
      exact ⟨fun q => (c m hm).1 q.1, fun q => (c m hm).2 (fun z => q ⟨z, e⟩)⟩
theorem x_Stg.last {K n : Nat} {S V : Nat → Int32} {h x r : Int32} {t : Nat → Int32} {cn : Nat} {qf : Nat → Nat} {hd tl w : Nat} {le re wa qu : Nat → Int32} (I : ab_Inv K n S h cn qf hd tl) (ht : hd < tl) (hx : ∀ j, bt x j = decide (j = w)) (hw : w < K) (hK : K ≤ 32) (hn : bt h w = false) (hc : bt (S (qf hd)) w = true) (G : x_Stg n S V h x r t qf hd tl w n le re wa qu) :
    x_Rel K n S V (h ||| x) (upd t w r) (cn + 1) (ab_pq (ab_P S w (h ||| x)) qf tl n).1 (hd + 1) (ab_pq (ab_P S w (h ||| x)) qf tl n).2 le re wa qu := by
  obtain ⟨a, b, c, d⟩ := G
  exact ⟨fun m hm => by rw [a m hm, if_pos (Or.inl hm)], fun m hm => by rw [b m hm, if_pos (Or.inl hm)], c, d, I.learn ht hx hw hK hn hc⟩
theorem x_Rel.skip {K n : Nat} {S V : Nat → Int32} {h : Int32} {t : Nat → Int32} {cn : Nat} {qf : Nat → Nat} {hd tl : Nat} {le re wa qu : Nat → Int32} (G : x_Rel K n S V h t cn qf hd tl le re wa qu) (ht : hd < tl) (h0 : pb_left (S (qf hd)) h = 0) : x_Rel K n S V h t cn qf (hd + 1) tl le re (upd wa (qf hd) 0) qu := by
  obtain ⟨a, b, c, d, I⟩ := G
  refine ⟨a, b, fun m hm => ?_, d, I.skip ht h0⟩
  rw [ab_in_pop ht I.2.2.2.2.1]
  by_cases e : m = qf hd
  · rw [e, pk_us]
    exact ⟨fun q => absurd rfl q.2, fun _ => rfl⟩
  · rw [pk_un e]
    exact ⟨fun q => (c m hm).1 q.1, fun q => (c m hm).2 (fun z => q ⟨z, e⟩)⟩
/-- what is learnt settles the learner -/
theorem ab_own {S v h x : Int32} {t : Nat → Int32} {w : Nat} (hx : ∀ j, bt x j = decide (j = w)) (hw : w < 32) (hn : bt h w = false) (hS : bt S w = true) (e : pb_left S h = x) : pb_left S (h ||| x) = 0 ∧ ab_rest S (h ||| x) v (upd t w (ab_rest S h v t)) = 0 := by
  constructor
  · refine b_ext (fun i _ => ?_)
    rw [ab_left_new hx, e, hx, b_0]
    by_cases q : i = w <;> simp [q]
  · rw [ab_rest_new hx hw hn hS, pb_xx]
/-- at rest, between two receives -/
def ab_Rest (K n : Nat) (S : Nat → Int32) (h : Int32) (cn : Nat) : Prop := (∀ i, bt h i = true → i < K) ∧ cn = pb_pop h ∧ ∀ m, m < n → pb_pop (pb_left (S m) h) ≠ 1
def x_Rest (n : Nat) (S V : Nat → Int32) (h : Int32) (t le re wa : Nat → Int32) : Prop := (∀ m, m < n → le m = pb_left (S m) h) ∧ (∀ m, m < n → re m = ab_rest (S m) h (V m) t) ∧ ∀ m, m < n → wa m = 0
theorem ab_Inv.rest {K n : Nat} {S : Nat → Int32} {h : Int32} {cn : Nat} {qf : Nat → Nat} {hd tl : Nat} (I : ab_Inv K n S h cn qf hd tl) (ht : ¬ hd < tl) : ab_Rest K n S h cn := ⟨I.1, I.2.1, fun m hm q => by
  obtain ⟨p, h1, h2, -⟩ := I.2.2.2.2.2 m hm q
  omega⟩
theorem x_Rel.rest {K n : Nat} {S V : Nat → Int32} {h : Int32} {t : Nat → Int32} {cn : Nat} {qf : Nat → Nat} {hd tl : Nat} {le re wa qu : Nat → Int32} (G : x_Rel K n S V h t cn qf hd tl le re wa qu) (ht : ¬ hd < tl) : x_Rest n S V h t le re wa ∧ ab_Rest K n S h cn := ⟨⟨G.1, G.2.1, fun m hm => (G.2.2.1 m hm).2 (fun q => by
  obtain ⟨p, h1, h2, -⟩ := q
  omega)⟩, G.2.2.2.2.rest ht⟩
/-- the new drop is looked at -/
theorem x_Rel.start {K n : Nat} {S V : Nat → Int32} {h s v : Int32} {t o : Nat → Int32} {cn : Nat} {cl : Int32} {le re wa qu : Nat → Int32} (R0 : ab_Rest K n S h cn) (R1 : x_Rest n S V h t le re wa) :
    ∃ wa' qu', x_look (upd le n (pb_left s h)) (upd re n (ab_rest s h v t)) (upd wa n 0) qu 0 cl n = (nI (ab_start n (upd S n s) (upd V n v) h t o cn cl).2.2.2.2.2.2.2, (ab_start n (upd S n s) (upd V n v) h t o cn cl).2.2.2.2.1, wa', qu') ∧
      x_Rel K (n + 1) (upd S n s) (upd V n v) h t cn (fun _ => n) 0 (ab_start n (upd S n s) (upd V n v) h t o cn cl).2.2.2.2.2.2.2 (upd le n (pb_left s h)) (upd re n (ab_rest s h v t)) wa' qu' := by
  obtain ⟨r1, r2, r3⟩ := R0
  obtain ⟨a, b, c⟩ := R1
  have hI := ab_Inv.start (V := V) (S := upd S n s) (n := n) r1 r2 (fun m hm => by rw [pk_un (Nat.ne_of_lt hm)]; exact r3 m hm)
  have A : ∀ m, m < n + 1 → upd le n (pb_left s h) m = pb_left (upd S n s m) h := by
    intro m hm
    by_cases e : m = n
    · rw [e, pk_us, pk_us]
    · rw [pk_un e, pk_un e]; exact a m (by omega)
  have B : ∀ m, m < n + 1 → upd re n (ab_rest s h v t) m = ab_rest (upd S n s m) h (upd V n v m) t := by
    intro m hm
    by_cases e : m = n
    · rw [e, pk_us, pk_us, pk_us]
    · rw [pk_un e, pk_un e, pk_un e]; exact b m (by omega)
  have C : ∀ m, m < n + 1 → upd wa n 0 m = 0 := by
    intro m hm
    by_cases e : m = n
    · rw [e, pk_us]
    · rw [pk_un e]; exact c m (by omega)
  unfold x_look ab_start
  dsimp only
  simp only [pk_us] at hI ⊢
  by_cases h1 : pb_pop (pb_left s h) = 1
  · rw [if_pos h1] at hI
    rw [if_pos ⟨h1, trivial⟩, if_pos h1, if_neg (fun q => by omega)]
    refine ⟨_, _, rfl, A, B, fun m hm => ?_, fun p hp => ?_, hI⟩
    · constructor
      · rintro ⟨p, -, -, g3⟩
        rw [← g3, pk_us]
      · intro q
        have e : m ≠ n := fun e => q ⟨0, Nat.le_refl 0, Nat.zero_lt_one, e.symm⟩
        rw [pk_un e]; exact C m hm
    · have e : p = 0 := by omega
      rw [e, pk_us]
  · rw [if_neg h1] at hI
    rw [if_neg (fun q => h1 q.1), if_neg h1]
    refine ⟨upd wa n 0, qu, ?_, A, B, fun m hm => ⟨fun q => by obtain ⟨p, -, g, -⟩ := q; exact absurd g (Nat.not_lt_zero p), fun _ => C m hm⟩, fun p hp => absurd hp (Nat.not_lt_zero p), hI⟩
    by_cases h2 : pb_pop (pb_left s h) = 0 ∧ ab_rest s h v t ≠ 0
    · rw [if_pos ⟨h2.1, trivial, h2.2⟩, if_pos h2]
    · rw [if_neg (fun q => h2 ⟨q.1, q.2.2⟩), if_neg h2]
abbrev a_h (a : ab_S) : Int32 := a.1
abbrev a_t (a : ab_S) : Nat → Int32 := a.2.1
abbrev a_o (a : ab_S) : Nat → Int32 := a.2.2.1
abbrev a_cn (a : ab_S) : Nat := a.2.2.2.1
abbrev a_cl (a : ab_S) : Int32 := a.2.2.2.2.1
abbrev a_qf (a : ab_S) : Nat → Nat := a.2.2.2.2.2.1
abbrev a_hd (a : ab_S) : Nat := a.2.2.2.2.2.2.1
abbrev a_tl (a : ab_S) : Nat := a.2.2.2.2.2.2.2
theorem ab_turn_skip {n : Nat} {S V : Nat → Int32} {h : Int32} {t o : Nat → Int32} {cn : Nat} {cl : Int32} {qf : Nat → Nat} {hd tl : Nat} (h0 : pb_left (S (qf hd)) h = 0) : ab_turn n S V (h, t, o, cn, cl, qf, hd, tl) = (h, t, o, cn, if ab_rest (S (qf hd)) h (V (qf hd)) t = 0 then cl else cl + 1, qf, hd + 1, tl) := if_pos h0
theorem ab_turn_learn {n : Nat} {S V : Nat → Int32} {h : Int32} {t o : Nat → Int32} {cn : Nat} {cl : Int32} {qf : Nat → Nat} {hd tl : Nat} (h0 : ¬ pb_left (S (qf hd)) h = 0) : ab_turn n S V (h, t, o, cn, cl, qf, hd, tl) = (h ||| pb_left (S (qf hd)) h, upd t (ab_w (pb_left (S (qf hd)) h)) (ab_rest (S (qf hd)) h (V (qf hd)) t), upd o cn (nI (ab_w (pb_left (S (qf hd)) h))), cn + 1, cl, (ab_pq (ab_P S (ab_w (pb_left (S (qf hd)) h)) (h ||| pb_left (S (qf hd)) h)) qf tl n).1, hd + 1, (ab_pq (ab_P S (ab_w (pb_left (S (qf hd)) h)) (h ||| pb_left (S (qf hd)) h)) qf tl n).2) := if_neg h0
theorem ab_Inv.stage {K n : Nat} {S : Nat → Int32} {h x : Int32} {cn w : Nat} {qf : Nat → Nat} {hd tl : Nat} (I : ab_Inv K n S h cn qf hd tl) (hx : ∀ j, bt x j = decide (j = w)) (hw : w < 32) (hn : bt h w = false) {j : Nat} (hj : j ≤ n) : (ab_pq (ab_P S w (h ||| x)) qf tl j).2 ≤ n := by
  obtain ⟨p1, p2, p3, p4, p5⟩ := ab_pq_spec (P := ab_P S w (h ||| x)) I.2.2.2.2.1 (I.fresh hx hw hn) j
  refine ab_pigeon n _ (ab_pq (ab_P S w (h ||| x)) qf tl j).1 (fun p hp => ?_) p4
  rcases Nat.lt_or_ge p tl with q | q
  · rw [p2 p q]; exact (I.2.2.2.1 p q).1
  · have := (p3 p q hp).1
    omega
/-- how many words there are, by the constructor's argument -/
def lk_K (i : Int32) (K : Nat) : Prop := 0 < K ∧ K ≤ 32 ∧ (0 ≤ i - i / 32 * 32 → 1 + (i - i / 32 * 32) = nI K) ∧ (¬ 0 ≤ i - i / 32 * 32 → 1 + ((i - i / 32 * 32) + 32) = nI K)
theorem lk_spec (i : Int32) : ∃ K, lk_K i K := by
  have h := rem_toInt i 32
  have hb := tmod_bounds (a := i.toInt) (M := 32) (by omega)
  rw [show (32 : Int32).toInt = 32 by decide] at h
  unfold lk_K
  generalize i - i / 32 * 32 = v at h ⊢
  have h1 : -32 < v.toInt ∧ v.toInt < 32 := by rw [h]; exact hb
  have key : ∀ y : Int32, 0 ≤ y.toInt → y.toInt < 32 → ∃ K, 0 < K ∧ K ≤ 32 ∧ 1 + y = nI K := by
    intro y a b
    refine ⟨y.toInt.toNat + 1, by omega, by omega, ?_⟩
    apply Int32.toInt_inj.mp
    rw [nI_toInt (by omega), Int32.toInt_add, show (1 : Int32).toInt = 1 by decide, Int.bmod_eq_of_le (by omega) (by omega)]
    omega
  by_cases hc : 0 ≤ v
  · have hc2 : 0 ≤ v.toInt := by
      have := Int32.le_iff_toInt_le.mp hc
      rwa [show (0 : Int32).toInt = 0 by decide] at this
    obtain ⟨K, k1, k2, k3⟩ := key v hc2 h1.2
    exact ⟨K, k1, k2, fun _ => k3, fun q => absurd hc q⟩
  · have hc2 : ¬ 0 ≤ v.toInt := fun q => hc (Int32.le_iff_toInt_le.mpr (by rw [show (0 : Int32).toInt = 0 by decide]; exact q))
    have e : (v + 32).toInt = v.toInt + 32 := by rw [Int32.toInt_add, show (32 : Int32).toInt = 32 by decide, Int.bmod_eq_of_le (by omega) (by omega)]
    obtain ⟨K, k1, k2, k3⟩ := key (v + 32) (by omega) (by omega)
    exact ⟨K, k1, k2, fun q => absurd q hc, fun _ => k3⟩
end
section
set_option maxHeartbeats 4000000 in
set_option maxRecDepth 100000 in
/-- a drop is looked at -/
theorem c_X_look (l : Launch) (D : va_G) (cI cZ : ClassId) (ad : Nat → Nat) (k dr he ha co cl st : Int32) (row tb le re wa qu wo od : Nat → Int32) (tl j : Nat) (htl : tl < 64) (hj : j < 60) : CtV l y_X_look b_X_look 3 1 0 0 D [(cI, .int), (cZ, .boolean)] [.ref (ad 0), .int (nI j)] (Xw cI cZ ad (k, dr, he, nI tl, ha, co, cl, st, row, tb, le, re, wa, qu, wo, od)) (fun (u : Int32 × Int32 × (Nat → Int32) × (Nat → Int32)) => u = x_look le re wa qu tl cl j) (fun u => Xw cI cZ ad (k, dr, he, u.1, ha, co, u.2.1, st, row, tb, le, re, u.2.2.1, u.2.2.2, wo, od)) := by
  refine CtV.of (by decide) (Nat.le_of_ble_eq_true rfl) ?_
  intro p e s m args below meth c A Q hin S hK hP hD hA hS hret ls hl
  have S : CallFix p m c b_X_look 3 s args gw_tbl R_X := S
  have hx := S.1
  have hb := S.2.1
  have hl : lv_has ls 3 [(0, .ref (ad 0)), (1, .int (nI j))] := hl
  have hpl := pb_pop_le (le j)
  refine lv_aload_n hx hb d_X_look_0 rfl (lv_at hl 0 rfl) ?_
  refine dc_get_X S hK hP 0 rfl fl_X_16 rfl d_X_look_1 ?_
  refine lv_iload_n hx hb d_X_look_4 rfl (lv_at hl 1 rfl) ?_
  refine dc_ild S hK hP 3 rfl (j := j) (rfl) (by omega) d_X_look_5 ?_
  refine dc_callS S ok_X_bits ml_X_49 (c_X_bits l D cI cZ (le j)) (As := [.int (le j)]) (rest := []) (wr := (Xw cI cZ ad (k, dr, he, nI tl, ha, co, cl, st, row, tb, le, re, wa, qu, wo, od))) ⟨Nat.le_of_ble_eq_true rfl, Nat.le_of_ble_eq_true rfl⟩ ⟨Nat.le_of_ble_eq_true rfl, Nat.le_of_ble_eq_true rfl⟩ hK hP hD hS hA [] [0, 1, 2, 3, 4, 5, 6, 7, 8] rfl rfl (by decide) (by decide) (by decide) rfl hl rfl (Nat.le_of_ble_eq_true rfl) d_X_look_6 (fun rb ub H locs hrb hP hD hS => ?_)
  have hP : va_P D classes (Xw cI cZ ad (k, dr, he, nI tl, ha, co, cl, st, row, tb, le, re, wa, qu, wo, od)) H := hP
  have hD : va_D A (Xw cI cZ ad (k, dr, he, nI tl, ha, co, cl, st, row, tb, le, re, wa, qu, wo, od)) := hD
  subst hrb
  refine lv_istore_n (lv' := [(2, .int (nI (pb_pop (le j)))), (0, .ref (ad 0)), (1, .int (nI j))]) hx hb d_X_look_9 rfl hl (by decide) rfl (fun ls hl => ?_)
  refine lv_iload_n hx hb d_X_look_10 rfl (lv_at hl 0 rfl) ?_
  refine lv_iconst (v := 1) hx hb d_X_look_11 (by decide) ?_
  refine lv_icmp_ne (tgt := 54) hx hb d_X_look_12 (by decide) (fun hc => ?_) (fun hc => ?_)
  · refine lv_iload_n hx hb d_X_look_54 rfl (lv_at hl 0 rfl) ?_
    refine lv_if_ne (tgt := 86) hx hb d_X_look_55 (by decide) (fun hc4 => ?_) (fun hc4 => ?_)
    · have e0 : pb_pop (le j) ≠ 0 := zi_ne (b := 0) hc4
      exact hret _ _ _ _ ((nI tl, cl, wa, qu)) d_X_look_86 (by unfold x_look; rw [if_neg (fun q => hc (by rw [q.1]; rfl)), if_neg (fun q => e0 q.1)]) hP hD hS
    · have e0 : pb_pop (le j) = 0 := zi_eq (b := 0) hc4
      refine lv_aload_n hx hb d_X_look_58 rfl (lv_at hl 1 rfl) ?_
      refine dc_get_X S hK hP 0 rfl fl_X_22 rfl d_X_look_59 ?_
      refine lv_iload_n hx hb d_X_look_62 rfl (lv_at hl 2 rfl) ?_
      refine dc_zld S hK hP 5 rfl (j := j) (rfl) (by omega) d_X_look_63 ?_
      refine lv_if_ne (tgt := 86) hx hb d_X_look_64 (by decide) (fun hc5 => ?_) (fun hc5 => ?_)
      · exact hret _ _ _ _ ((nI tl, cl, wa, qu)) d_X_look_86 (by unfold x_look; rw [if_neg (fun q => hc (by rw [q.1]; rfl)), if_neg (fun q => hc5 q.2.1)]) hP hD hS
      · refine lv_aload_n hx hb d_X_look_67 rfl (lv_at hl 1 rfl) ?_
        refine dc_get_X S hK hP 0 rfl fl_X_19 rfl d_X_look_68 ?_
        refine lv_iload_n hx hb d_X_look_71 rfl (lv_at hl 2 rfl) ?_
        refine dc_ild S hK hP 4 rfl (j := j) (rfl) (by omega) d_X_look_72 ?_
        refine lv_if_eq (tgt := 86) hx hb d_X_look_73 (by decide) (fun hc6 => ?_) (fun hc6 => ?_)
        · exact hret _ _ _ _ ((nI tl, cl, wa, qu)) d_X_look_86 (by unfold x_look; rw [if_neg (fun q => hc (by rw [q.1]; rfl)), if_neg (fun q => q.2.2 hc6)]) hP hD hS
        · refine lv_aload_n hx hb d_X_look_76 rfl (lv_at hl 1 rfl) ?_
          refine lv_dup hx hb d_X_look_77 rfl ?_
          refine dc_get_X S hK hP 0 rfl fl_X_86 rfl d_X_look_78 ?_
          refine lv_iconst (v := 1) hx hb d_X_look_81 (by decide) ?_
          refine lv_iadd hx hb d_X_look_82 ?_
          refine dc_put_X S hK hP hD hS 0 rfl fl_X_86 (Nat.le_of_ble_eq_true rfl) d_X_look_83 (fun H locs (hP : va_P D classes (Xw cI cZ ad (k, dr, he, nI tl, ha, co, (cl + 1), st, row, tb, le, re, wa, qu, wo, od)) H) (hD : va_D A (Xw cI cZ ad (k, dr, he, nI tl, ha, co, (cl + 1), st, row, tb, le, re, wa, qu, wo, od))) hS => ?_)
          exact hret _ _ _ _ ((nI tl, cl + 1, wa, qu)) d_X_look_86 (by unfold x_look; rw [if_neg (fun q => hc (by rw [q.1]; rfl)), if_pos ⟨e0, hc5, hc6⟩]) hP hD hS
  · have e1 : pb_pop (le j) = 1 := zi_eq (b := 1) hc
    refine lv_aload_n hx hb d_X_look_15 rfl (lv_at hl 1 rfl) ?_
    refine dc_get_X S hK hP 0 rfl fl_X_22 rfl d_X_look_16 ?_
    refine lv_iload_n hx hb d_X_look_19 rfl (lv_at hl 2 rfl) ?_
    refine dc_zld S hK hP 5 rfl (j := j) (rfl) (by omega) d_X_look_20 ?_
    refine lv_if_ne (tgt := 54) hx hb d_X_look_21 (by decide) (fun hc2 => ?_) (fun hc2 => ?_)
    · refine lv_iload_n hx hb d_X_look_54 rfl (lv_at hl 0 rfl) ?_
      refine lv_if_ne (tgt := 86) hx hb d_X_look_55 (by decide) (fun hc4 => ?_) (fun hc4 => ?_)
      · have e0 : pb_pop (le j) ≠ 0 := zi_ne (b := 0) hc4
        exact hret _ _ _ _ ((nI tl, cl, wa, qu)) d_X_look_86 (by unfold x_look; rw [if_neg (fun q => hc2 q.2), if_neg (fun q => e0 q.1)]) hP hD hS
      · have e0 : pb_pop (le j) = 0 := zi_eq (b := 0) hc4
        exact absurd hc (by rw [e0]; decide)
    · refine lv_aload_n hx hb d_X_look_24 rfl (lv_at hl 1 rfl) ?_
      refine dc_get_X S hK hP 0 rfl fl_X_22 rfl d_X_look_25 ?_
      refine lv_iload_n hx hb d_X_look_28 rfl (lv_at hl 2 rfl) ?_
      refine lv_iconst (v := 1) hx hb d_X_look_29 (by decide) ?_
      refine dc_zst S hK hP hD hS 5 rfl (j := j) (rfl) (by omega) rfl d_X_look_30 (fun H locs (hP : va_P D classes (Xw cI cZ ad (k, dr, he, nI tl, ha, co, cl, st, row, tb, le, re, upd wa j 1, qu, wo, od)) H) (hD : va_D A (Xw cI cZ ad (k, dr, he, nI tl, ha, co, cl, st, row, tb, le, re, upd wa j 1, qu, wo, od))) hS => ?_)
      refine lv_aload_n hx hb d_X_look_31 rfl (lv_at hl 1 rfl) ?_
      refine dc_get_X S hK hP 0 rfl fl_X_26 rfl d_X_look_32 ?_
      refine lv_aload_n hx hb d_X_look_35 rfl (lv_at hl 1 rfl) ?_
      refine dc_get_X S hK hP 0 rfl fl_X_77 rfl d_X_look_36 ?_
      refine lv_iload_n hx hb d_X_look_39 rfl (lv_at hl 2 rfl) ?_
      refine dc_ist S hK hP hD hS 6 rfl (j := tl) (rfl) (by omega) d_X_look_40 (fun H locs (hP : va_P D classes (Xw cI cZ ad (k, dr, he, nI tl, ha, co, cl, st, row, tb, le, re, upd wa j 1, upd qu tl (nI j), wo, od)) H) (hD : va_D A (Xw cI cZ ad (k, dr, he, nI tl, ha, co, cl, st, row, tb, le, re, upd wa j 1, upd qu tl (nI j), wo, od))) hS => ?_)
      refine lv_aload_n hx hb d_X_look_41 rfl (lv_at hl 1 rfl) ?_
      refine lv_dup hx hb d_X_look_42 rfl ?_
      refine dc_get_X S hK hP 0 rfl fl_X_77 rfl d_X_look_43 ?_
      refine lv_iconst (v := 1) hx hb d_X_look_46 (by decide) ?_
      refine lv_iadd hx hb d_X_look_47 ?_
      refine dc_nrm (y := nI (tl + 1)) (nI_1 _) ?_
      refine dc_put_X S hK hP hD hS 0 rfl fl_X_77 (Nat.le_of_ble_eq_true rfl) d_X_look_48 (fun H locs (hP : va_P D classes (Xw cI cZ ad (k, dr, he, (nI (tl + 1)), ha, co, cl, st, row, tb, le, re, upd wa j 1, upd qu tl (nI j), wo, od)) H) (hD : va_D A (Xw cI cZ ad (k, dr, he, (nI (tl + 1)), ha, co, cl, st, row, tb, le, re, upd wa j 1, upd qu tl (nI j), wo, od))) hS => ?_)
      refine lv_goto (tgt := 86) hx hb d_X_look_51 (by decide) ?_
      exact hret _ _ _ _ ((nI (tl + 1), cl, upd wa j 1, upd qu tl (nI j))) d_X_look_86 (by unfold x_look; rw [if_pos ⟨e1, hc2⟩]) hP hD hS
set_option maxHeartbeats 4000000 in
set_option maxRecDepth 100000 in
/-- the first that waits has its turn -/
theorem c_X_turn (l : Launch) (D : va_G) (cI cZ : ClassId) (ad : Nat → Nat) (k cl st : Int32) (row tb le re wa qu : Nat → Int32) (K n : Nat) (Sm Vm : Nat → Int32) (h : Int32) (t o : Nat → Int32) (cn : Nat) (qf : Nat → Nat) (hd tl : Nat) (hK32 : K ≤ 32) (hn60 : n ≤ 60) (hSK : ∀ m, m < n → ∀ i, bt (Sm m) i = true → i < K) (G : x_Rel K n Sm Vm h t cn qf hd tl le re wa qu) (ht : hd < tl) : CtV l y_X_turn b_X_turn 5 2 0 0 D [(cI, .int), (cZ, .boolean)] [.ref (ad 0)] (Xw cI cZ ad (k, nI n, nI hd, nI tl, h, nI cn, cl, st, row, tb, le, re, wa, qu, t, o)) (fun (u : ab_S × (Nat → Int32) × (Nat → Int32) × (Nat → Int32) × (Nat → Int32)) => u.1 = ab_turn n Sm Vm (h, t, o, cn, cl, qf, hd, tl) ∧ x_Rel K n Sm Vm (a_h u.1) (a_t u.1) (a_cn u.1) (a_qf u.1) (a_hd u.1) (a_tl u.1) u.2.1 u.2.2.1 u.2.2.2.1 u.2.2.2.2) (fun u => Xw cI cZ ad (k, nI n, nI (a_hd u.1), nI (a_tl u.1), a_h u.1, nI (a_cn u.1), a_cl u.1, st, row, tb, u.2.1, u.2.2.1, u.2.2.2.1, u.2.2.2.2, a_t u.1, a_o u.1)) := by
  refine CtV.of (by decide) (Nat.le_of_ble_eq_true rfl) ?_
  intro p e s m args below meth c A Q hin S hK hP hD hA hS hret ls hl
  have S : CallFix p m c b_X_turn 5 s args gw_tbl R_X := S
  have hx := S.1
  have hb := S.2.1
  have hl : lv_has ls 5 [(0, .ref (ad 0))] := hl
  obtain ⟨Ga, Gb, Gc, Gd, GI⟩ := id G
  obtain ⟨hcur, hpop⟩ := GI.2.2.2.1 hd ht
  have htl := GI.tl
  refine lv_aload_n hx hb d_X_turn_0 rfl (lv_at hl 0 rfl) ?_
  refine dc_get_X S hK hP 0 rfl fl_X_26 rfl d_X_turn_1 ?_
  refine lv_aload_n hx hb d_X_turn_4 rfl (lv_at hl 0 rfl) ?_
  refine dc_get_X S hK hP 0 rfl fl_X_74 rfl d_X_turn_5 ?_
  refine dc_ild S hK hP 6 rfl (j := hd) (rfl) (by omega) d_X_turn_8 ?_
  refine dc_nrm (y := nI (qf hd)) (Gd hd ht) ?_
  refine lv_istore_n (lv' := [(1, .int (nI (qf hd))), (0, .ref (ad 0))]) hx hb d_X_turn_9 rfl hl (by decide) rfl (fun ls hl => ?_)
  refine lv_aload_n hx hb d_X_turn_10 rfl (lv_at hl 1 rfl) ?_
  refine lv_dup hx hb d_X_turn_11 rfl ?_
  refine dc_get_X S hK hP 0 rfl fl_X_74 rfl d_X_turn_12 ?_
  refine lv_iconst (v := 1) hx hb d_X_turn_15 (by decide) ?_
  refine lv_iadd hx hb d_X_turn_16 ?_
  refine dc_nrm (y := nI (hd + 1)) (nI_1 _) ?_
  refine dc_put_X S hK hP hD hS 0 rfl fl_X_74 (Nat.le_of_ble_eq_true rfl) d_X_turn_17 (fun H locs (hP : va_P D classes (Xw cI cZ ad (k, nI n, (nI (hd + 1)), nI tl, h, nI cn, cl, st, row, tb, le, re, wa, qu, t, o)) H) (hD : va_D A (Xw cI cZ ad (k, nI n, (nI (hd + 1)), nI tl, h, nI cn, cl, st, row, tb, le, re, wa, qu, t, o))) hS => ?_)
  refine lv_aload_n hx hb d_X_turn_20 rfl (lv_at hl 1 rfl) ?_
  refine dc_get_X S hK hP 0 rfl fl_X_22 rfl d_X_turn_21 ?_
  refine lv_iload_n hx hb d_X_turn_24 rfl (lv_at hl 0 rfl) ?_
  refine lv_iconst (v := 0) hx hb d_X_turn_25 (by decide) ?_
  refine dc_zst S hK hP hD hS 5 rfl (j := qf hd) (rfl) (by omega) rfl d_X_turn_26 (fun H locs (hP : va_P D classes (Xw cI cZ ad (k, nI n, (nI (hd + 1)), nI tl, h, nI cn, cl, st, row, tb, le, re, upd wa (qf hd) 0, qu, t, o)) H) (hD : va_D A (Xw cI cZ ad (k, nI n, (nI (hd + 1)), nI tl, h, nI cn, cl, st, row, tb, le, re, upd wa (qf hd) 0, qu, t, o))) hS => ?_)
  refine lv_aload_n hx hb d_X_turn_27 rfl (lv_at hl 1 rfl) ?_
  refine dc_get_X S hK hP 0 rfl fl_X_16 rfl d_X_turn_28 ?_
  refine lv_iload_n hx hb d_X_turn_31 rfl (lv_at hl 0 rfl) ?_
  refine dc_ild S hK hP 3 rfl (j := qf hd) (rfl) (by omega) d_X_turn_32 ?_
  refine dc_nrm (y := pb_left (Sm (qf hd)) h) (Ga _ hcur) ?_
  refine lv_if_ne (tgt := 56) hx hb d_X_turn_33 (by decide) (fun hc => ?_) (fun hc => ?_)
  · obtain ⟨hwK, hx1, hcw, hnw⟩ := GI.word hSK ht hc
    obtain ⟨ol, orr⟩ := ab_own (v := Vm (qf hd)) (t := t) hx1 (by omega) hnw hcw rfl
    obtain ⟨x, hxe⟩ : ∃ x, x = pb_left (Sm (qf hd)) h := ⟨_, rfl⟩
    obtain ⟨wd, hwe⟩ : ∃ wd, wd = ab_w x := ⟨_, rfl⟩
    obtain ⟨r, hre⟩ : ∃ r, r = ab_rest (Sm (qf hd)) h (Vm (qf hd)) t := ⟨_, rfl⟩
    rw [← hre] at orr
    rw [← hxe] at hwK hx1 hcw hnw ol orr
    rw [← hwe] at hwK hx1 hcw hnw orr
    have hcn : cn < K := by rw [GI.2.1]; exact ab_cn_lt hx1 hwK hK32 hnw GI.1
    refine lv_aload_n hx hb d_X_turn_56 rfl (lv_at hl 1 rfl) ?_
    refine dc_get_X S hK hP 0 rfl fl_X_16 rfl d_X_turn_57 ?_
    refine lv_iload_n hx hb d_X_turn_60 rfl (lv_at hl 0 rfl) ?_
    refine dc_ild S hK hP 3 rfl (j := qf hd) (rfl) (by omega) d_X_turn_61 ?_
    refine dc_nrm (y := x) ((Ga _ hcur).trans hxe.symm) ?_
    refine lv_istore_n (lv' := [(2, .int x), (1, .int (nI (qf hd))), (0, .ref (ad 0))]) hx hb d_X_turn_62 rfl hl (by decide) rfl (fun ls hl => ?_)
    refine lv_iconst (v := 0) hx hb d_X_turn_63 (by decide) ?_
    refine lv_istore_n (lv' := [(3, .int 0), (2, .int x), (1, .int (nI (qf hd))), (0, .ref (ad 0))]) hx hb d_X_turn_64 rfl hl (by decide) rfl (fun ls hl => ?_)
    have exit : ∀ ls : Array Slot, lv_has ls 5 [(3, .int (nI wd)), (2, .int x), (1, .int (nI (qf hd))), (0, .ref (ad 0))] → W p l e (rmD 2 0 0) s m args below meth c H locs 0 0 Q (F0 m 78 ls []) := by
      intro ls hl
      refine lv_aload_n hx hb d_X_turn_78 rfl (lv_at hl 3 rfl) ?_
      refine dc_get_X S hK hP 0 rfl fl_X_29 rfl d_X_turn_79 ?_
      refine lv_iload_n hx hb d_X_turn_82 rfl (lv_at hl 0 rfl) ?_
      refine lv_aload_n hx hb d_X_turn_83 rfl (lv_at hl 3 rfl) ?_
      refine dc_get_X S hK hP 0 rfl fl_X_19 rfl d_X_turn_84 ?_
      refine lv_iload_n hx hb d_X_turn_87 rfl (lv_at hl 2 rfl) ?_
      refine dc_ild S hK hP 4 rfl (j := qf hd) (rfl) (by omega) d_X_turn_88 ?_
      refine dc_nrm (y := r) ((Gb _ hcur).trans hre.symm) ?_
      refine dc_ist S hK hP hD hS 7 rfl (j := wd) (rfl) (by omega) d_X_turn_89 (fun H locs (hP : va_P D classes (Xw cI cZ ad (k, nI n, (nI (hd + 1)), nI tl, h, nI cn, cl, st, row, tb, le, re, upd wa (qf hd) 0, qu, upd t wd r, o)) H) (hD : va_D A (Xw cI cZ ad (k, nI n, (nI (hd + 1)), nI tl, h, nI cn, cl, st, row, tb, le, re, upd wa (qf hd) 0, qu, upd t wd r, o))) hS => ?_)
      refine lv_aload_n hx hb d_X_turn_90 rfl (lv_at hl 3 rfl) ?_
      refine dc_get_X S hK hP 0 rfl fl_X_32 rfl d_X_turn_91 ?_
      refine lv_aload_n hx hb d_X_turn_94 rfl (lv_at hl 3 rfl) ?_
      refine dc_get_X S hK hP 0 rfl fl_X_83 rfl d_X_turn_95 ?_
      refine lv_iload_n hx hb d_X_turn_98 rfl (lv_at hl 0 rfl) ?_
      refine dc_ist S hK hP hD hS 8 rfl (j := cn) (rfl) (by omega) d_X_turn_99 (fun H locs (hP : va_P D classes (Xw cI cZ ad (k, nI n, (nI (hd + 1)), nI tl, h, nI cn, cl, st, row, tb, le, re, upd wa (qf hd) 0, qu, upd t wd r, upd o cn (nI wd))) H) (hD : va_D A (Xw cI cZ ad (k, nI n, (nI (hd + 1)), nI tl, h, nI cn, cl, st, row, tb, le, re, upd wa (qf hd) 0, qu, upd t wd r, upd o cn (nI wd)))) hS => ?_)
      refine lv_aload_n hx hb d_X_turn_100 rfl (lv_at hl 3 rfl) ?_
      refine lv_dup hx hb d_X_turn_101 rfl ?_
      refine dc_get_X S hK hP 0 rfl fl_X_83 rfl d_X_turn_102 ?_
      refine lv_iconst (v := 1) hx hb d_X_turn_105 (by decide) ?_
      refine lv_iadd hx hb d_X_turn_106 ?_
      refine dc_nrm (y := nI (cn + 1)) (nI_1 _) ?_
      refine dc_put_X S hK hP hD hS 0 rfl fl_X_83 (Nat.le_of_ble_eq_true rfl) d_X_turn_107 (fun H locs (hP : va_P D classes (Xw cI cZ ad (k, nI n, (nI (hd + 1)), nI tl, h, (nI (cn + 1)), cl, st, row, tb, le, re, upd wa (qf hd) 0, qu, upd t wd r, upd o cn (nI wd))) H) (hD : va_D A (Xw cI cZ ad (k, nI n, (nI (hd + 1)), nI tl, h, (nI (cn + 1)), cl, st, row, tb, le, re, upd wa (qf hd) 0, qu, upd t wd r, upd o cn (nI wd)))) hS => ?_)
      refine lv_aload_n hx hb d_X_turn_110 rfl (lv_at hl 3 rfl) ?_
      refine lv_dup hx hb d_X_turn_111 rfl ?_
      refine dc_get_X S hK hP 0 rfl fl_X_67 rfl d_X_turn_112 ?_
      refine lv_iload_n hx hb d_X_turn_115 rfl (lv_at hl 1 rfl) ?_
      refine lv_ior hx hb d_X_turn_116 ?_
      refine dc_put_X S hK hP hD hS 0 rfl fl_X_67 (Nat.le_of_ble_eq_true rfl) d_X_turn_117 (fun H locs (hP : va_P D classes (Xw cI cZ ad (k, nI n, (nI (hd + 1)), nI tl, (h ||| x), (nI (cn + 1)), cl, st, row, tb, le, re, upd wa (qf hd) 0, qu, upd t wd r, upd o cn (nI wd))) H) (hD : va_D A (Xw cI cZ ad (k, nI n, (nI (hd + 1)), nI tl, (h ||| x), (nI (cn + 1)), cl, st, row, tb, le, re, upd wa (qf hd) 0, qu, upd t wd r, upd o cn (nI wd)))) hS => ?_)
      refine lv_aload_n hx hb d_X_turn_120 rfl (lv_at hl 3 rfl) ?_
      refine dc_get_X S hK hP 0 rfl fl_X_16 rfl d_X_turn_121 ?_
      refine lv_iload_n hx hb d_X_turn_124 rfl (lv_at hl 2 rfl) ?_
      refine lv_iconst (v := 0) hx hb d_X_turn_125 (by decide) ?_
      refine dc_ist S hK hP hD hS 3 rfl (j := qf hd) (rfl) (by omega) d_X_turn_126 (fun H locs (hP : va_P D classes (Xw cI cZ ad (k, nI n, (nI (hd + 1)), nI tl, (h ||| x), (nI (cn + 1)), cl, st, row, tb, upd le (qf hd) 0, re, upd wa (qf hd) 0, qu, upd t wd r, upd o cn (nI wd))) H) (hD : va_D A (Xw cI cZ ad (k, nI n, (nI (hd + 1)), nI tl, (h ||| x), (nI (cn + 1)), cl, st, row, tb, upd le (qf hd) 0, re, upd wa (qf hd) 0, qu, upd t wd r, upd o cn (nI wd)))) hS => ?_)
      refine lv_aload_n hx hb d_X_turn_127 rfl (lv_at hl 3 rfl) ?_
      refine dc_get_X S hK hP 0 rfl fl_X_19 rfl d_X_turn_128 ?_
      refine lv_iload_n hx hb d_X_turn_131 rfl (lv_at hl 2 rfl) ?_
      refine lv_iconst (v := 0) hx hb d_X_turn_132 (by decide) ?_
      refine dc_ist S hK hP hD hS 4 rfl (j := qf hd) (rfl) (by omega) d_X_turn_133 (fun H locs (hP : va_P D classes (Xw cI cZ ad (k, nI n, (nI (hd + 1)), nI tl, (h ||| x), (nI (cn + 1)), cl, st, row, tb, upd le (qf hd) 0, upd re (qf hd) 0, upd wa (qf hd) 0, qu, upd t wd r, upd o cn (nI wd))) H) (hD : va_D A (Xw cI cZ ad (k, nI n, (nI (hd + 1)), nI tl, (h ||| x), (nI (cn + 1)), cl, st, row, tb, upd le (qf hd) 0, upd re (qf hd) 0, upd wa (qf hd) 0, qu, upd t wd r, upd o cn (nI wd)))) hS => ?_)
      refine lv_iconst (v := 0) hx hb d_X_turn_134 (by decide) ?_
      refine lv_istore (lv' := [(4, .int 0), (3, .int (nI wd)), (2, .int x), (1, .int (nI (qf hd))), (0, .ref (ad 0))]) hx hb d_X_turn_135 hl (by decide) rfl (fun ls hl => ?_)
      have loop : ∀ (f j : Nat), n < j + f → j ≤ n → ∀ (le re wa qu : Nat → Int32), x_Stg n Sm Vm h x r t qf hd tl wd j le re wa qu → ∀ (H : Heap) (locs : List Loc) (ls : Array Slot), va_P D classes (Xw cI cZ ad (k, nI n, (nI (hd + 1)), nI (ab_pq (ab_P Sm wd (h ||| x)) qf tl j).2, (h ||| x), (nI (cn + 1)), cl, st, row, tb, le, re, wa, qu, upd t wd r, upd o cn (nI wd))) H → va_D A (Xw cI cZ ad (k, nI n, (nI (hd + 1)), nI (ab_pq (ab_P Sm wd (h ||| x)) qf tl j).2, (h ||| x), (nI (cn + 1)), cl, st, row, tb, le, re, wa, qu, upd t wd r, upd o cn (nI wd))) → va_S A s.heap H locs → lv_has ls 5 [(4, .int (nI j)), (3, .int (nI wd)), (2, .int x), (1, .int (nI (qf hd))), (0, .ref (ad 0))] → W p l e (rmD 2 0 0) s m args below meth c H locs 0 0 Q (F0 m 137 ls []) := by
        intro f
        induction f with
        | zero => intro j h1 h2; exact absurd h1 (by omega)
        | succ f ih =>
          intro j hf hj le re wa qu G1 H locs ls hP hD hS hl
          have hst := GI.stage hx1 (by omega) hnw hj
          refine lv_iload hx hb d_X_turn_137 (lv_at hl 0 rfl) ?_
          refine lv_aload_n hx hb d_X_turn_139 rfl (lv_at hl 4 rfl) ?_
          refine dc_get_X S hK hP 0 rfl fl_X_64 rfl d_X_turn_140 ?_
          refine lv_icmp_ge (tgt := 202) hx hb d_X_turn_143 (by decide) (fun hc2 => ?_) (fun hc2 => ?_)
          · have e0 : j = n := Nat.le_antisymm hj (zi_le hc2)
            subst e0
            exact hret _ _ _ _ ((h ||| x, upd t wd r, upd o cn (nI wd), cn + 1, cl, (ab_pq (ab_P Sm wd (h ||| x)) qf tl j).1, hd + 1, (ab_pq (ab_P Sm wd (h ||| x)) qf tl j).2), le, re, wa, qu) d_X_turn_202 (⟨by subst hre; subst hwe; subst hxe; exact (ab_turn_learn hc).symm, x_Stg.last GI ht hx1 hwK hK32 hnw hcw G1⟩) hP hD hS
          · have hlt := zi_nle hc2
            refine lv_aload_n hx hb d_X_turn_146 rfl (lv_at hl 4 rfl) ?_
            refine dc_get_X S hK hP 0 rfl fl_X_16 rfl d_X_turn_147 ?_
            refine lv_iload hx hb d_X_turn_150 (lv_at hl 0 rfl) ?_
            refine dc_ild S hK hP 3 rfl (j := j) (rfl) (by omega) d_X_turn_152 ?_
            refine lv_iload_n hx hb d_X_turn_153 rfl (lv_at hl 2 rfl) ?_
            refine lv_iand hx hb d_X_turn_154 ?_
            refine lv_if_ne (tgt := 161) hx hb d_X_turn_155 (by decide) (fun hc3 => ?_) (fun hc3 => ?_)
            · refine lv_aload_n hx hb d_X_turn_161 rfl (lv_at hl 4 rfl) ?_
              refine dc_get_X S hK hP 0 rfl fl_X_16 rfl d_X_turn_162 ?_
              refine lv_iload hx hb d_X_turn_165 (lv_at hl 0 rfl) ?_
              refine lv_dup2_11 hx hb d_X_turn_167 rfl rfl ?_
              refine dc_ild S hK hP 3 rfl (j := j) (rfl) (by omega) d_X_turn_168 ?_
              refine lv_iload_n hx hb d_X_turn_169 rfl (lv_at hl 2 rfl) ?_
              refine lv_iconst (v := (-1)) hx hb d_X_turn_170 (by decide) ?_
              refine lv_ixor hx hb d_X_turn_171 ?_
              refine lv_iand hx hb d_X_turn_172 ?_
              refine dc_ist S hK hP hD hS 3 rfl (j := j) (rfl) (by omega) d_X_turn_173 (fun H locs (hP : va_P D classes (Xw cI cZ ad (k, nI n, (nI (hd + 1)), nI (ab_pq (ab_P Sm wd (h ||| x)) qf tl j).2, (h ||| x), (nI (cn + 1)), cl, st, row, tb, upd le j ((le j) &&& (x ^^^ (-1))), re, wa, qu, upd t wd r, upd o cn (nI wd))) H) (hD : va_D A (Xw cI cZ ad (k, nI n, (nI (hd + 1)), nI (ab_pq (ab_P Sm wd (h ||| x)) qf tl j).2, (h ||| x), (nI (cn + 1)), cl, st, row, tb, upd le j ((le j) &&& (x ^^^ (-1))), re, wa, qu, upd t wd r, upd o cn (nI wd)))) hS => ?_)
              refine lv_aload_n hx hb d_X_turn_174 rfl (lv_at hl 4 rfl) ?_
              refine dc_get_X S hK hP 0 rfl fl_X_19 rfl d_X_turn_175 ?_
              refine lv_iload hx hb d_X_turn_178 (lv_at hl 0 rfl) ?_
              refine lv_dup2_11 hx hb d_X_turn_180 rfl rfl ?_
              refine dc_ild S hK hP 4 rfl (j := j) (rfl) (by omega) d_X_turn_181 ?_
              refine lv_aload_n hx hb d_X_turn_182 rfl (lv_at hl 4 rfl) ?_
              refine dc_get_X S hK hP 0 rfl fl_X_29 rfl d_X_turn_183 ?_
              refine lv_iload_n hx hb d_X_turn_186 rfl (lv_at hl 1 rfl) ?_
              refine dc_ild S hK hP 7 rfl (j := wd) (rfl) (by omega) d_X_turn_187 ?_
              refine dc_nrm (y := r) (pk_us) ?_
              refine lv_ixor hx hb d_X_turn_188 ?_
              refine dc_ist S hK hP hD hS 4 rfl (j := j) (rfl) (by omega) d_X_turn_189 (fun H locs (hP : va_P D classes (Xw cI cZ ad (k, nI n, (nI (hd + 1)), nI (ab_pq (ab_P Sm wd (h ||| x)) qf tl j).2, (h ||| x), (nI (cn + 1)), cl, st, row, tb, upd le j ((le j) &&& (x ^^^ (-1))), upd re j ((re j) ^^^ r), wa, qu, upd t wd r, upd o cn (nI wd))) H) (hD : va_D A (Xw cI cZ ad (k, nI n, (nI (hd + 1)), nI (ab_pq (ab_P Sm wd (h ||| x)) qf tl j).2, (h ||| x), (nI (cn + 1)), cl, st, row, tb, upd le j ((le j) &&& (x ^^^ (-1))), upd re j ((re j) ^^^ r), wa, qu, upd t wd r, upd o cn (nI wd)))) hS => ?_)
              refine lv_aload_n hx hb d_X_turn_190 rfl (lv_at hl 4 rfl) ?_
              refine lv_iload hx hb d_X_turn_191 (lv_at hl 0 rfl) ?_
              refine dc_callV S ok_X_look ml_X_70 (c_X_look l D cI cZ ad k (nI n) (nI (hd + 1)) (h ||| x) (nI (cn + 1)) cl st row tb (upd le j ((le j) &&& (x ^^^ (-1)))) (upd re j ((re j) ^^^ r)) wa qu (upd t wd r) (upd o cn (nI wd)) (ab_pq (ab_P Sm wd (h ||| x)) qf tl j).2 j (by omega) (by omega)) (As := [.int (nI j)]) (rest := []) (wr := []) ⟨Nat.le_of_ble_eq_true rfl, Nat.le_of_ble_eq_true rfl⟩ ⟨Nat.le_of_ble_eq_true rfl, Nat.le_of_ble_eq_true rfl⟩ hK hP hD hS hA [0, 1, 2, 3, 4, 5, 6, 7, 8] [] rfl rfl (by decide) (by decide) (by decide) rfl rfl rfl hl rfl (Nat.le_of_ble_eq_true rfl) d_X_turn_193 (fun ul H locs hul hP hD hS => ?_)
              obtain ⟨wa2, qu2, e2, G2⟩ := x_Stg.step GI ht G1 hlt hx1 (by omega) hnw ol hc3 cl
              rw [e2] at hul
              subst hul
              have hP : va_P D classes (Xw cI cZ ad (k, nI n, (nI (hd + 1)), nI (ab_pq (ab_P Sm wd (h ||| x)) qf tl (j + 1)).2, (h ||| x), (nI (cn + 1)), cl, st, row, tb, upd le j ((le j) &&& (x ^^^ (-1))), upd re j ((re j) ^^^ r), wa2, qu2, upd t wd r, upd o cn (nI wd))) H := hP
              have hD : va_D A (Xw cI cZ ad (k, nI n, (nI (hd + 1)), nI (ab_pq (ab_P Sm wd (h ||| x)) qf tl (j + 1)).2, (h ||| x), (nI (cn + 1)), cl, st, row, tb, upd le j ((le j) &&& (x ^^^ (-1))), upd re j ((re j) ^^^ r), wa2, qu2, upd t wd r, upd o cn (nI wd))) := hD
              refine lv_iinc (v := nI (j + 1)) (lv' := [(4, .int (nI (j + 1))), (3, .int (nI wd)), (2, .int x), (1, .int (nI (qf hd))), (0, .ref (ad 0))]) hx hb d_X_turn_196 hl (k := 0) rfl (nI_1 _) (by decide) rfl (fun ls hl => ?_)
              refine lv_goto (tgt := 137) hx hb d_X_turn_199 (by decide) ?_
              exact ih (j + 1) (by omega) hlt _ _ _ _ G2 _ _ ls hP hD hS hl
            · obtain ⟨G2, e2⟩ := G1.skip hlt hx1 (by omega) hnw hcw ol hc3
              refine lv_goto (tgt := 196) hx hb d_X_turn_158 (by decide) ?_
              refine lv_iinc (v := nI (j + 1)) (lv' := [(4, .int (nI (j + 1))), (3, .int (nI wd)), (2, .int x), (1, .int (nI (qf hd))), (0, .ref (ad 0))]) hx hb d_X_turn_196 hl (k := 0) rfl (nI_1 _) (by decide) rfl (fun ls hl => ?_)
              refine lv_goto (tgt := 137) hx hb d_X_turn_199 (by decide) ?_
              exact ih (j + 1) (by omega) hlt le re wa qu G2 _ _ ls (by rw [e2]; exact hP) (by rw [e2]; exact hD) hS hl
      exact loop (n + 1) 0 (by omega) (by omega) _ _ _ _ (x_Stg.zero G ht ol orr) _ _ ls hP hD hS hl
    have loop0 : ∀ (f i : Nat), wd < i + f → i ≤ wd → ∀ ls : Array Slot, lv_has ls 5 [(3, .int (nI i)), (2, .int x), (1, .int (nI (qf hd))), (0, .ref (ad 0))] → W p l e (rmD 2 0 0) s m args below meth c H locs 0 0 Q (F0 m 65 ls []) := by
      intro f
      induction f with
      | zero => intro i h1 h2; exact absurd h1 (by omega)
      | succ f ih =>
        intro i hf hi ls hl
        refine lv_iload_n hx hb d_X_turn_65 rfl (lv_at hl 1 rfl) ?_
        refine lv_iload_n hx hb d_X_turn_66 rfl (lv_at hl 0 rfl) ?_
        refine lv_iushr (v := ((x).toUInt32 >>> (((nI i) : Int32).toUInt32 &&& Int32.toUInt32 31)).toInt32) hx hb d_X_turn_67 (rfl) ?_
        refine lv_iconst (v := 1) hx hb d_X_turn_68 (by decide) ?_
        refine lv_icmp_eq (tgt := 78) hx hb d_X_turn_69 (by decide) (fun hc2 => ?_) (fun hc2 => ?_)
        · have e0 := (pb_ushr_one (by omega) hx1 hi).mp hc2
          subst e0
          exact exit ls hl
        · have e0 : i ≠ wd := fun q => hc2 ((pb_ushr_one (by omega) hx1 hi).mpr q)
          refine lv_iinc (v := nI (i + 1)) (lv' := [(3, .int (nI (i + 1))), (2, .int x), (1, .int (nI (qf hd))), (0, .ref (ad 0))]) hx hb d_X_turn_72 hl (k := 0) rfl (nI_1 _) (by decide) rfl (fun ls hl => ?_)
          refine lv_goto (tgt := 65) hx hb d_X_turn_75 (by decide) ?_
          exact ih (i + 1) (by omega) (by omega) ls hl
    exact loop0 (wd + 1) 0 (by omega) (by omega) ls hl
  · refine lv_aload_n hx hb d_X_turn_36 rfl (lv_at hl 1 rfl) ?_
    refine dc_get_X S hK hP 0 rfl fl_X_19 rfl d_X_turn_37 ?_
    refine lv_iload_n hx hb d_X_turn_40 rfl (lv_at hl 0 rfl) ?_
    refine dc_ild S hK hP 4 rfl (j := qf hd) (rfl) (by omega) d_X_turn_41 ?_
    refine dc_nrm (y := ab_rest (Sm (qf hd)) h (Vm (qf hd)) t) (Gb _ hcur) ?_
    refine lv_if_eq (tgt := 55) hx hb d_X_turn_42 (by decide) (fun hc2 => ?_) (fun hc2 => ?_)
    · exact hret _ _ _ _ ((h, t, o, cn, cl, qf, hd + 1, tl), le, re, upd wa (qf hd) 0, qu) d_X_turn_55 (⟨by rw [ab_turn_skip hc, if_pos hc2], G.skip ht hc⟩) hP hD hS
    · refine lv_aload_n hx hb d_X_turn_45 rfl (lv_at hl 1 rfl) ?_
      refine lv_dup hx hb d_X_turn_46 rfl ?_
      refine dc_get_X S hK hP 0 rfl fl_X_86 rfl d_X_turn_47 ?_
      refine lv_iconst (v := 1) hx hb d_X_turn_50 (by decide) ?_
      refine lv_iadd hx hb d_X_turn_51 ?_
      refine dc_put_X S hK hP hD hS 0 rfl fl_X_86 (Nat.le_of_ble_eq_true rfl) d_X_turn_52 (fun H locs (hP : va_P D classes (Xw cI cZ ad (k, nI n, (nI (hd + 1)), nI tl, h, nI cn, (cl + 1), st, row, tb, le, re, upd wa (qf hd) 0, qu, t, o)) H) (hD : va_D A (Xw cI cZ ad (k, nI n, (nI (hd + 1)), nI tl, h, nI cn, (cl + 1), st, row, tb, le, re, upd wa (qf hd) 0, qu, t, o))) hS => ?_)
      exact hret _ _ _ _ ((h, t, o, cn, cl + 1, qf, hd + 1, tl), le, re, upd wa (qf hd) 0, qu) d_X_turn_55 (⟨by rw [ab_turn_skip hc, if_neg hc2], G.skip ht hc⟩) hP hD hS
end
section
set_option maxHeartbeats 4000000 in
set_option maxRecDepth 100000 in
/-- a drop comes -/
theorem c_X_receive (l : Launch) (D : va_G) (cI cZ : ClassId) (ad : Nat → Nat) (cl st : Int32) (row tb le re wa qu : Nat → Int32) (K : Nat) (h0 : 0 < K) (hK32 : K ≤ 32) (htb : ∀ d, 1 ≤ d → d ≤ K → tb d = nI (lc_tb K d)) (n : Nat) (Sm Vm : Nat → Int32) (h : Int32) (t o : Nat → Int32) (cn : Nat) (seed word : Int32) (hn60 : n < 60) (hSK : ∀ m, m < n → ∀ i, bt (Sm m) i = true → i < K) (R0 : ab_Rest K n Sm h cn) (R1 : x_Rest n Sm Vm h t le re wa) : CtI l y_X_receive b_X_receive 4 .int 3 D [(cI, .int), (cZ, .boolean)] [.ref (ad 0), .int seed, .int word] (Xw cI cZ ad (nI K, nI n, nI 0, nI 0, h, nI cn, cl, st, row, tb, le, re, wa, qu, t, o)) (fun r (u : ab_S × Int32 × (Nat → Int32) × (Nat → Int32) × (Nat → Int32) × (Nat → Int32)) => u.1 = ab_run (n + 1) (upd Sm n (lc_sm K seed)) (upd Vm n word) 61 (ab_start n (upd Sm n (lc_sm K seed)) (upd Vm n word) h t o cn cl) ∧ r = nI (a_cn u.1) ∧ x_Rest (n + 1) (upd Sm n (lc_sm K seed)) (upd Vm n word) (a_h u.1) (a_t u.1) u.2.2.1 u.2.2.2.1 u.2.2.2.2.1 ∧ ab_Rest K (n + 1) (upd Sm n (lc_sm K seed)) (a_h u.1) (a_cn u.1)) (fun u => Xw cI cZ ad (nI K, nI (n + 1), nI 0, nI 0, a_h u.1, nI (a_cn u.1), a_cl u.1, u.2.1, row, tb, u.2.2.1, u.2.2.2.1, u.2.2.2.2.1, u.2.2.2.2.2, a_t u.1, a_o u.1)) := by
  refine CtI.of (by decide) (Nat.le_of_ble_eq_true rfl) ?_
  intro p e s m args below meth c A Q S hK hP hD hA hS hret ls hl
  have S : CallFix p m c b_X_receive 4 s args gw_tbl R_X := S
  have hx := S.1
  have hb := S.2.1
  have hl : lv_has ls 4 [(0, .ref (ad 0)), (1, .int seed), (2, .int word)] := hl
  refine lv_aload_n hx hb d_X_receive_0 rfl (lv_at hl 0 rfl) ?_
  refine dc_get_X S hK hP 0 rfl fl_X_64 rfl d_X_receive_1 ?_
  refine lv_bipush (v := 60) hx hb d_X_receive_4 (by decide) ?_
  refine lv_icmp_ne (tgt := 12) hx hb d_X_receive_6 (by decide) (fun hc => ?_) (fun hc => ?_)
  · refine lv_aload_n hx hb d_X_receive_12 rfl (lv_at hl 0 rfl) ?_
    refine lv_iload_n hx hb d_X_receive_13 rfl (lv_at hl 1 rfl) ?_
    refine dc_callI S ok_X_set ml_X_53 (c_X_set l D cI cZ ad (nI n) (nI 0) (nI 0) h (nI cn) cl st row tb le re wa qu t o seed K h0 hK32 htb) (As := [.int seed]) (rest := []) (wr := []) ⟨Nat.le_of_ble_eq_true rfl, Nat.le_of_ble_eq_true rfl⟩ ⟨Nat.le_of_ble_eq_true rfl, Nat.le_of_ble_eq_true rfl⟩ hK hP hD hS hA [0, 1, 2, 3, 4, 5, 6, 7, 8] [] rfl rfl (by decide) (by decide) (by decide) rfl rfl rfl hl rfl (Nat.le_of_ble_eq_true rfl) d_X_receive_14 (fun rs us H locs hrs hP hD hS => ?_)
    have hP : va_P D classes (Xw cI cZ ad (nI K, nI n, nI 0, nI 0, h, nI cn, cl, us, row, tb, le, re, wa, qu, t, o)) H := hP
    have hD : va_D A (Xw cI cZ ad (nI K, nI n, nI 0, nI 0, h, nI cn, cl, us, row, tb, le, re, wa, qu, t, o)) := hD
    subst hrs
    refine lv_istore_n (lv' := [(3, .int (lc_sm K seed)), (0, .ref (ad 0)), (1, .int seed), (2, .int word)]) hx hb d_X_receive_17 rfl hl (by decide) rfl (fun ls hl => ?_)
    refine lv_aload_n hx hb d_X_receive_18 rfl (lv_at hl 1 rfl) ?_
    refine dc_get_X S hK hP 0 rfl fl_X_16 rfl d_X_receive_19 ?_
    refine lv_aload_n hx hb d_X_receive_22 rfl (lv_at hl 1 rfl) ?_
    refine dc_get_X S hK hP 0 rfl fl_X_64 rfl d_X_receive_23 ?_
    refine lv_iload_n hx hb d_X_receive_26 rfl (lv_at hl 0 rfl) ?_
    refine lv_aload_n hx hb d_X_receive_27 rfl (lv_at hl 1 rfl) ?_
    refine dc_get_X S hK hP 0 rfl fl_X_67 rfl d_X_receive_28 ?_
    refine lv_iconst (v := (-1)) hx hb d_X_receive_31 (by decide) ?_
    refine lv_ixor hx hb d_X_receive_32 ?_
    refine lv_iand hx hb d_X_receive_33 ?_
    refine dc_nrm (y := pb_left (lc_sm K seed) h) (rfl) ?_
    refine dc_ist S hK hP hD hS 3 rfl (j := n) (rfl) (by omega) d_X_receive_34 (fun H locs (hP : va_P D classes (Xw cI cZ ad (nI K, nI n, nI 0, nI 0, h, nI cn, cl, us, row, tb, upd le n (pb_left (lc_sm K seed) h), re, wa, qu, t, o)) H) (hD : va_D A (Xw cI cZ ad (nI K, nI n, nI 0, nI 0, h, nI cn, cl, us, row, tb, upd le n (pb_left (lc_sm K seed) h), re, wa, qu, t, o))) hS => ?_)
    refine lv_aload_n hx hb d_X_receive_35 rfl (lv_at hl 1 rfl) ?_
    refine dc_get_X S hK hP 0 rfl fl_X_19 rfl d_X_receive_36 ?_
    refine lv_aload_n hx hb d_X_receive_39 rfl (lv_at hl 1 rfl) ?_
    refine dc_get_X S hK hP 0 rfl fl_X_64 rfl d_X_receive_40 ?_
    refine lv_iload_n hx hb d_X_receive_43 rfl (lv_at hl 3 rfl) ?_
    refine lv_aload_n hx hb d_X_receive_44 rfl (lv_at hl 1 rfl) ?_
    refine dc_get_X S hK hP 0 rfl fl_X_29 rfl d_X_receive_45 ?_
    refine lv_iload_n hx hb d_X_receive_48 rfl (lv_at hl 0 rfl) ?_
    refine lv_aload_n hx hb d_X_receive_49 rfl (lv_at hl 1 rfl) ?_
    refine dc_get_X S hK hP 0 rfl fl_X_67 rfl d_X_receive_50 ?_
    refine lv_iand hx hb d_X_receive_53 ?_
    refine dc_callS S ok_X_xor ml_X_60 (c_X_xor l D cI cZ (ad 7) t (lc_sm K seed &&& h)) (As := [.ref (ad 7), .int ((lc_sm K seed) &&& h)]) (rest := [.int word, .int (nI n), .ref (ad 4)]) (wr := ((Xw cI cZ ad (nI K, nI n, nI 0, nI 0, h, nI cn, cl, us, row, tb, upd le n (pb_left (lc_sm K seed) h), re, wa, qu, t, o)).eraseIdx 7)) ⟨Nat.le_of_ble_eq_true rfl, Nat.le_of_ble_eq_true rfl⟩ ⟨Nat.le_of_ble_eq_true rfl, Nat.le_of_ble_eq_true rfl⟩ hK hP hD hS hA [7] [0, 1, 2, 3, 4, 5, 6, 8] rfl rfl (by decide) (by decide) (by decide) rfl hl rfl (Nat.le_of_ble_eq_true rfl) d_X_receive_54 (fun rx ux H locs hrx hP hD hS => ?_)
    subst hrx
    have hP : va_P D classes (Xw cI cZ ad (nI K, nI n, nI 0, nI 0, h, nI cn, cl, us, row, tb, upd le n (pb_left (lc_sm K seed) h), re, wa, qu, t, o)) H := hP.sub [0, 1, 2, 3, 4, 5, 6, 8, 7] rfl
    have hD : va_D A (Xw cI cZ ad (nI K, nI n, nI 0, nI 0, h, nI cn, cl, us, row, tb, upd le n (pb_left (lc_sm K seed) h), re, wa, qu, t, o)) := hD.sub [0, 1, 2, 3, 4, 5, 6, 8, 7] (by decide) rfl
    refine lv_ixor hx hb d_X_receive_57 ?_
    refine dc_nrm (y := ab_rest (lc_sm K seed) h word t) (rfl) ?_
    refine dc_ist S hK hP hD hS 4 rfl (j := n) (rfl) (by omega) d_X_receive_58 (fun H locs (hP : va_P D classes (Xw cI cZ ad (nI K, nI n, nI 0, nI 0, h, nI cn, cl, us, row, tb, upd le n (pb_left (lc_sm K seed) h), upd re n (ab_rest (lc_sm K seed) h word t), wa, qu, t, o)) H) (hD : va_D A (Xw cI cZ ad (nI K, nI n, nI 0, nI 0, h, nI cn, cl, us, row, tb, upd le n (pb_left (lc_sm K seed) h), upd re n (ab_rest (lc_sm K seed) h word t), wa, qu, t, o))) hS => ?_)
    refine lv_aload_n hx hb d_X_receive_59 rfl (lv_at hl 1 rfl) ?_
    refine dc_get_X S hK hP 0 rfl fl_X_22 rfl d_X_receive_60 ?_
    refine lv_aload_n hx hb d_X_receive_63 rfl (lv_at hl 1 rfl) ?_
    refine dc_get_X S hK hP 0 rfl fl_X_64 rfl d_X_receive_64 ?_
    refine lv_iconst (v := 0) hx hb d_X_receive_67 (by decide) ?_
    refine dc_zst S hK hP hD hS 5 rfl (j := n) (rfl) (by omega) rfl d_X_receive_68 (fun H locs (hP : va_P D classes (Xw cI cZ ad (nI K, nI n, nI 0, nI 0, h, nI cn, cl, us, row, tb, upd le n (pb_left (lc_sm K seed) h), upd re n (ab_rest (lc_sm K seed) h word t), upd wa n 0, qu, t, o)) H) (hD : va_D A (Xw cI cZ ad (nI K, nI n, nI 0, nI 0, h, nI cn, cl, us, row, tb, upd le n (pb_left (lc_sm K seed) h), upd re n (ab_rest (lc_sm K seed) h word t), upd wa n 0, qu, t, o))) hS => ?_)
    refine lv_aload_n hx hb d_X_receive_69 rfl (lv_at hl 1 rfl) ?_
    refine lv_dup hx hb d_X_receive_70 rfl ?_
    refine dc_get_X S hK hP 0 rfl fl_X_64 rfl d_X_receive_71 ?_
    refine lv_iconst (v := 1) hx hb d_X_receive_74 (by decide) ?_
    refine lv_iadd hx hb d_X_receive_75 ?_
    refine dc_nrm (y := nI (n + 1)) (nI_1 _) ?_
    refine dc_put_X S hK hP hD hS 0 rfl fl_X_64 (Nat.le_of_ble_eq_true rfl) d_X_receive_76 (fun H locs (hP : va_P D classes (Xw cI cZ ad (nI K, (nI (n + 1)), nI 0, nI 0, h, nI cn, cl, us, row, tb, upd le n (pb_left (lc_sm K seed) h), upd re n (ab_rest (lc_sm K seed) h word t), upd wa n 0, qu, t, o)) H) (hD : va_D A (Xw cI cZ ad (nI K, (nI (n + 1)), nI 0, nI 0, h, nI cn, cl, us, row, tb, upd le n (pb_left (lc_sm K seed) h), upd re n (ab_rest (lc_sm K seed) h word t), upd wa n 0, qu, t, o))) hS => ?_)
    refine lv_aload_n hx hb d_X_receive_79 rfl (lv_at hl 1 rfl) ?_
    refine lv_aload_n hx hb d_X_receive_80 rfl (lv_at hl 1 rfl) ?_
    refine dc_get_X S hK hP 0 rfl fl_X_64 rfl d_X_receive_81 ?_
    refine lv_iconst (v := 1) hx hb d_X_receive_84 (by decide) ?_
    refine lv_isub hx hb d_X_receive_85 ?_
    refine dc_nrm (y := nI n) (nI_pred n) ?_
    refine dc_callV S ok_X_look ml_X_70 (c_X_look l D cI cZ ad (nI K) (nI (n + 1)) (nI 0) h (nI cn) cl us row tb (upd le n (pb_left (lc_sm K seed) h)) (upd re n (ab_rest (lc_sm K seed) h word t)) (upd wa n 0) qu t o 0 n (by omega) hn60) (As := [.int (nI n)]) (rest := []) (wr := []) ⟨Nat.le_of_ble_eq_true rfl, Nat.le_of_ble_eq_true rfl⟩ ⟨Nat.le_of_ble_eq_true rfl, Nat.le_of_ble_eq_true rfl⟩ hK hP hD hS hA [0, 1, 2, 3, 4, 5, 6, 7, 8] [] rfl rfl (by decide) (by decide) (by decide) rfl rfl rfl hl rfl (Nat.le_of_ble_eq_true rfl) d_X_receive_86 (fun ul H locs hul hP hD hS => ?_)
    obtain ⟨wa1, qu1, e1, G⟩ := x_Rel.start (qu := qu) (s := lc_sm K seed) (v := word) (o := o) (cl := cl) R0 R1
    rw [e1] at hul
    subst hul
    have hSK1 : ∀ m, m < n + 1 → ∀ i, bt ((upd Sm n (lc_sm K seed)) m) i = true → i < K := by
      intro m hm i hi
      by_cases e : m = n
      · rw [e, pk_us] at hi; exact lc_sm_in h0 hK32 seed hi
      · rw [pk_un e] at hi; exact hSK m (by omega) i hi
    have loop : ∀ (f : Nat) (a : ab_S) (le re wa qu : Nat → Int32), n + 1 < a_hd a + f → x_Rel K (n + 1) (upd Sm n (lc_sm K seed)) (upd Vm n word) (a_h a) (a_t a) (a_cn a) (a_qf a) (a_hd a) (a_tl a) le re wa qu → ab_run (n + 1) (upd Sm n (lc_sm K seed)) (upd Vm n word) f a = ab_run (n + 1) (upd Sm n (lc_sm K seed)) (upd Vm n word) 61 (ab_start n (upd Sm n (lc_sm K seed)) (upd Vm n word) h t o cn cl) → ∀ (H : Heap) (locs : List Loc) (ls : Array Slot), va_P D classes (Xw cI cZ ad (nI K, (nI (n + 1)), nI (a_hd a), nI (a_tl a), a_h a, nI (a_cn a), a_cl a, us, row, tb, le, re, wa, qu, a_t a, a_o a)) H → va_D A (Xw cI cZ ad (nI K, (nI (n + 1)), nI (a_hd a), nI (a_tl a), a_h a, nI (a_cn a), a_cl a, us, row, tb, le, re, wa, qu, a_t a, a_o a)) → va_S A s.heap H locs → lv_has ls 4 [(3, .int (lc_sm K seed)), (0, .ref (ad 0)), (1, .int seed), (2, .int word)] → W p l e (rmD 3 0 0) s m args below meth c H locs 0 0 Q (F0 m 89 ls []) := by
      intro f
      induction f with
      | zero =>
        intro a le re wa qu h1 G
        have g1 := G.2.2.2.2.tl
        have g2 := G.2.2.2.2.2.2.1
        exact absurd h1 (by omega)
      | succ f ih =>
        intro a le re wa qu hf G hrun H locs ls hP hD hS hl
        obtain ⟨h1, t1, o1, cn1, cl1, qf1, hd1, tl1⟩ := a
        dsimp only [a_h, a_t, a_o, a_cn, a_cl, a_qf, a_hd, a_tl] at hf G hrun hP hD
        have g1 := G.2.2.2.2.tl
        have g2 := G.2.2.2.2.2.2.1
        refine lv_aload_n hx hb d_X_receive_89 rfl (lv_at hl 1 rfl) ?_
        refine dc_get_X S hK hP 0 rfl fl_X_74 rfl d_X_receive_90 ?_
        refine lv_aload_n hx hb d_X_receive_93 rfl (lv_at hl 1 rfl) ?_
        refine dc_get_X S hK hP 0 rfl fl_X_77 rfl d_X_receive_94 ?_
        refine lv_icmp_ge (tgt := 107) hx hb d_X_receive_97 (by decide) (fun hc2 => ?_) (fun hc2 => ?_)
        · have e0 := zi_le hc2
          refine lv_aload_n hx hb d_X_receive_107 rfl (lv_at hl 1 rfl) ?_
          refine lv_iconst (v := 0) hx hb d_X_receive_108 (by decide) ?_
          refine dc_nrm (y := nI 0) (rfl) ?_
          refine dc_put_X S hK hP hD hS 0 rfl fl_X_74 (Nat.le_of_ble_eq_true rfl) d_X_receive_109 (fun H locs (hP : va_P D classes (Xw cI cZ ad (nI K, (nI (n + 1)), nI 0, nI tl1, h1, nI cn1, cl1, us, row, tb, le, re, wa, qu, t1, o1)) H) (hD : va_D A (Xw cI cZ ad (nI K, (nI (n + 1)), nI 0, nI tl1, h1, nI cn1, cl1, us, row, tb, le, re, wa, qu, t1, o1))) hS => ?_)
          refine lv_aload_n hx hb d_X_receive_112 rfl (lv_at hl 1 rfl) ?_
          refine lv_iconst (v := 0) hx hb d_X_receive_113 (by decide) ?_
          refine dc_nrm (y := nI 0) (rfl) ?_
          refine dc_put_X S hK hP hD hS 0 rfl fl_X_77 (Nat.le_of_ble_eq_true rfl) d_X_receive_114 (fun H locs (hP : va_P D classes (Xw cI cZ ad (nI K, (nI (n + 1)), nI 0, nI 0, h1, nI cn1, cl1, us, row, tb, le, re, wa, qu, t1, o1)) H) (hD : va_D A (Xw cI cZ ad (nI K, (nI (n + 1)), nI 0, nI 0, h1, nI cn1, cl1, us, row, tb, le, re, wa, qu, t1, o1))) hS => ?_)
          refine lv_aload_n hx hb d_X_receive_117 rfl (lv_at hl 1 rfl) ?_
          refine dc_get_X S hK hP 0 rfl fl_X_83 rfl d_X_receive_118 ?_
          exact hret _ _ _ _ _ ((h1, t1, o1, cn1, cl1, qf1, hd1, tl1), us, le, re, wa, qu) d_X_receive_121 rfl (⟨by rw [← hrun, ab_run_stop _ (Nat.not_lt.mpr e0)], rfl, (G.rest (Nat.not_lt.mpr e0)).1, (G.rest (Nat.not_lt.mpr e0)).2⟩) hP hD hS
        · have e0 := zi_nle hc2
          refine lv_aload_n hx hb d_X_receive_100 rfl (lv_at hl 1 rfl) ?_
          refine dc_callV S ok_X_turn ml_X_80 (c_X_turn l D cI cZ ad (nI K) cl1 us row tb le re wa qu K (n + 1) (upd Sm n (lc_sm K seed)) (upd Vm n word) h1 t1 o1 cn1 qf1 hd1 tl1 hK32 (by omega) hSK1 G e0) (As := []) (rest := []) (wr := []) ⟨Nat.le_of_ble_eq_true rfl, Nat.le_of_ble_eq_true rfl⟩ ⟨Nat.le_of_ble_eq_true rfl, Nat.le_of_ble_eq_true rfl⟩ hK hP hD hS hA [0, 1, 2, 3, 4, 5, 6, 7, 8] [] rfl rfl (by decide) (by decide) (by decide) rfl rfl rfl hl rfl (Nat.le_of_ble_eq_true rfl) d_X_receive_101 (fun ut H locs hut hP hD hS => ?_)
          obtain ⟨a2, le2, re2, wa2, qu2⟩ := ut
          obtain ⟨hu1, hu2⟩ := hut
          dsimp only at hu1 hu2
          have hP : va_P D classes (Xw cI cZ ad (nI K, (nI (n + 1)), nI (a_hd a2), nI (a_tl a2), a_h a2, nI (a_cn a2), a_cl a2, us, row, tb, le2, re2, wa2, qu2, a_t a2, a_o a2)) H := hP
          have hD : va_D A (Xw cI cZ ad (nI K, (nI (n + 1)), nI (a_hd a2), nI (a_tl a2), a_h a2, nI (a_cn a2), a_cl a2, us, row, tb, le2, re2, wa2, qu2, a_t a2, a_o a2)) := hD
          refine lv_goto (tgt := 89) hx hb d_X_receive_104 (by decide) ?_
          have ehd : a_hd a2 = hd1 + 1 := by
            rw [hu1]
            unfold ab_turn
            dsimp only
            split <;> rfl
          exact ih a2 le2 re2 wa2 qu2 (by omega) hu2 (by rw [← hrun, ab_run_next _ e0, hu1]) _ _ ls hP hD hS hl
    exact loop 61 _ _ _ _ _ (show n + 1 < 0 + 61 by omega) G rfl _ _ ls hP hD hS (lv_sub hl [0, 1, 2, 3] rfl)
  · exact absurd (zi_eq (a := n) (b := 60) hc) (by omega)
set_option maxHeartbeats 4000000 in
set_option maxRecDepth 100000 in
/-- no room is left -/
theorem c_X_receive_full (l : Launch) (D : va_G) (cI cZ : ClassId) (ad : Nat → Nat) (k he ta ha co cl st : Int32) (row tb le re wa qu wo od : Nat → Int32) (seed word : Int32) : CtI l y_X_receive b_X_receive 4 .int 3 D [(cI, .int), (cZ, .boolean)] [.ref (ad 0), .int seed, .int word] (Xw cI cZ ad (k, nI 60, he, ta, ha, co, cl, st, row, tb, le, re, wa, qu, wo, od)) (fun r (u : Unit) => r = -2) (fun u => Xw cI cZ ad (k, nI 60, he, ta, ha, co, cl, st, row, tb, le, re, wa, qu, wo, od)) := by
  refine CtI.of (by decide) (Nat.le_of_ble_eq_true rfl) ?_
  intro p e s m args below meth c A Q S hK hP hD hA hS hret ls hl
  have S : CallFix p m c b_X_receive 4 s args gw_tbl R_X := S
  have hx := S.1
  have hb := S.2.1
  have hl : lv_has ls 4 [(0, .ref (ad 0)), (1, .int seed), (2, .int word)] := hl
  refine lv_aload_n hx hb d_X_receive_0 rfl (lv_at hl 0 rfl) ?_
  refine dc_get_X S hK hP 0 rfl fl_X_64 rfl d_X_receive_1 ?_
  refine lv_bipush (v := 60) hx hb d_X_receive_4 (by decide) ?_
  refine lv_icmp_ne (tgt := 12) hx hb d_X_receive_6 (by decide) (fun hc => ?_) (fun hc => ?_)
  · exact absurd rfl hc
  · refine lv_bipush (v := (-2)) hx hb d_X_receive_9 (by decide) ?_
    exact hret _ _ _ _ _ (()) d_X_receive_11 rfl (rfl) hP hD hS
end
section
set_option maxHeartbeats 4000000 in
set_option maxRecDepth 100000 in
/-- a new object -/
theorem c_X_init (l : Launch) (D : va_G) (cI cZ : ClassId) (o0 : Nat) (i : Int32) (K : Nat) (hk : lk_K i K) : CtV l y_X_init b_X_init 5 1 8 373 D [(cI, .int), (cZ, .boolean)] [.ref o0, .int i] ([(o0, .inr (0, [.null, .null, .int 0, .null, .null, .null, .int 0, .null, .int 0, .int 0, .null, .null, .int 0, .int 0, .int 0, .int 0]))]) (fun (u : (Nat → Nat) × (Nat → Int32)) => u.1 0 = o0 ∧ ∀ d, 1 ≤ d → d ≤ K → u.2 d = nI (lc_tb K d)) (fun u => Xw cI cZ u.1 (nI K, nI 0, nI 0, nI 0, 0, nI 0, 0, 0, fun _ => 0, u.2, fun _ => 0, fun _ => 0, fun _ => 0, fun _ => 0, fun _ => 0, fun _ => 0)) := by
  refine CtV.of (by decide) (Nat.le_of_ble_eq_true rfl) ?_
  intro p e s m args below meth c A Q hin S hK hP hD hA hS hret ls hl
  have S : CallFix p m c b_X_init 5 s args gw_tbl R_X := S
  have hx := S.1
  have hb := S.2.1
  have hl : lv_has ls 5 [(0, .ref o0), (1, .int i)] := hl
  have hin : meth.name = "<init>" := hin
  obtain ⟨h0, hK32, hk1, hk2⟩ := hk
  refine lv_aload_n hx hb d_X_init_0 rfl (lv_at hl 0 rfl) ?_
  refine W.objInit hx hb S.2.2.2.1 (S.2.2.2.2 _ ml_X_1) (S.2.2.2.2 _ oi_inst) (S.2.2.2.2 _ oi_code) rfl (by rw [S.2.2.1]; exact hl.1) rfl d_X_init_1 (Nat.le_of_ble_eq_true rfl) (Nat.le_of_ble_eq_true rfl) ?_
  refine W.eq (g2 := F0 m 4 ls []) rfl ?_
  refine lv_aload_n hx hb d_X_init_4 rfl (lv_at hl 0 rfl) ?_
  refine lv_bipush (v := 32) hx hb d_X_init_5 (by decide) ?_
  refine dc_newI S hK hP hD hS hA (N' := 32) (by decide) (by decide) (by decide) (Nat.le_of_ble_eq_true rfl) (Nat.le_of_ble_eq_true rfl) d_X_init_7 (fun q1 H (hP : va_P D classes ([(o0, .inr (0, [.null, .null, .int 0, .null, .null, .null, .int 0, .null, .int 0, .int 0, .null, .null, .int 0, .int 0, .int 0, .int 0])), (q1, .inl (cI, 32, .inl (fun _ => 0)))]) H) (hD : va_D A ([(o0, .inr (0, [.null, .null, .int 0, .null, .null, .null, .int 0, .null, .int 0, .int 0, .null, .null, .int 0, .int 0, .int 0, .int 0])), (q1, .inl (cI, 32, .inl (fun _ => 0)))])) hS => ?_)
  refine va_putF (D := D) (ci := 0) (v := .ref q1) (ty := .array .int) (C := R_X) (T := F_X) (N := 16) hx hb S.2.2.2.2 i_X t_X t_X_ok n_X S.2.2.2.1 hK hP hD hS 0 rfl rfl 0 (by decide) (S.2.2.2.2 _ fl_X_7) (fun _ h9 => h9) rfl hin rfl (by decide +kernel) rfl rfl (Nat.le_of_ble_eq_true rfl) d_X_init_9 (fun H locs (hP : va_P D classes ([(o0, .inr (0, [.ref q1, .null, .int 0, .null, .null, .null, .int 0, .null, .int 0, .int 0, .null, .null, .int 0, .int 0, .int 0, .int 0])), (q1, .inl (cI, 32, .inl (fun _ => 0)))]) H) (hD : va_D A ([(o0, .inr (0, [.ref q1, .null, .int 0, .null, .null, .null, .int 0, .null, .int 0, .int 0, .null, .null, .int 0, .int 0, .int 0, .int 0])), (q1, .inl (cI, 32, .inl (fun _ => 0)))])) hS => ?_)
  refine lv_aload_n hx hb d_X_init_12 rfl (lv_at hl 0 rfl) ?_
  refine lv_bipush (v := 33) hx hb d_X_init_13 (by decide) ?_
  refine dc_newI S hK hP hD hS hA (N' := 33) (by decide) (by decide) (by decide) (Nat.le_of_ble_eq_true rfl) (Nat.le_of_ble_eq_true rfl) d_X_init_15 (fun q2 H (hP : va_P D classes ([(o0, .inr (0, [.ref q1, .null, .int 0, .null, .null, .null, .int 0, .null, .int 0, .int 0, .null, .null, .int 0, .int 0, .int 0, .int 0])), (q1, .inl (cI, 32, .inl (fun _ => 0))), (q2, .inl (cI, 33, .inl (fun _ => 0)))]) H) (hD : va_D A ([(o0, .inr (0, [.ref q1, .null, .int 0, .null, .null, .null, .int 0, .null, .int 0, .int 0, .null, .null, .int 0, .int 0, .int 0, .int 0])), (q1, .inl (cI, 32, .inl (fun _ => 0))), (q2, .inl (cI, 33, .inl (fun _ => 0)))])) hS => ?_)
  refine va_putF (D := D) (ci := 0) (v := .ref q2) (ty := .array .int) (C := R_X) (T := F_X) (N := 16) hx hb S.2.2.2.2 i_X t_X t_X_ok n_X S.2.2.2.1 hK hP hD hS 0 rfl rfl 1 (by decide) (S.2.2.2.2 _ fl_X_13) (fun _ h9 => h9) rfl hin rfl (by decide +kernel) rfl rfl (Nat.le_of_ble_eq_true rfl) d_X_init_17 (fun H locs (hP : va_P D classes ([(o0, .inr (0, [.ref q1, .ref q2, .int 0, .null, .null, .null, .int 0, .null, .int 0, .int 0, .null, .null, .int 0, .int 0, .int 0, .int 0])), (q1, .inl (cI, 32, .inl (fun _ => 0))), (q2, .inl (cI, 33, .inl (fun _ => 0)))]) H) (hD : va_D A ([(o0, .inr (0, [.ref q1, .ref q2, .int 0, .null, .null, .null, .int 0, .null, .int 0, .int 0, .null, .null, .int 0, .int 0, .int 0, .int 0])), (q1, .inl (cI, 32, .inl (fun _ => 0))), (q2, .inl (cI, 33, .inl (fun _ => 0)))])) hS => ?_)
  refine lv_aload_n hx hb d_X_init_20 rfl (lv_at hl 0 rfl) ?_
  refine lv_bipush (v := 60) hx hb d_X_init_21 (by decide) ?_
  refine dc_newI S hK hP hD hS hA (N' := 60) (by decide) (by decide) (by decide) (Nat.le_of_ble_eq_true rfl) (Nat.le_of_ble_eq_true rfl) d_X_init_23 (fun q3 H (hP : va_P D classes ([(o0, .inr (0, [.ref q1, .ref q2, .int 0, .null, .null, .null, .int 0, .null, .int 0, .int 0, .null, .null, .int 0, .int 0, .int 0, .int 0])), (q1, .inl (cI, 32, .inl (fun _ => 0))), (q2, .inl (cI, 33, .inl (fun _ => 0))), (q3, .inl (cI, 60, .inl (fun _ => 0)))]) H) (hD : va_D A ([(o0, .inr (0, [.ref q1, .ref q2, .int 0, .null, .null, .null, .int 0, .null, .int 0, .int 0, .null, .null, .int 0, .int 0, .int 0, .int 0])), (q1, .inl (cI, 32, .inl (fun _ => 0))), (q2, .inl (cI, 33, .inl (fun _ => 0))), (q3, .inl (cI, 60, .inl (fun _ => 0)))])) hS => ?_)
  refine va_putF (D := D) (ci := 0) (v := .ref q3) (ty := .array .int) (C := R_X) (T := F_X) (N := 16) hx hb S.2.2.2.2 i_X t_X t_X_ok n_X S.2.2.2.1 hK hP hD hS 0 rfl rfl 3 (by decide) (S.2.2.2.2 _ fl_X_16) (fun _ h9 => h9) rfl hin rfl (by decide +kernel) rfl rfl (Nat.le_of_ble_eq_true rfl) d_X_init_25 (fun H locs (hP : va_P D classes ([(o0, .inr (0, [.ref q1, .ref q2, .int 0, .ref q3, .null, .null, .int 0, .null, .int 0, .int 0, .null, .null, .int 0, .int 0, .int 0, .int 0])), (q1, .inl (cI, 32, .inl (fun _ => 0))), (q2, .inl (cI, 33, .inl (fun _ => 0))), (q3, .inl (cI, 60, .inl (fun _ => 0)))]) H) (hD : va_D A ([(o0, .inr (0, [.ref q1, .ref q2, .int 0, .ref q3, .null, .null, .int 0, .null, .int 0, .int 0, .null, .null, .int 0, .int 0, .int 0, .int 0])), (q1, .inl (cI, 32, .inl (fun _ => 0))), (q2, .inl (cI, 33, .inl (fun _ => 0))), (q3, .inl (cI, 60, .inl (fun _ => 0)))])) hS => ?_)
  refine lv_aload_n hx hb d_X_init_28 rfl (lv_at hl 0 rfl) ?_
  refine lv_bipush (v := 60) hx hb d_X_init_29 (by decide) ?_
  refine dc_newI S hK hP hD hS hA (N' := 60) (by decide) (by decide) (by decide) (Nat.le_of_ble_eq_true rfl) (Nat.le_of_ble_eq_true rfl) d_X_init_31 (fun q4 H (hP : va_P D classes ([(o0, .inr (0, [.ref q1, .ref q2, .int 0, .ref q3, .null, .null, .int 0, .null, .int 0, .int 0, .null, .null, .int 0, .int 0, .int 0, .int 0])), (q1, .inl (cI, 32, .inl (fun _ => 0))), (q2, .inl (cI, 33, .inl (fun _ => 0))), (q3, .inl (cI, 60, .inl (fun _ => 0))), (q4, .inl (cI, 60, .inl (fun _ => 0)))]) H) (hD : va_D A ([(o0, .inr (0, [.ref q1, .ref q2, .int 0, .ref q3, .null, .null, .int 0, .null, .int 0, .int 0, .null, .null, .int 0, .int 0, .int 0, .int 0])), (q1, .inl (cI, 32, .inl (fun _ => 0))), (q2, .inl (cI, 33, .inl (fun _ => 0))), (q3, .inl (cI, 60, .inl (fun _ => 0))), (q4, .inl (cI, 60, .inl (fun _ => 0)))])) hS => ?_)
  refine va_putF (D := D) (ci := 0) (v := .ref q4) (ty := .array .int) (C := R_X) (T := F_X) (N := 16) hx hb S.2.2.2.2 i_X t_X t_X_ok n_X S.2.2.2.1 hK hP hD hS 0 rfl rfl 4 (by decide) (S.2.2.2.2 _ fl_X_19) (fun _ h9 => h9) rfl hin rfl (by decide +kernel) rfl rfl (Nat.le_of_ble_eq_true rfl) d_X_init_33 (fun H locs (hP : va_P D classes ([(o0, .inr (0, [.ref q1, .ref q2, .int 0, .ref q3, .ref q4, .null, .int 0, .null, .int 0, .int 0, .null, .null, .int 0, .int 0, .int 0, .int 0])), (q1, .inl (cI, 32, .inl (fun _ => 0))), (q2, .inl (cI, 33, .inl (fun _ => 0))), (q3, .inl (cI, 60, .inl (fun _ => 0))), (q4, .inl (cI, 60, .inl (fun _ => 0)))]) H) (hD : va_D A ([(o0, .inr (0, [.ref q1, .ref q2, .int 0, .ref q3, .ref q4, .null, .int 0, .null, .int 0, .int 0, .null, .null, .int 0, .int 0, .int 0, .int 0])), (q1, .inl (cI, 32, .inl (fun _ => 0))), (q2, .inl (cI, 33, .inl (fun _ => 0))), (q3, .inl (cI, 60, .inl (fun _ => 0))), (q4, .inl (cI, 60, .inl (fun _ => 0)))])) hS => ?_)
  refine lv_aload_n hx hb d_X_init_36 rfl (lv_at hl 0 rfl) ?_
  refine lv_bipush (v := 60) hx hb d_X_init_37 (by decide) ?_
  refine dc_newZ S hK hP hD hS hA (N' := 60) (by decide) (by decide) (by decide) (Nat.le_of_ble_eq_true rfl) (Nat.le_of_ble_eq_true rfl) d_X_init_39 (fun q5 H (hP : va_P D classes ([(o0, .inr (0, [.ref q1, .ref q2, .int 0, .ref q3, .ref q4, .null, .int 0, .null, .int 0, .int 0, .null, .null, .int 0, .int 0, .int 0, .int 0])), (q1, .inl (cI, 32, .inl (fun _ => 0))), (q2, .inl (cI, 33, .inl (fun _ => 0))), (q3, .inl (cI, 60, .inl (fun _ => 0))), (q4, .inl (cI, 60, .inl (fun _ => 0))), (q5, .inl (cZ, 60, .inl (fun _ => 0)))]) H) (hD : va_D A ([(o0, .inr (0, [.ref q1, .ref q2, .int 0, .ref q3, .ref q4, .null, .int 0, .null, .int 0, .int 0, .null, .null, .int 0, .int 0, .int 0, .int 0])), (q1, .inl (cI, 32, .inl (fun _ => 0))), (q2, .inl (cI, 33, .inl (fun _ => 0))), (q3, .inl (cI, 60, .inl (fun _ => 0))), (q4, .inl (cI, 60, .inl (fun _ => 0))), (q5, .inl (cZ, 60, .inl (fun _ => 0)))])) hS => ?_)
  refine va_putF (D := D) (ci := 0) (v := .ref q5) (ty := .array .boolean) (C := R_X) (T := F_X) (N := 16) hx hb S.2.2.2.2 i_X t_X t_X_ok n_X S.2.2.2.1 hK hP hD hS 0 rfl rfl 5 (by decide) (S.2.2.2.2 _ fl_X_22) (fun _ h9 => h9) rfl hin rfl (by decide +kernel) rfl rfl (Nat.le_of_ble_eq_true rfl) d_X_init_41 (fun H locs (hP : va_P D classes ([(o0, .inr (0, [.ref q1, .ref q2, .int 0, .ref q3, .ref q4, .ref q5, .int 0, .null, .int 0, .int 0, .null, .null, .int 0, .int 0, .int 0, .int 0])), (q1, .inl (cI, 32, .inl (fun _ => 0))), (q2, .inl (cI, 33, .inl (fun _ => 0))), (q3, .inl (cI, 60, .inl (fun _ => 0))), (q4, .inl (cI, 60, .inl (fun _ => 0))), (q5, .inl (cZ, 60, .inl (fun _ => 0)))]) H) (hD : va_D A ([(o0, .inr (0, [.ref q1, .ref q2, .int 0, .ref q3, .ref q4, .ref q5, .int 0, .null, .int 0, .int 0, .null, .null, .int 0, .int 0, .int 0, .int 0])), (q1, .inl (cI, 32, .inl (fun _ => 0))), (q2, .inl (cI, 33, .inl (fun _ => 0))), (q3, .inl (cI, 60, .inl (fun _ => 0))), (q4, .inl (cI, 60, .inl (fun _ => 0))), (q5, .inl (cZ, 60, .inl (fun _ => 0)))])) hS => ?_)
  refine lv_aload_n hx hb d_X_init_44 rfl (lv_at hl 0 rfl) ?_
  refine lv_bipush (v := 64) hx hb d_X_init_45 (by decide) ?_
  refine dc_newI S hK hP hD hS hA (N' := 64) (by decide) (by decide) (by decide) (Nat.le_of_ble_eq_true rfl) (Nat.le_of_ble_eq_true rfl) d_X_init_47 (fun q6 H (hP : va_P D classes ([(o0, .inr (0, [.ref q1, .ref q2, .int 0, .ref q3, .ref q4, .ref q5, .int 0, .null, .int 0, .int 0, .null, .null, .int 0, .int 0, .int 0, .int 0])), (q1, .inl (cI, 32, .inl (fun _ => 0))), (q2, .inl (cI, 33, .inl (fun _ => 0))), (q3, .inl (cI, 60, .inl (fun _ => 0))), (q4, .inl (cI, 60, .inl (fun _ => 0))), (q5, .inl (cZ, 60, .inl (fun _ => 0))), (q6, .inl (cI, 64, .inl (fun _ => 0)))]) H) (hD : va_D A ([(o0, .inr (0, [.ref q1, .ref q2, .int 0, .ref q3, .ref q4, .ref q5, .int 0, .null, .int 0, .int 0, .null, .null, .int 0, .int 0, .int 0, .int 0])), (q1, .inl (cI, 32, .inl (fun _ => 0))), (q2, .inl (cI, 33, .inl (fun _ => 0))), (q3, .inl (cI, 60, .inl (fun _ => 0))), (q4, .inl (cI, 60, .inl (fun _ => 0))), (q5, .inl (cZ, 60, .inl (fun _ => 0))), (q6, .inl (cI, 64, .inl (fun _ => 0)))])) hS => ?_)
  refine va_putF (D := D) (ci := 0) (v := .ref q6) (ty := .array .int) (C := R_X) (T := F_X) (N := 16) hx hb S.2.2.2.2 i_X t_X t_X_ok n_X S.2.2.2.1 hK hP hD hS 0 rfl rfl 7 (by decide) (S.2.2.2.2 _ fl_X_26) (fun _ h9 => h9) rfl hin rfl (by decide +kernel) rfl rfl (Nat.le_of_ble_eq_true rfl) d_X_init_49 (fun H locs (hP : va_P D classes ([(o0, .inr (0, [.ref q1, .ref q2, .int 0, .ref q3, .ref q4, .ref q5, .int 0, .ref q6, .int 0, .int 0, .null, .null, .int 0, .int 0, .int 0, .int 0])), (q1, .inl (cI, 32, .inl (fun _ => 0))), (q2, .inl (cI, 33, .inl (fun _ => 0))), (q3, .inl (cI, 60, .inl (fun _ => 0))), (q4, .inl (cI, 60, .inl (fun _ => 0))), (q5, .inl (cZ, 60, .inl (fun _ => 0))), (q6, .inl (cI, 64, .inl (fun _ => 0)))]) H) (hD : va_D A ([(o0, .inr (0, [.ref q1, .ref q2, .int 0, .ref q3, .ref q4, .ref q5, .int 0, .ref q6, .int 0, .int 0, .null, .null, .int 0, .int 0, .int 0, .int 0])), (q1, .inl (cI, 32, .inl (fun _ => 0))), (q2, .inl (cI, 33, .inl (fun _ => 0))), (q3, .inl (cI, 60, .inl (fun _ => 0))), (q4, .inl (cI, 60, .inl (fun _ => 0))), (q5, .inl (cZ, 60, .inl (fun _ => 0))), (q6, .inl (cI, 64, .inl (fun _ => 0)))])) hS => ?_)
  refine lv_aload_n hx hb d_X_init_52 rfl (lv_at hl 0 rfl) ?_
  refine lv_bipush (v := 32) hx hb d_X_init_53 (by decide) ?_
  refine dc_newI S hK hP hD hS hA (N' := 32) (by decide) (by decide) (by decide) (Nat.le_of_ble_eq_true rfl) (Nat.le_of_ble_eq_true rfl) d_X_init_55 (fun q7 H (hP : va_P D classes ([(o0, .inr (0, [.ref q1, .ref q2, .int 0, .ref q3, .ref q4, .ref q5, .int 0, .ref q6, .int 0, .int 0, .null, .null, .int 0, .int 0, .int 0, .int 0])), (q1, .inl (cI, 32, .inl (fun _ => 0))), (q2, .inl (cI, 33, .inl (fun _ => 0))), (q3, .inl (cI, 60, .inl (fun _ => 0))), (q4, .inl (cI, 60, .inl (fun _ => 0))), (q5, .inl (cZ, 60, .inl (fun _ => 0))), (q6, .inl (cI, 64, .inl (fun _ => 0))), (q7, .inl (cI, 32, .inl (fun _ => 0)))]) H) (hD : va_D A ([(o0, .inr (0, [.ref q1, .ref q2, .int 0, .ref q3, .ref q4, .ref q5, .int 0, .ref q6, .int 0, .int 0, .null, .null, .int 0, .int 0, .int 0, .int 0])), (q1, .inl (cI, 32, .inl (fun _ => 0))), (q2, .inl (cI, 33, .inl (fun _ => 0))), (q3, .inl (cI, 60, .inl (fun _ => 0))), (q4, .inl (cI, 60, .inl (fun _ => 0))), (q5, .inl (cZ, 60, .inl (fun _ => 0))), (q6, .inl (cI, 64, .inl (fun _ => 0))), (q7, .inl (cI, 32, .inl (fun _ => 0)))])) hS => ?_)
  refine va_putF (D := D) (ci := 0) (v := .ref q7) (ty := .array .int) (C := R_X) (T := F_X) (N := 16) hx hb S.2.2.2.2 i_X t_X t_X_ok n_X S.2.2.2.1 hK hP hD hS 0 rfl rfl 10 (by decide) (S.2.2.2.2 _ fl_X_29) (fun _ h9 => h9) rfl hin rfl (by decide +kernel) rfl rfl (Nat.le_of_ble_eq_true rfl) d_X_init_57 (fun H locs (hP : va_P D classes ([(o0, .inr (0, [.ref q1, .ref q2, .int 0, .ref q3, .ref q4, .ref q5, .int 0, .ref q6, .int 0, .int 0, .ref q7, .null, .int 0, .int 0, .int 0, .int 0])), (q1, .inl (cI, 32, .inl (fun _ => 0))), (q2, .inl (cI, 33, .inl (fun _ => 0))), (q3, .inl (cI, 60, .inl (fun _ => 0))), (q4, .inl (cI, 60, .inl (fun _ => 0))), (q5, .inl (cZ, 60, .inl (fun _ => 0))), (q6, .inl (cI, 64, .inl (fun _ => 0))), (q7, .inl (cI, 32, .inl (fun _ => 0)))]) H) (hD : va_D A ([(o0, .inr (0, [.ref q1, .ref q2, .int 0, .ref q3, .ref q4, .ref q5, .int 0, .ref q6, .int 0, .int 0, .ref q7, .null, .int 0, .int 0, .int 0, .int 0])), (q1, .inl (cI, 32, .inl (fun _ => 0))), (q2, .inl (cI, 33, .inl (fun _ => 0))), (q3, .inl (cI, 60, .inl (fun _ => 0))), (q4, .inl (cI, 60, .inl (fun _ => 0))), (q5, .inl (cZ, 60, .inl (fun _ => 0))), (q6, .inl (cI, 64, .inl (fun _ => 0))), (q7, .inl (cI, 32, .inl (fun _ => 0)))])) hS => ?_)
  refine lv_aload_n hx hb d_X_init_60 rfl (lv_at hl 0 rfl) ?_
  refine lv_bipush (v := 32) hx hb d_X_init_61 (by decide) ?_
  refine dc_newI S hK hP hD hS hA (N' := 32) (by decide) (by decide) (by decide) (Nat.le_of_ble_eq_true rfl) (Nat.le_of_ble_eq_true rfl) d_X_init_63 (fun q8 H (hP : va_P D classes ([(o0, .inr (0, [.ref q1, .ref q2, .int 0, .ref q3, .ref q4, .ref q5, .int 0, .ref q6, .int 0, .int 0, .ref q7, .null, .int 0, .int 0, .int 0, .int 0])), (q1, .inl (cI, 32, .inl (fun _ => 0))), (q2, .inl (cI, 33, .inl (fun _ => 0))), (q3, .inl (cI, 60, .inl (fun _ => 0))), (q4, .inl (cI, 60, .inl (fun _ => 0))), (q5, .inl (cZ, 60, .inl (fun _ => 0))), (q6, .inl (cI, 64, .inl (fun _ => 0))), (q7, .inl (cI, 32, .inl (fun _ => 0))), (q8, .inl (cI, 32, .inl (fun _ => 0)))]) H) (hD : va_D A ([(o0, .inr (0, [.ref q1, .ref q2, .int 0, .ref q3, .ref q4, .ref q5, .int 0, .ref q6, .int 0, .int 0, .ref q7, .null, .int 0, .int 0, .int 0, .int 0])), (q1, .inl (cI, 32, .inl (fun _ => 0))), (q2, .inl (cI, 33, .inl (fun _ => 0))), (q3, .inl (cI, 60, .inl (fun _ => 0))), (q4, .inl (cI, 60, .inl (fun _ => 0))), (q5, .inl (cZ, 60, .inl (fun _ => 0))), (q6, .inl (cI, 64, .inl (fun _ => 0))), (q7, .inl (cI, 32, .inl (fun _ => 0))), (q8, .inl (cI, 32, .inl (fun _ => 0)))])) hS => ?_)
  refine va_putF (D := D) (ci := 0) (v := .ref q8) (ty := .array .int) (C := R_X) (T := F_X) (N := 16) hx hb S.2.2.2.2 i_X t_X t_X_ok n_X S.2.2.2.1 hK hP hD hS 0 rfl rfl 11 (by decide) (S.2.2.2.2 _ fl_X_32) (fun _ h9 => h9) rfl hin rfl (by decide +kernel) rfl rfl (Nat.le_of_ble_eq_true rfl) d_X_init_65 (fun H locs (hP : va_P D classes ([(o0, .inr (0, [.ref q1, .ref q2, .int 0, .ref q3, .ref q4, .ref q5, .int 0, .ref q6, .int 0, .int 0, .ref q7, .ref q8, .int 0, .int 0, .int 0, .int 0])), (q1, .inl (cI, 32, .inl (fun _ => 0))), (q2, .inl (cI, 33, .inl (fun _ => 0))), (q3, .inl (cI, 60, .inl (fun _ => 0))), (q4, .inl (cI, 60, .inl (fun _ => 0))), (q5, .inl (cZ, 60, .inl (fun _ => 0))), (q6, .inl (cI, 64, .inl (fun _ => 0))), (q7, .inl (cI, 32, .inl (fun _ => 0))), (q8, .inl (cI, 32, .inl (fun _ => 0)))]) H) (hD : va_D A ([(o0, .inr (0, [.ref q1, .ref q2, .int 0, .ref q3, .ref q4, .ref q5, .int 0, .ref q6, .int 0, .int 0, .ref q7, .ref q8, .int 0, .int 0, .int 0, .int 0])), (q1, .inl (cI, 32, .inl (fun _ => 0))), (q2, .inl (cI, 33, .inl (fun _ => 0))), (q3, .inl (cI, 60, .inl (fun _ => 0))), (q4, .inl (cI, 60, .inl (fun _ => 0))), (q5, .inl (cZ, 60, .inl (fun _ => 0))), (q6, .inl (cI, 64, .inl (fun _ => 0))), (q7, .inl (cI, 32, .inl (fun _ => 0))), (q8, .inl (cI, 32, .inl (fun _ => 0)))])) hS => ?_)
  refine W.widen (k := 8) (n := 373) (Nat.le_of_ble_eq_true rfl) (Nat.le_of_ble_eq_true rfl) ?_
  refine lv_iload_n hx hb d_X_init_68 rfl (lv_at hl 1 rfl) ?_
  refine lv_bipush (v := 32) hx hb d_X_init_69 (by decide) ?_
  refine lv_irem hx hb d_X_init_71 (by decide) ?_
  refine lv_istore_n (lv' := [(2, .int (i - i / 32 * 32)), (0, .ref o0), (1, .int i)]) hx hb d_X_init_72 rfl hl (by decide) rfl (fun ls hl => ?_)
  have rest : ∀ x : Int32, 1 + x = nI K → W p l e (rmD 1 8 373) s m args below meth c H locs 8 373 Q (F0 m 87 ls [.int x, .int 1, .ref o0]) := by
    intro x hxk
    refine lv_iadd hx hb d_X_init_87 ?_
    refine dc_nrm (y := nI K) (hxk) ?_
    refine va_putF (D := D) (ci := 0) (v := .int (nI K)) (ty := .int) (C := R_X) (T := F_X) (N := 16) hx hb S.2.2.2.2 i_X t_X t_X_ok n_X S.2.2.2.1 hK hP hD hS 0 rfl rfl 2 (by decide) (S.2.2.2.2 _ fl_X_35) (fun _ h9 => h9) rfl hin rfl (by decide +kernel) rfl rfl (Nat.le_of_ble_eq_true rfl) d_X_init_88 (fun H locs (hP : va_P D classes ([(o0, .inr (0, [.ref q1, .ref q2, .int (nI K), .ref q3, .ref q4, .ref q5, .int 0, .ref q6, .int 0, .int 0, .ref q7, .ref q8, .int 0, .int 0, .int 0, .int 0])), (q1, .inl (cI, 32, .inl (fun _ => 0))), (q2, .inl (cI, 33, .inl (fun _ => 0))), (q3, .inl (cI, 60, .inl (fun _ => 0))), (q4, .inl (cI, 60, .inl (fun _ => 0))), (q5, .inl (cZ, 60, .inl (fun _ => 0))), (q6, .inl (cI, 64, .inl (fun _ => 0))), (q7, .inl (cI, 32, .inl (fun _ => 0))), (q8, .inl (cI, 32, .inl (fun _ => 0)))]) H) (hD : va_D A ([(o0, .inr (0, [.ref q1, .ref q2, .int (nI K), .ref q3, .ref q4, .ref q5, .int 0, .ref q6, .int 0, .int 0, .ref q7, .ref q8, .int 0, .int 0, .int 0, .int 0])), (q1, .inl (cI, 32, .inl (fun _ => 0))), (q2, .inl (cI, 33, .inl (fun _ => 0))), (q3, .inl (cI, 60, .inl (fun _ => 0))), (q4, .inl (cI, 60, .inl (fun _ => 0))), (q5, .inl (cZ, 60, .inl (fun _ => 0))), (q6, .inl (cI, 64, .inl (fun _ => 0))), (q7, .inl (cI, 32, .inl (fun _ => 0))), (q8, .inl (cI, 32, .inl (fun _ => 0)))])) hS => ?_)
    refine dc_ldc S kc_X_39 d_X_init_91 ?_
    refine lv_aload_n hx hb d_X_init_93 rfl (lv_at hl 1 rfl) ?_
    refine dc_get_X S hK hP 0 rfl fl_X_35 rfl d_X_init_94 ?_
    refine lv_idiv hx hb d_X_init_97 (nI_ne0 h0 (by omega)) ?_
    refine dc_nrm (y := nI (lc_tb K 1)) (pk_div (a := 65536) (by omega) h0 (by omega)) ?_
    refine lv_istore_n (lv' := [(3, .int (nI (lc_tb K 1))), (2, .int (i - i / 32 * 32)), (0, .ref o0), (1, .int i)]) hx hb d_X_init_98 rfl hl (by decide) rfl (fun ls hl => ?_)
    refine lv_aload_n hx hb d_X_init_99 rfl (lv_at hl 2 rfl) ?_
    refine dc_get_X S hK hP 0 rfl fl_X_13 rfl d_X_init_100 ?_
    refine lv_iconst (v := 1) hx hb d_X_init_103 (by decide) ?_
    refine lv_iload_n hx hb d_X_init_104 rfl (lv_at hl 0 rfl) ?_
    refine dc_ist S hK hP hD hS 2 rfl (j := 1) (rfl) (by omega) d_X_init_105 (fun H locs (hP : va_P D classes ([(o0, .inr (0, [.ref q1, .ref q2, .int (nI K), .ref q3, .ref q4, .ref q5, .int 0, .ref q6, .int 0, .int 0, .ref q7, .ref q8, .int 0, .int 0, .int 0, .int 0])), (q1, .inl (cI, 32, .inl (fun _ => 0))), (q2, .inl (cI, 33, .inl (upd (fun _ => 0) 1 (nI (lc_tb K 1))))), (q3, .inl (cI, 60, .inl (fun _ => 0))), (q4, .inl (cI, 60, .inl (fun _ => 0))), (q5, .inl (cZ, 60, .inl (fun _ => 0))), (q6, .inl (cI, 64, .inl (fun _ => 0))), (q7, .inl (cI, 32, .inl (fun _ => 0))), (q8, .inl (cI, 32, .inl (fun _ => 0)))]) H) (hD : va_D A ([(o0, .inr (0, [.ref q1, .ref q2, .int (nI K), .ref q3, .ref q4, .ref q5, .int 0, .ref q6, .int 0, .int 0, .ref q7, .ref q8, .int 0, .int 0, .int 0, .int 0])), (q1, .inl (cI, 32, .inl (fun _ => 0))), (q2, .inl (cI, 33, .inl (upd (fun _ => 0) 1 (nI (lc_tb K 1))))), (q3, .inl (cI, 60, .inl (fun _ => 0))), (q4, .inl (cI, 60, .inl (fun _ => 0))), (q5, .inl (cZ, 60, .inl (fun _ => 0))), (q6, .inl (cI, 64, .inl (fun _ => 0))), (q7, .inl (cI, 32, .inl (fun _ => 0))), (q8, .inl (cI, 32, .inl (fun _ => 0)))])) hS => ?_)
    refine lv_iconst (v := 2) hx hb d_X_init_106 (by decide) ?_
    refine lv_istore (lv' := [(4, .int 2), (3, .int (nI (lc_tb K 1))), (2, .int (i - i / 32 * 32)), (0, .ref o0), (1, .int i)]) hx hb d_X_init_107 hl (by decide) rfl (fun ls hl => ?_)
    have loop : ∀ (f c0 : Nat), K < c0 + 1 + f → c0 + 1 ≤ K → ∀ tb : Nat → Int32, (∀ d, 1 ≤ d → d ≤ c0 + 1 → tb d = nI (lc_tb K d)) → ∀ (H : Heap) (locs : List Loc) (ls : Array Slot), va_P D classes ([(o0, .inr (0, [.ref q1, .ref q2, .int (nI K), .ref q3, .ref q4, .ref q5, .int 0, .ref q6, .int 0, .int 0, .ref q7, .ref q8, .int 0, .int 0, .int 0, .int 0])), (q1, .inl (cI, 32, .inl (fun _ => 0))), (q2, .inl (cI, 33, .inl tb)), (q3, .inl (cI, 60, .inl (fun _ => 0))), (q4, .inl (cI, 60, .inl (fun _ => 0))), (q5, .inl (cZ, 60, .inl (fun _ => 0))), (q6, .inl (cI, 64, .inl (fun _ => 0))), (q7, .inl (cI, 32, .inl (fun _ => 0))), (q8, .inl (cI, 32, .inl (fun _ => 0)))]) H → va_D A ([(o0, .inr (0, [.ref q1, .ref q2, .int (nI K), .ref q3, .ref q4, .ref q5, .int 0, .ref q6, .int 0, .int 0, .ref q7, .ref q8, .int 0, .int 0, .int 0, .int 0])), (q1, .inl (cI, 32, .inl (fun _ => 0))), (q2, .inl (cI, 33, .inl tb)), (q3, .inl (cI, 60, .inl (fun _ => 0))), (q4, .inl (cI, 60, .inl (fun _ => 0))), (q5, .inl (cZ, 60, .inl (fun _ => 0))), (q6, .inl (cI, 64, .inl (fun _ => 0))), (q7, .inl (cI, 32, .inl (fun _ => 0))), (q8, .inl (cI, 32, .inl (fun _ => 0)))]) → va_S A s.heap H locs → lv_has ls 5 [(4, .int (nI (c0 + 2))), (3, .int (nI (lc_tb K (c0 + 1)))), (2, .int (i - i / 32 * 32)), (0, .ref o0), (1, .int i)] → W p l e (rmD 1 8 373) s m args below meth c H locs 8 373 Q (F0 m 109 ls []) := by
      intro f
      induction f with
      | zero => intro c0 h1 h2; exact absurd h1 (by omega)
      | succ f ih =>
        intro c0 hf hc0 tb htb H locs ls hP hD hS hl
        refine lv_iload hx hb d_X_init_109 (lv_at hl 0 rfl) ?_
        refine lv_aload_n hx hb d_X_init_111 rfl (lv_at hl 3 rfl) ?_
        refine dc_get_X S hK hP 0 rfl fl_X_35 rfl d_X_init_112 ?_
        refine lv_icmp_gt (tgt := 145) hx hb d_X_init_115 (by decide) (fun hc => ?_) (fun hc => ?_)
        · have e0 := zi_lt hc
          exact hret _ _ _ _ (fun k => match k with | 0 => o0 | 1 => q1 | 2 => q2 | 3 => q3 | 4 => q4 | 5 => q5 | 6 => q6 | 7 => q7 | _ => q8, tb) d_X_init_145 ⟨rfl, fun d h1 h2 => htb d h1 (by omega)⟩ hP hD hS
        · have e0 := zi_nlt hc
          have hm : (c0 + 2) * (c0 + 1) ≤ 32 * 32 := Nat.mul_le_mul (by omega) (by omega)
          have hm0 : 0 < (c0 + 2) * (c0 + 1) := Nat.mul_pos (by omega) (by omega)
          refine lv_iload_n hx hb d_X_init_118 rfl (lv_at hl 1 rfl) ?_
          refine dc_ldc S kc_X_39 d_X_init_119 ?_
          refine lv_iload hx hb d_X_init_121 (lv_at hl 0 rfl) ?_
          refine lv_iload hx hb d_X_init_123 (lv_at hl 0 rfl) ?_
          refine lv_iconst (v := 1) hx hb d_X_init_125 (by decide) ?_
          refine lv_isub hx hb d_X_init_126 ?_
          refine dc_nrm (y := nI (c0 + 1)) (nI_pred (c0 + 1)) ?_
          refine lv_imul hx hb d_X_init_127 ?_
          refine dc_nrm (y := nI ((c0 + 2) * (c0 + 1))) (pk_mul _ _) ?_
          refine lv_idiv hx hb d_X_init_128 (nI_ne0 hm0 (by omega)) ?_
          refine dc_nrm (y := nI (65536 / ((c0 + 2) * (c0 + 1)))) (pk_div (a := 65536) (by omega) hm0 (by omega)) ?_
          refine lv_iadd hx hb d_X_init_129 ?_
          refine dc_nrm (y := nI (lc_tb K (c0 + 2))) (nI_add _ _) ?_
          refine lv_istore_n (lv' := [(3, .int (nI (lc_tb K (c0 + 2)))), (4, .int (nI (c0 + 2))), (2, .int (i - i / 32 * 32)), (0, .ref o0), (1, .int i)]) hx hb d_X_init_130 rfl hl (by decide) rfl (fun ls hl => ?_)
          refine lv_aload_n hx hb d_X_init_131 rfl (lv_at hl 3 rfl) ?_
          refine dc_get_X S hK hP 0 rfl fl_X_13 rfl d_X_init_132 ?_
          refine lv_iload hx hb d_X_init_135 (lv_at hl 1 rfl) ?_
          refine lv_iload_n hx hb d_X_init_137 rfl (lv_at hl 0 rfl) ?_
          refine dc_ist S hK hP hD hS 2 rfl (j := c0 + 2) (rfl) (by omega) d_X_init_138 (fun H locs (hP : va_P D classes ([(o0, .inr (0, [.ref q1, .ref q2, .int (nI K), .ref q3, .ref q4, .ref q5, .int 0, .ref q6, .int 0, .int 0, .ref q7, .ref q8, .int 0, .int 0, .int 0, .int 0])), (q1, .inl (cI, 32, .inl (fun _ => 0))), (q2, .inl (cI, 33, .inl (upd tb (c0 + 2) (nI (lc_tb K (c0 + 2)))))), (q3, .inl (cI, 60, .inl (fun _ => 0))), (q4, .inl (cI, 60, .inl (fun _ => 0))), (q5, .inl (cZ, 60, .inl (fun _ => 0))), (q6, .inl (cI, 64, .inl (fun _ => 0))), (q7, .inl (cI, 32, .inl (fun _ => 0))), (q8, .inl (cI, 32, .inl (fun _ => 0)))]) H) (hD : va_D A ([(o0, .inr (0, [.ref q1, .ref q2, .int (nI K), .ref q3, .ref q4, .ref q5, .int 0, .ref q6, .int 0, .int 0, .ref q7, .ref q8, .int 0, .int 0, .int 0, .int 0])), (q1, .inl (cI, 32, .inl (fun _ => 0))), (q2, .inl (cI, 33, .inl (upd tb (c0 + 2) (nI (lc_tb K (c0 + 2)))))), (q3, .inl (cI, 60, .inl (fun _ => 0))), (q4, .inl (cI, 60, .inl (fun _ => 0))), (q5, .inl (cZ, 60, .inl (fun _ => 0))), (q6, .inl (cI, 64, .inl (fun _ => 0))), (q7, .inl (cI, 32, .inl (fun _ => 0))), (q8, .inl (cI, 32, .inl (fun _ => 0)))])) hS => ?_)
          refine lv_iinc (v := nI ((c0 + 2) + 1)) (lv' := [(4, .int (nI ((c0 + 2) + 1))), (3, .int (nI (lc_tb K (c0 + 2)))), (2, .int (i - i / 32 * 32)), (0, .ref o0), (1, .int i)]) hx hb d_X_init_139 hl (k := 1) rfl (nI_1 _) (by decide) rfl (fun ls hl => ?_)
          refine lv_goto (tgt := 109) hx hb d_X_init_142 (by decide) ?_
          refine ih (c0 + 1) (by omega) (by omega) _ (fun d h1 h2 => ?_) _ _ ls hP hD hS (lv_sub hl [0, 1, 2, 3, 4] rfl)
          by_cases e : d = c0 + 2
          · rw [e, pk_us]
          · rw [pk_un e]; exact htb d h1 (by omega)
    refine loop K 0 (by omega) (by omega) _ (fun d h1 h2 => ?_) _ _ ls hP hD hS (lv_sub hl [0, 1, 2, 3, 4] rfl)
    rw [show d = 1 by omega, pk_us]
  refine lv_aload_n hx hb d_X_init_73 rfl (lv_at hl 1 rfl) ?_
  refine lv_iconst (v := 1) hx hb d_X_init_74 (by decide) ?_
  refine lv_iload_n hx hb d_X_init_75 rfl (lv_at hl 0 rfl) ?_
  refine lv_if_ge (tgt := 86) hx hb d_X_init_76 (by decide) (fun hcv => ?_) (fun hcv => ?_)
  · refine lv_iload_n hx hb d_X_init_86 rfl (lv_at hl 0 rfl) ?_
    exact rest _ (hk1 hcv)
  · refine lv_iload_n hx hb d_X_init_79 rfl (lv_at hl 0 rfl) ?_
    refine lv_bipush (v := 32) hx hb d_X_init_80 (by decide) ?_
    refine lv_iadd hx hb d_X_init_82 ?_
    refine lv_goto (tgt := 87) hx hb d_X_init_83 (by decide) ?_
    exact rest _ (hk2 hcv)
set_option maxHeartbeats 4000000 in
set_option maxRecDepth 100000 in
/-- a new object -/
theorem c_M_init (l : Launch) (D : va_G) (cI cZ : ClassId) (o0 : Nat) (i : Int32) (K : Nat) (hk : lk_K i K) : CtV l y_M_init b_M_init 3 1 8 340 D [(cI, .int), (cZ, .boolean)] [.ref o0, .int i] ([(o0, .inr (1, [.int 0, .null, .int 0, .null, .null, .null, .int 0, .null, .null, .null, .int 0, .int 0, .null, .int 0]))]) (fun (u : (Nat → Nat) × Unit) => u.1 0 = o0) (fun u => Mw cI cZ u.1 (nI K, nI 0, nI 0, nI 0, 0, 0, fun _ => 0, fun _ => 0, fun _ => 0, fun _ => 0, fun _ => 0, fun _ => 0, fun _ => 0, fun _ => 0)) := by
  refine CtV.of (by decide) (Nat.le_of_ble_eq_true rfl) ?_
  intro p e s m args below meth c A Q hin S hK hP hD hA hS hret ls hl
  have S : CallFix p m c b_M_init 3 s args gw_tbl R_M := S
  have hx := S.1
  have hb := S.2.1
  have hl : lv_has ls 3 [(0, .ref o0), (1, .int i)] := hl
  have hin : meth.name = "<init>" := hin
  obtain ⟨h0, hK32, hk1, hk2⟩ := hk
  refine lv_aload_n hx hb d_M_init_0 rfl (lv_at hl 0 rfl) ?_
  refine W.objInit hx hb S.2.2.2.1 (S.2.2.2.2 _ ml_M_1) (S.2.2.2.2 _ oi_inst) (S.2.2.2.2 _ oi_code) rfl (by rw [S.2.2.1]; exact hl.1) rfl d_M_init_1 (Nat.le_of_ble_eq_true rfl) (Nat.le_of_ble_eq_true rfl) ?_
  refine W.eq (g2 := F0 m 4 ls []) rfl ?_
  refine lv_aload_n hx hb d_M_init_4 rfl (lv_at hl 0 rfl) ?_
  refine lv_bipush (v := 32) hx hb d_M_init_5 (by decide) ?_
  refine dc_newI S hK hP hD hS hA (N' := 32) (by decide) (by decide) (by decide) (Nat.le_of_ble_eq_true rfl) (Nat.le_of_ble_eq_true rfl) d_M_init_7 (fun q1 H (hP : va_P D classes ([(o0, .inr (1, [.int 0, .null, .int 0, .null, .null, .null, .int 0, .null, .null, .null, .int 0, .int 0, .null, .int 0])), (q1, .inl (cI, 32, .inl (fun _ => 0)))]) H) (hD : va_D A ([(o0, .inr (1, [.int 0, .null, .int 0, .null, .null, .null, .int 0, .null, .null, .null, .int 0, .int 0, .null, .int 0])), (q1, .inl (cI, 32, .inl (fun _ => 0)))])) hS => ?_)
  refine va_putF (D := D) (ci := 1) (v := .ref q1) (ty := .array .int) (C := R_M) (T := F_M) (N := 14) hx hb S.2.2.2.2 i_M t_M t_M_ok n_M S.2.2.2.1 hK hP hD hS 0 rfl rfl 1 (by decide) (S.2.2.2.2 _ fl_M_7) (fun _ h9 => h9) rfl hin rfl (by decide +kernel) rfl rfl (Nat.le_of_ble_eq_true rfl) d_M_init_9 (fun H locs (hP : va_P D classes ([(o0, .inr (1, [.int 0, .ref q1, .int 0, .null, .null, .null, .int 0, .null, .null, .null, .int 0, .int 0, .null, .int 0])), (q1, .inl (cI, 32, .inl (fun _ => 0)))]) H) (hD : va_D A ([(o0, .inr (1, [.int 0, .ref q1, .int 0, .null, .null, .null, .int 0, .null, .null, .null, .int 0, .int 0, .null, .int 0])), (q1, .inl (cI, 32, .inl (fun _ => 0)))])) hS => ?_)
  refine lv_aload_n hx hb d_M_init_12 rfl (lv_at hl 0 rfl) ?_
  refine lv_bipush (v := 60) hx hb d_M_init_13 (by decide) ?_
  refine dc_newI S hK hP hD hS hA (N' := 60) (by decide) (by decide) (by decide) (Nat.le_of_ble_eq_true rfl) (Nat.le_of_ble_eq_true rfl) d_M_init_15 (fun q2 H (hP : va_P D classes ([(o0, .inr (1, [.int 0, .ref q1, .int 0, .null, .null, .null, .int 0, .null, .null, .null, .int 0, .int 0, .null, .int 0])), (q1, .inl (cI, 32, .inl (fun _ => 0))), (q2, .inl (cI, 60, .inl (fun _ => 0)))]) H) (hD : va_D A ([(o0, .inr (1, [.int 0, .ref q1, .int 0, .null, .null, .null, .int 0, .null, .null, .null, .int 0, .int 0, .null, .int 0])), (q1, .inl (cI, 32, .inl (fun _ => 0))), (q2, .inl (cI, 60, .inl (fun _ => 0)))])) hS => ?_)
  refine va_putF (D := D) (ci := 1) (v := .ref q2) (ty := .array .int) (C := R_M) (T := F_M) (N := 14) hx hb S.2.2.2.2 i_M t_M t_M_ok n_M S.2.2.2.1 hK hP hD hS 0 rfl rfl 3 (by decide) (S.2.2.2.2 _ fl_M_13) (fun _ h9 => h9) rfl hin rfl (by decide +kernel) rfl rfl (Nat.le_of_ble_eq_true rfl) d_M_init_17 (fun H locs (hP : va_P D classes ([(o0, .inr (1, [.int 0, .ref q1, .int 0, .ref q2, .null, .null, .int 0, .null, .null, .null, .int 0, .int 0, .null, .int 0])), (q1, .inl (cI, 32, .inl (fun _ => 0))), (q2, .inl (cI, 60, .inl (fun _ => 0)))]) H) (hD : va_D A ([(o0, .inr (1, [.int 0, .ref q1, .int 0, .ref q2, .null, .null, .int 0, .null, .null, .null, .int 0, .int 0, .null, .int 0])), (q1, .inl (cI, 32, .inl (fun _ => 0))), (q2, .inl (cI, 60, .inl (fun _ => 0)))])) hS => ?_)
  refine lv_aload_n hx hb d_M_init_20 rfl (lv_at hl 0 rfl) ?_
  refine lv_bipush (v := 60) hx hb d_M_init_21 (by decide) ?_
  refine dc_newI S hK hP hD hS hA (N' := 60) (by decide) (by decide) (by decide) (Nat.le_of_ble_eq_true rfl) (Nat.le_of_ble_eq_true rfl) d_M_init_23 (fun q3 H (hP : va_P D classes ([(o0, .inr (1, [.int 0, .ref q1, .int 0, .ref q2, .null, .null, .int 0, .null, .null, .null, .int 0, .int 0, .null, .int 0])), (q1, .inl (cI, 32, .inl (fun _ => 0))), (q2, .inl (cI, 60, .inl (fun _ => 0))), (q3, .inl (cI, 60, .inl (fun _ => 0)))]) H) (hD : va_D A ([(o0, .inr (1, [.int 0, .ref q1, .int 0, .ref q2, .null, .null, .int 0, .null, .null, .null, .int 0, .int 0, .null, .int 0])), (q1, .inl (cI, 32, .inl (fun _ => 0))), (q2, .inl (cI, 60, .inl (fun _ => 0))), (q3, .inl (cI, 60, .inl (fun _ => 0)))])) hS => ?_)
  refine va_putF (D := D) (ci := 1) (v := .ref q3) (ty := .array .int) (C := R_M) (T := F_M) (N := 14) hx hb S.2.2.2.2 i_M t_M t_M_ok n_M S.2.2.2.1 hK hP hD hS 0 rfl rfl 4 (by decide) (S.2.2.2.2 _ fl_M_16) (fun _ h9 => h9) rfl hin rfl (by decide +kernel) rfl rfl (Nat.le_of_ble_eq_true rfl) d_M_init_25 (fun H locs (hP : va_P D classes ([(o0, .inr (1, [.int 0, .ref q1, .int 0, .ref q2, .ref q3, .null, .int 0, .null, .null, .null, .int 0, .int 0, .null, .int 0])), (q1, .inl (cI, 32, .inl (fun _ => 0))), (q2, .inl (cI, 60, .inl (fun _ => 0))), (q3, .inl (cI, 60, .inl (fun _ => 0)))]) H) (hD : va_D A ([(o0, .inr (1, [.int 0, .ref q1, .int 0, .ref q2, .ref q3, .null, .int 0, .null, .null, .null, .int 0, .int 0, .null, .int 0])), (q1, .inl (cI, 32, .inl (fun _ => 0))), (q2, .inl (cI, 60, .inl (fun _ => 0))), (q3, .inl (cI, 60, .inl (fun _ => 0)))])) hS => ?_)
  refine lv_aload_n hx hb d_M_init_28 rfl (lv_at hl 0 rfl) ?_
  refine lv_bipush (v := 60) hx hb d_M_init_29 (by decide) ?_
  refine dc_newI S hK hP hD hS hA (N' := 60) (by decide) (by decide) (by decide) (Nat.le_of_ble_eq_true rfl) (Nat.le_of_ble_eq_true rfl) d_M_init_31 (fun q4 H (hP : va_P D classes ([(o0, .inr (1, [.int 0, .ref q1, .int 0, .ref q2, .ref q3, .null, .int 0, .null, .null, .null, .int 0, .int 0, .null, .int 0])), (q1, .inl (cI, 32, .inl (fun _ => 0))), (q2, .inl (cI, 60, .inl (fun _ => 0))), (q3, .inl (cI, 60, .inl (fun _ => 0))), (q4, .inl (cI, 60, .inl (fun _ => 0)))]) H) (hD : va_D A ([(o0, .inr (1, [.int 0, .ref q1, .int 0, .ref q2, .ref q3, .null, .int 0, .null, .null, .null, .int 0, .int 0, .null, .int 0])), (q1, .inl (cI, 32, .inl (fun _ => 0))), (q2, .inl (cI, 60, .inl (fun _ => 0))), (q3, .inl (cI, 60, .inl (fun _ => 0))), (q4, .inl (cI, 60, .inl (fun _ => 0)))])) hS => ?_)
  refine va_putF (D := D) (ci := 1) (v := .ref q4) (ty := .array .int) (C := R_M) (T := F_M) (N := 14) hx hb S.2.2.2.2 i_M t_M t_M_ok n_M S.2.2.2.1 hK hP hD hS 0 rfl rfl 5 (by decide) (S.2.2.2.2 _ fl_M_19) (fun _ h9 => h9) rfl hin rfl (by decide +kernel) rfl rfl (Nat.le_of_ble_eq_true rfl) d_M_init_33 (fun H locs (hP : va_P D classes ([(o0, .inr (1, [.int 0, .ref q1, .int 0, .ref q2, .ref q3, .ref q4, .int 0, .null, .null, .null, .int 0, .int 0, .null, .int 0])), (q1, .inl (cI, 32, .inl (fun _ => 0))), (q2, .inl (cI, 60, .inl (fun _ => 0))), (q3, .inl (cI, 60, .inl (fun _ => 0))), (q4, .inl (cI, 60, .inl (fun _ => 0)))]) H) (hD : va_D A ([(o0, .inr (1, [.int 0, .ref q1, .int 0, .ref q2, .ref q3, .ref q4, .int 0, .null, .null, .null, .int 0, .int 0, .null, .int 0])), (q1, .inl (cI, 32, .inl (fun _ => 0))), (q2, .inl (cI, 60, .inl (fun _ => 0))), (q3, .inl (cI, 60, .inl (fun _ => 0))), (q4, .inl (cI, 60, .inl (fun _ => 0)))])) hS => ?_)
  refine lv_aload_n hx hb d_M_init_36 rfl (lv_at hl 0 rfl) ?_
  refine lv_bipush (v := 32) hx hb d_M_init_37 (by decide) ?_
  refine dc_newZ S hK hP hD hS hA (N' := 32) (by decide) (by decide) (by decide) (Nat.le_of_ble_eq_true rfl) (Nat.le_of_ble_eq_true rfl) d_M_init_39 (fun q5 H (hP : va_P D classes ([(o0, .inr (1, [.int 0, .ref q1, .int 0, .ref q2, .ref q3, .ref q4, .int 0, .null, .null, .null, .int 0, .int 0, .null, .int 0])), (q1, .inl (cI, 32, .inl (fun _ => 0))), (q2, .inl (cI, 60, .inl (fun _ => 0))), (q3, .inl (cI, 60, .inl (fun _ => 0))), (q4, .inl (cI, 60, .inl (fun _ => 0))), (q5, .inl (cZ, 32, .inl (fun _ => 0)))]) H) (hD : va_D A ([(o0, .inr (1, [.int 0, .ref q1, .int 0, .ref q2, .ref q3, .ref q4, .int 0, .null, .null, .null, .int 0, .int 0, .null, .int 0])), (q1, .inl (cI, 32, .inl (fun _ => 0))), (q2, .inl (cI, 60, .inl (fun _ => 0))), (q3, .inl (cI, 60, .inl (fun _ => 0))), (q4, .inl (cI, 60, .inl (fun _ => 0))), (q5, .inl (cZ, 32, .inl (fun _ => 0)))])) hS => ?_)
  refine va_putF (D := D) (ci := 1) (v := .ref q5) (ty := .array .boolean) (C := R_M) (T := F_M) (N := 14) hx hb S.2.2.2.2 i_M t_M t_M_ok n_M S.2.2.2.1 hK hP hD hS 0 rfl rfl 7 (by decide) (S.2.2.2.2 _ fl_M_22) (fun _ h9 => h9) rfl hin rfl (by decide +kernel) rfl rfl (Nat.le_of_ble_eq_true rfl) d_M_init_41 (fun H locs (hP : va_P D classes ([(o0, .inr (1, [.int 0, .ref q1, .int 0, .ref q2, .ref q3, .ref q4, .int 0, .ref q5, .null, .null, .int 0, .int 0, .null, .int 0])), (q1, .inl (cI, 32, .inl (fun _ => 0))), (q2, .inl (cI, 60, .inl (fun _ => 0))), (q3, .inl (cI, 60, .inl (fun _ => 0))), (q4, .inl (cI, 60, .inl (fun _ => 0))), (q5, .inl (cZ, 32, .inl (fun _ => 0)))]) H) (hD : va_D A ([(o0, .inr (1, [.int 0, .ref q1, .int 0, .ref q2, .ref q3, .ref q4, .int 0, .ref q5, .null, .null, .int 0, .int 0, .null, .int 0])), (q1, .inl (cI, 32, .inl (fun _ => 0))), (q2, .inl (cI, 60, .inl (fun _ => 0))), (q3, .inl (cI, 60, .inl (fun _ => 0))), (q4, .inl (cI, 60, .inl (fun _ => 0))), (q5, .inl (cZ, 32, .inl (fun _ => 0)))])) hS => ?_)
  refine lv_aload_n hx hb d_M_init_44 rfl (lv_at hl 0 rfl) ?_
  refine lv_bipush (v := 32) hx hb d_M_init_45 (by decide) ?_
  refine dc_newI S hK hP hD hS hA (N' := 32) (by decide) (by decide) (by decide) (Nat.le_of_ble_eq_true rfl) (Nat.le_of_ble_eq_true rfl) d_M_init_47 (fun q6 H (hP : va_P D classes ([(o0, .inr (1, [.int 0, .ref q1, .int 0, .ref q2, .ref q3, .ref q4, .int 0, .ref q5, .null, .null, .int 0, .int 0, .null, .int 0])), (q1, .inl (cI, 32, .inl (fun _ => 0))), (q2, .inl (cI, 60, .inl (fun _ => 0))), (q3, .inl (cI, 60, .inl (fun _ => 0))), (q4, .inl (cI, 60, .inl (fun _ => 0))), (q5, .inl (cZ, 32, .inl (fun _ => 0))), (q6, .inl (cI, 32, .inl (fun _ => 0)))]) H) (hD : va_D A ([(o0, .inr (1, [.int 0, .ref q1, .int 0, .ref q2, .ref q3, .ref q4, .int 0, .ref q5, .null, .null, .int 0, .int 0, .null, .int 0])), (q1, .inl (cI, 32, .inl (fun _ => 0))), (q2, .inl (cI, 60, .inl (fun _ => 0))), (q3, .inl (cI, 60, .inl (fun _ => 0))), (q4, .inl (cI, 60, .inl (fun _ => 0))), (q5, .inl (cZ, 32, .inl (fun _ => 0))), (q6, .inl (cI, 32, .inl (fun _ => 0)))])) hS => ?_)
  refine va_putF (D := D) (ci := 1) (v := .ref q6) (ty := .array .int) (C := R_M) (T := F_M) (N := 14) hx hb S.2.2.2.2 i_M t_M t_M_ok n_M S.2.2.2.1 hK hP hD hS 0 rfl rfl 8 (by decide) (S.2.2.2.2 _ fl_M_26) (fun _ h9 => h9) rfl hin rfl (by decide +kernel) rfl rfl (Nat.le_of_ble_eq_true rfl) d_M_init_49 (fun H locs (hP : va_P D classes ([(o0, .inr (1, [.int 0, .ref q1, .int 0, .ref q2, .ref q3, .ref q4, .int 0, .ref q5, .ref q6, .null, .int 0, .int 0, .null, .int 0])), (q1, .inl (cI, 32, .inl (fun _ => 0))), (q2, .inl (cI, 60, .inl (fun _ => 0))), (q3, .inl (cI, 60, .inl (fun _ => 0))), (q4, .inl (cI, 60, .inl (fun _ => 0))), (q5, .inl (cZ, 32, .inl (fun _ => 0))), (q6, .inl (cI, 32, .inl (fun _ => 0)))]) H) (hD : va_D A ([(o0, .inr (1, [.int 0, .ref q1, .int 0, .ref q2, .ref q3, .ref q4, .int 0, .ref q5, .ref q6, .null, .int 0, .int 0, .null, .int 0])), (q1, .inl (cI, 32, .inl (fun _ => 0))), (q2, .inl (cI, 60, .inl (fun _ => 0))), (q3, .inl (cI, 60, .inl (fun _ => 0))), (q4, .inl (cI, 60, .inl (fun _ => 0))), (q5, .inl (cZ, 32, .inl (fun _ => 0))), (q6, .inl (cI, 32, .inl (fun _ => 0)))])) hS => ?_)
  refine lv_aload_n hx hb d_M_init_52 rfl (lv_at hl 0 rfl) ?_
  refine lv_bipush (v := 32) hx hb d_M_init_53 (by decide) ?_
  refine dc_newI S hK hP hD hS hA (N' := 32) (by decide) (by decide) (by decide) (Nat.le_of_ble_eq_true rfl) (Nat.le_of_ble_eq_true rfl) d_M_init_55 (fun q7 H (hP : va_P D classes ([(o0, .inr (1, [.int 0, .ref q1, .int 0, .ref q2, .ref q3, .ref q4, .int 0, .ref q5, .ref q6, .null, .int 0, .int 0, .null, .int 0])), (q1, .inl (cI, 32, .inl (fun _ => 0))), (q2, .inl (cI, 60, .inl (fun _ => 0))), (q3, .inl (cI, 60, .inl (fun _ => 0))), (q4, .inl (cI, 60, .inl (fun _ => 0))), (q5, .inl (cZ, 32, .inl (fun _ => 0))), (q6, .inl (cI, 32, .inl (fun _ => 0))), (q7, .inl (cI, 32, .inl (fun _ => 0)))]) H) (hD : va_D A ([(o0, .inr (1, [.int 0, .ref q1, .int 0, .ref q2, .ref q3, .ref q4, .int 0, .ref q5, .ref q6, .null, .int 0, .int 0, .null, .int 0])), (q1, .inl (cI, 32, .inl (fun _ => 0))), (q2, .inl (cI, 60, .inl (fun _ => 0))), (q3, .inl (cI, 60, .inl (fun _ => 0))), (q4, .inl (cI, 60, .inl (fun _ => 0))), (q5, .inl (cZ, 32, .inl (fun _ => 0))), (q6, .inl (cI, 32, .inl (fun _ => 0))), (q7, .inl (cI, 32, .inl (fun _ => 0)))])) hS => ?_)
  refine va_putF (D := D) (ci := 1) (v := .ref q7) (ty := .array .int) (C := R_M) (T := F_M) (N := 14) hx hb S.2.2.2.2 i_M t_M t_M_ok n_M S.2.2.2.1 hK hP hD hS 0 rfl rfl 9 (by decide) (S.2.2.2.2 _ fl_M_29) (fun _ h9 => h9) rfl hin rfl (by decide +kernel) rfl rfl (Nat.le_of_ble_eq_true rfl) d_M_init_57 (fun H locs (hP : va_P D classes ([(o0, .inr (1, [.int 0, .ref q1, .int 0, .ref q2, .ref q3, .ref q4, .int 0, .ref q5, .ref q6, .ref q7, .int 0, .int 0, .null, .int 0])), (q1, .inl (cI, 32, .inl (fun _ => 0))), (q2, .inl (cI, 60, .inl (fun _ => 0))), (q3, .inl (cI, 60, .inl (fun _ => 0))), (q4, .inl (cI, 60, .inl (fun _ => 0))), (q5, .inl (cZ, 32, .inl (fun _ => 0))), (q6, .inl (cI, 32, .inl (fun _ => 0))), (q7, .inl (cI, 32, .inl (fun _ => 0)))]) H) (hD : va_D A ([(o0, .inr (1, [.int 0, .ref q1, .int 0, .ref q2, .ref q3, .ref q4, .int 0, .ref q5, .ref q6, .ref q7, .int 0, .int 0, .null, .int 0])), (q1, .inl (cI, 32, .inl (fun _ => 0))), (q2, .inl (cI, 60, .inl (fun _ => 0))), (q3, .inl (cI, 60, .inl (fun _ => 0))), (q4, .inl (cI, 60, .inl (fun _ => 0))), (q5, .inl (cZ, 32, .inl (fun _ => 0))), (q6, .inl (cI, 32, .inl (fun _ => 0))), (q7, .inl (cI, 32, .inl (fun _ => 0)))])) hS => ?_)
  refine lv_aload_n hx hb d_M_init_60 rfl (lv_at hl 0 rfl) ?_
  refine lv_bipush (v := 32) hx hb d_M_init_61 (by decide) ?_
  refine dc_newZ S hK hP hD hS hA (N' := 32) (by decide) (by decide) (by decide) (Nat.le_of_ble_eq_true rfl) (Nat.le_of_ble_eq_true rfl) d_M_init_63 (fun q8 H (hP : va_P D classes ([(o0, .inr (1, [.int 0, .ref q1, .int 0, .ref q2, .ref q3, .ref q4, .int 0, .ref q5, .ref q6, .ref q7, .int 0, .int 0, .null, .int 0])), (q1, .inl (cI, 32, .inl (fun _ => 0))), (q2, .inl (cI, 60, .inl (fun _ => 0))), (q3, .inl (cI, 60, .inl (fun _ => 0))), (q4, .inl (cI, 60, .inl (fun _ => 0))), (q5, .inl (cZ, 32, .inl (fun _ => 0))), (q6, .inl (cI, 32, .inl (fun _ => 0))), (q7, .inl (cI, 32, .inl (fun _ => 0))), (q8, .inl (cZ, 32, .inl (fun _ => 0)))]) H) (hD : va_D A ([(o0, .inr (1, [.int 0, .ref q1, .int 0, .ref q2, .ref q3, .ref q4, .int 0, .ref q5, .ref q6, .ref q7, .int 0, .int 0, .null, .int 0])), (q1, .inl (cI, 32, .inl (fun _ => 0))), (q2, .inl (cI, 60, .inl (fun _ => 0))), (q3, .inl (cI, 60, .inl (fun _ => 0))), (q4, .inl (cI, 60, .inl (fun _ => 0))), (q5, .inl (cZ, 32, .inl (fun _ => 0))), (q6, .inl (cI, 32, .inl (fun _ => 0))), (q7, .inl (cI, 32, .inl (fun _ => 0))), (q8, .inl (cZ, 32, .inl (fun _ => 0)))])) hS => ?_)
  refine va_putF (D := D) (ci := 1) (v := .ref q8) (ty := .array .boolean) (C := R_M) (T := F_M) (N := 14) hx hb S.2.2.2.2 i_M t_M t_M_ok n_M S.2.2.2.1 hK hP hD hS 0 rfl rfl 12 (by decide) (S.2.2.2.2 _ fl_M_32) (fun _ h9 => h9) rfl hin rfl (by decide +kernel) rfl rfl (Nat.le_of_ble_eq_true rfl) d_M_init_65 (fun H locs (hP : va_P D classes ([(o0, .inr (1, [.int 0, .ref q1, .int 0, .ref q2, .ref q3, .ref q4, .int 0, .ref q5, .ref q6, .ref q7, .int 0, .int 0, .ref q8, .int 0])), (q1, .inl (cI, 32, .inl (fun _ => 0))), (q2, .inl (cI, 60, .inl (fun _ => 0))), (q3, .inl (cI, 60, .inl (fun _ => 0))), (q4, .inl (cI, 60, .inl (fun _ => 0))), (q5, .inl (cZ, 32, .inl (fun _ => 0))), (q6, .inl (cI, 32, .inl (fun _ => 0))), (q7, .inl (cI, 32, .inl (fun _ => 0))), (q8, .inl (cZ, 32, .inl (fun _ => 0)))]) H) (hD : va_D A ([(o0, .inr (1, [.int 0, .ref q1, .int 0, .ref q2, .ref q3, .ref q4, .int 0, .ref q5, .ref q6, .ref q7, .int 0, .int 0, .ref q8, .int 0])), (q1, .inl (cI, 32, .inl (fun _ => 0))), (q2, .inl (cI, 60, .inl (fun _ => 0))), (q3, .inl (cI, 60, .inl (fun _ => 0))), (q4, .inl (cI, 60, .inl (fun _ => 0))), (q5, .inl (cZ, 32, .inl (fun _ => 0))), (q6, .inl (cI, 32, .inl (fun _ => 0))), (q7, .inl (cI, 32, .inl (fun _ => 0))), (q8, .inl (cZ, 32, .inl (fun _ => 0)))])) hS => ?_)
  refine W.widen (k := 8) (n := 340) (Nat.le_of_ble_eq_true rfl) (Nat.le_of_ble_eq_true rfl) ?_
  refine lv_iload_n hx hb d_M_init_68 rfl (lv_at hl 1 rfl) ?_
  refine lv_bipush (v := 32) hx hb d_M_init_69 (by decide) ?_
  refine lv_irem hx hb d_M_init_71 (by decide) ?_
  refine lv_istore_n (lv' := [(2, .int (i - i / 32 * 32)), (0, .ref o0), (1, .int i)]) hx hb d_M_init_72 rfl hl (by decide) rfl (fun ls hl => ?_)
  have rest : ∀ x : Int32, 1 + x = nI K → W p l e (rmD 1 8 340) s m args below meth c H locs 8 340 Q (F0 m 87 ls [.int x, .int 1, .ref o0]) := by
    intro x hxk
    refine lv_iadd hx hb d_M_init_87 ?_
    refine dc_nrm (y := nI K) (hxk) ?_
    refine va_putF (D := D) (ci := 1) (v := .int (nI K)) (ty := .int) (C := R_M) (T := F_M) (N := 14) hx hb S.2.2.2.2 i_M t_M t_M_ok n_M S.2.2.2.1 hK hP hD hS 0 rfl rfl 0 (by decide) (S.2.2.2.2 _ fl_M_35) (fun _ h9 => h9) rfl hin rfl (by decide +kernel) rfl rfl (Nat.le_of_ble_eq_true rfl) d_M_init_88 (fun H locs (hP : va_P D classes ([(o0, .inr (1, [.int (nI K), .ref q1, .int 0, .ref q2, .ref q3, .ref q4, .int 0, .ref q5, .ref q6, .ref q7, .int 0, .int 0, .ref q8, .int 0])), (q1, .inl (cI, 32, .inl (fun _ => 0))), (q2, .inl (cI, 60, .inl (fun _ => 0))), (q3, .inl (cI, 60, .inl (fun _ => 0))), (q4, .inl (cI, 60, .inl (fun _ => 0))), (q5, .inl (cZ, 32, .inl (fun _ => 0))), (q6, .inl (cI, 32, .inl (fun _ => 0))), (q7, .inl (cI, 32, .inl (fun _ => 0))), (q8, .inl (cZ, 32, .inl (fun _ => 0)))]) H) (hD : va_D A ([(o0, .inr (1, [.int (nI K), .ref q1, .int 0, .ref q2, .ref q3, .ref q4, .int 0, .ref q5, .ref q6, .ref q7, .int 0, .int 0, .ref q8, .int 0])), (q1, .inl (cI, 32, .inl (fun _ => 0))), (q2, .inl (cI, 60, .inl (fun _ => 0))), (q3, .inl (cI, 60, .inl (fun _ => 0))), (q4, .inl (cI, 60, .inl (fun _ => 0))), (q5, .inl (cZ, 32, .inl (fun _ => 0))), (q6, .inl (cI, 32, .inl (fun _ => 0))), (q7, .inl (cI, 32, .inl (fun _ => 0))), (q8, .inl (cZ, 32, .inl (fun _ => 0)))])) hS => ?_)
    exact hret _ _ _ _ (fun k => match k with | 0 => o0 | 1 => q1 | 2 => q2 | 3 => q3 | 4 => q4 | 5 => q5 | 6 => q6 | 7 => q7 | _ => q8, ()) d_M_init_91 rfl hP hD hS
  refine lv_aload_n hx hb d_M_init_73 rfl (lv_at hl 1 rfl) ?_
  refine lv_iconst (v := 1) hx hb d_M_init_74 (by decide) ?_
  refine lv_iload_n hx hb d_M_init_75 rfl (lv_at hl 0 rfl) ?_
  refine lv_if_ge (tgt := 86) hx hb d_M_init_76 (by decide) (fun hcv => ?_) (fun hcv => ?_)
  · refine lv_iload_n hx hb d_M_init_86 rfl (lv_at hl 0 rfl) ?_
    exact rest _ (hk1 hcv)
  · refine lv_iload_n hx hb d_M_init_79 rfl (lv_at hl 0 rfl) ?_
    refine lv_bipush (v := 32) hx hb d_M_init_80 (by decide) ?_
    refine lv_iadd hx hb d_M_init_82 ?_
    refine lv_goto (tgt := 87) hx hb d_M_init_83 (by decide) ?_
    exact rest _ (hk2 hcv)
end
section
/-! DropCodeModel's own cells against the plain decoder -/
theorem b2_t : b2 true = 1 := rfl
theorem b2_f : b2 false = 0 := rfl
theorem b2_eq0 {b : Bool} (h : b2 b = 0) : b = false := by
  cases b with
  | false => rfl
  | true => exact absurd h (by decide)
theorem b2_ne0 {b : Bool} (h : ¬ b2 b = 0) : b = true := by
  cases b with
  | false => exact absurd rfl h
  | true => rfl
def pb_lo (S : Int32) : Nat → Int32
  | 0 => 0
  | n + 1 => pb_lo S n ||| (if bt S n = true then pb_one n else 0)
theorem pb_lo_bt (S : Int32) {n : Nat} (hn : n ≤ 32) (i : Nat) : bt (pb_lo S n) i = (decide (i < n) && bt S i) := by
  induction n with
  | zero =>
    show bt 0 i = _
    rw [b_0]
    simp
  | succ n ih =>
    show bt (pb_lo S n ||| (if bt S n = true then pb_one n else 0)) i = _
    rw [b_or, ih (by omega)]
    cases hs : bt S n with
    | false =>
      rw [if_neg (by decide), b_0, Bool.or_false]
      by_cases e : i = n
      · rw [e, hs]; simp
      · congr 1
        simp only [decide_eq_decide]
        omega
    | true =>
      rw [if_pos rfl, pb_one_bt (by omega)]
      by_cases e : i = n
      · rw [e, hs]; simp
      · rw [decide_eq_false e, Bool.or_false]
        congr 1
        simp only [decide_eq_decide]
        omega
theorem pb_lo_all {S : Int32} {K : Nat} (hK : K ≤ 32) (h : ∀ i, bt S i = true → i < K) : pb_lo S K = S := by
  refine b_ext (fun i _ => ?_)
  rw [pb_lo_bt S hK]
  cases hs : bt S i with
  | false => rw [Bool.and_false]
  | true => rw [Bool.and_true, decide_eq_true (h i hs)]
theorem pb_left_in {S h : Int32} {K : Nat} (hS : ∀ i, bt S i = true → i < K) : ∀ i, bt (pb_left S h) i = true → i < K := fun i q => by
  rw [pb_left_bt, Bool.and_eq_true] at q
  exact hS i q.1
theorem pb_xr_K {g : Nat → Bool} {f : Nat → Int32} {K : Nat} (hK : K ≤ 32) (h : ∀ i, g i = true → i < K) : pb_xr g f 32 = pb_xr g f K := pb_xr_cut hK (fun i h1 _ => by
  cases q : g i with
  | false => rfl
  | true => exact absurd (h i q) (by omega))
theorem b_and_in {S h : Int32} {K : Nat} (hS : ∀ i, bt S i = true → i < K) : ∀ i, bt (S &&& h) i = true → i < K := fun i q => by
  rw [b_and, Bool.and_eq_true] at q
  exact hS i q.1
/-- who waits has the turn in which it came to wait -/
def m_W (T0 n : Nat) (qf : Nat → Nat) (lo tl : Nat) (wa : Nat → Int32) : Prop := (∀ p, lo ≤ p → p < tl → wa (qf p) = nI (T0 + p + 1)) ∧ ∀ m, m < n → ¬ ab_in qf lo tl m → wa m = 0
theorem m_W.pop {T0 n : Nat} {qf : Nat → Nat} {hd tl : Nat} {wa : Nat → Int32} (h : m_W T0 n qf hd tl wa) (ht : hd < tl) (hi : ∀ p q, p < tl → q < tl → qf p = qf q → p = q) : m_W T0 n qf (hd + 1) tl (upd wa (qf hd) 0) := by
  refine ⟨fun p h1 h2 => ?_, fun m hm q => ?_⟩
  · rw [pk_un (fun e => by have := hi p hd h2 ht e; omega)]
    exact h.1 p (by omega) h2
  · by_cases e : m = qf hd
    · rw [e, pk_us]
    · rw [pk_un e]
      exact h.2 m hm (fun z => q ((ab_in_pop ht hi).mpr ⟨z, e⟩))
theorem m_W.push {T0 n : Nat} {q : Nat → Nat} {lo t j : Nat} {wa : Nat → Int32} (h : m_W T0 n q lo t wa) (hlo : lo ≤ t) (hj : ∀ p, lo ≤ p → p < t → q p ≠ j) : m_W T0 n (va_up q t j) lo (t + 1) (upd wa j (nI (T0 + t + 1))) := by
  refine ⟨fun p h1 h2 => ?_, fun m hm z => ?_⟩
  · by_cases e : p = t
    · rw [e, ab_us, pk_us]
    · rw [ab_un e, pk_un (hj p h1 (by omega))]
      exact h.1 p h1 (by omega)
  · have z1 : m ≠ j := fun e => z ((ab_in_push hlo).mpr (Or.inr e))
    rw [pk_un z1]
    exact h.2 m hm (fun y => z ((ab_in_push hlo).mpr (Or.inl y)))
theorem m_W.empty {T0 n : Nat} {qf : Nat → Nat} {hd tl : Nat} {wa : Nat → Int32} (h : m_W T0 n qf hd tl wa) (ht : ¬ hd < tl) : ∀ m, m < n → wa m = 0 := fun m hm => h.2 m hm (fun q => by
  obtain ⟨p, h1, h2, -⟩ := q
  omega)
/-- the search for who has waited longest, in front of drop j -/
def m_F (n : Nat) (qf : Nat → Nat) (lo tl j : Nat) (fd : Int32) : Prop := (fd = -1 ∧ ∀ p, lo ≤ p → p < tl → j ≤ qf p) ∨ ∃ p0, lo ≤ p0 ∧ p0 < tl ∧ qf p0 < j ∧ fd = nI (qf p0) ∧ ∀ p, lo ≤ p → p < tl → qf p < j → p0 ≤ p
theorem m_F.zero {n : Nat} {qf : Nat → Nat} {lo tl : Nat} : m_F n qf lo tl 0 (-1) := Or.inl ⟨rfl, fun p _ _ => Nat.zero_le _⟩
theorem m_F.keep {n : Nat} {qf : Nat → Nat} {lo tl j : Nat} {fd : Int32} (h : m_F n qf lo tl j fd) (hj : ¬ ab_in qf lo tl j) : m_F n qf lo tl (j + 1) fd := by
  have key : ∀ p, lo ≤ p → p < tl → qf p ≠ j := fun p h1 h2 e => hj ⟨p, h1, h2, e⟩
  rcases h with ⟨a, b⟩ | ⟨p0, a, b, c, d, e⟩
  · refine Or.inl ⟨a, fun p h1 h2 => ?_⟩
    have := b p h1 h2
    have := key p h1 h2
    omega
  · refine Or.inr ⟨p0, a, b, by omega, d, fun p h1 h2 h3 => e p h1 h2 ?_⟩
    have := key p h1 h2
    omega
theorem m_F.last {n : Nat} {qf : Nat → Nat} {lo tl : Nat} {fd : Int32} (h : m_F n qf lo tl n fd) (hq : ∀ p, lo ≤ p → p < tl → qf p < n) : fd = if lo < tl then nI (qf lo) else -1 := by
  rcases h with ⟨a, b⟩ | ⟨p0, a, b, c, d, e⟩
  · rw [if_neg (fun q => by have := b lo (Nat.le_refl _) q; have := hq lo (Nat.le_refl _) q; omega)]
    exact a
  · have h1 := e lo (Nat.le_refl _) (by omega) (hq lo (Nat.le_refl _) (by omega))
    rw [if_pos (by omega), d, show p0 = lo by omega]
/-- DropCodeModel's cells hold the decoder's known words -/
def m_Kn (K : Nat) (h : Int32) (t kn to : Nat → Int32) : Prop := (∀ i, i < K → kn i = b2 (bt h i)) ∧ ∀ i, bt h i = true → to i = t i
theorem m_Kn.learn {K : Nat} {h x r : Int32} {w : Nat} {t kn to : Nat → Int32} (M : m_Kn K h t kn to) (hx : ∀ j, bt x j = decide (j = w)) : m_Kn K (h ||| x) (upd t w r) (upd kn w 1) (upd to w r) := by
  refine ⟨fun i hi => ?_, fun i hi => ?_⟩
  · by_cases e : i = w
    · rw [e, pk_us, ab_or_bt hx, decide_eq_true rfl, Bool.or_true]; rfl
    · rw [pk_un e, M.1 i hi, ab_or_bt hx, decide_eq_false e, Bool.or_false]
  · by_cases e : i = w
    · rw [e, pk_us, pk_us]
    · rw [pk_un e, pk_un e]
      rw [ab_or_bt hx, decide_eq_false e, Bool.or_false] at hi
      exact M.2 i hi
section MST
variable {K n T0 : Nat} {S : Nat → Int32} {h x : Int32} {cn w : Nat} {qf : Nat → Nat} {hd tl j : Nat} {wa : Nat → Int32}
theorem m_st_fresh (I : ab_Inv K n S h cn qf hd tl) (hx : ∀ j, bt x j = decide (j = w)) (hw : w < 32) (hn : bt h w = false) (hP : ab_P S w (h ||| x) j = true) : ∀ p, p < (ab_pq (ab_P S w (h ||| x)) qf tl j).2 → (ab_pq (ab_P S w (h ||| x)) qf tl j).1 p ≠ j := by
  have hF := I.fresh hx hw hn
  obtain ⟨p1, p2, p3, p4, p5⟩ := ab_pq_spec (P := ab_P S w (h ||| x)) I.2.2.2.2.1 hF j
  intro p hp e
  rcases Nat.lt_or_ge p tl with q | q
  · exact hF j hP p q (by rw [← p2 p q]; exact e)
  · have := (p3 p q hp).1
    omega
theorem m_st_cur (I : ab_Inv K n S h cn qf hd tl) (ht : hd < tl) (hx : ∀ j, bt x j = decide (j = w)) (hw : w < 32) (hn : bt h w = false) (hT : T0 + n < 2 ^ 30) (M : m_W T0 n (ab_pq (ab_P S w (h ||| x)) qf tl j).1 (hd + 1) (ab_pq (ab_P S w (h ||| x)) qf tl j).2 wa) (hj : j < n) (hs : bt (S j) w = true) (h1 : pb_pop (pb_left (S j) (h ||| x)) = 0) (h2 : wa j = 0) : j = qf hd := by
  obtain ⟨p1, p2, p3, p4, p5⟩ := ab_pq_spec (P := ab_P S w (h ||| x)) I.2.2.2.2.1 (I.fresh hx hw hn) j
  rcases Nat.decEq j (qf hd) with q | q
  · exfalso
    have hpop := ab_left_pop hx hw hn hs
    obtain ⟨p, g1, g2, g3⟩ := (ab_in_pop ht I.2.2.2.2.1).mpr ⟨I.2.2.2.2.2 j hj (by omega), q⟩
    have h3 := M.1 p g1 (by omega)
    rw [p2 p g2, g3, h2] at h3
    have h4 := I.tl
    have := zi_eq (a := 0) h3
    omega
  · exact q
end MST
end
section
set_option maxHeartbeats 4000000 in
set_option maxRecDepth 100000 in
/-- draws the set of a seed -/
theorem c_M_draw (l : Launch) (D : va_G) (cI cZ : ClassId) (am : Nat → Nat) (ca tu fo cl st : Int32) (row se va wa kn to od inn : Nat → Int32) (seed : Int32) (K : Nat) (h0 : 0 < K) (hK32 : K ≤ 32) : CtI l y_M_draw b_M_draw 7 .int 1 D [(cI, .int), (cZ, .boolean)] [.ref (am 0), .int seed] (Mw cI cZ am (nI K, ca, tu, fo, cl, st, row, se, va, wa, kn, to, od, inn)) (fun r (u : (Nat → Int32) × Int32) => r = nI (lc_dg K (lc_hi (lc_nx seed))) ∧ ∀ i, i < K → u.1 i = b2 (bt (lc_sm K seed) i)) (fun u => Mw cI cZ am (nI K, ca, tu, fo, cl, u.2, row, se, va, wa, kn, to, od, u.1)) := by
  refine CtI.of (by decide) (Nat.le_of_ble_eq_true rfl) ?_
  intro p e s m args below meth c A Q S hK hP hD hA hS hret ls hl
  have S : CallFix p m c b_M_draw 7 s args gw_tbl R_M := S
  have hx := S.1
  have hb := S.2.1
  have hl : lv_has ls 7 [(0, .ref (am 0)), (1, .int seed)] := hl
  refine lv_aload_n hx hb d_M_draw_0 rfl (lv_at hl 0 rfl) ?_
  refine lv_iload_n hx hb d_M_draw_1 rfl (lv_at hl 1 rfl) ?_
  refine dc_put_M S hK hP hD hS 0 rfl fl_M_39 (Nat.le_of_ble_eq_true rfl) d_M_draw_2 (fun H locs (hP : va_P D classes (Mw cI cZ am (nI K, ca, tu, fo, cl, seed, row, se, va, wa, kn, to, od, inn)) H) (hD : va_D A (Mw cI cZ am (nI K, ca, tu, fo, cl, seed, row, se, va, wa, kn, to, od, inn))) hS => ?_)
  refine lv_aload_n hx hb d_M_draw_5 rfl (lv_at hl 0 rfl) ?_
  refine dc_callI S ok_M_drawn ml_M_44 (c_M_drawn l D cI cZ am (nI K) ca tu fo cl seed row se va wa kn to od inn) (As := []) (rest := []) (wr := []) ⟨Nat.le_of_ble_eq_true rfl, Nat.le_of_ble_eq_true rfl⟩ ⟨Nat.le_of_ble_eq_true rfl, Nat.le_of_ble_eq_true rfl⟩ hK hP hD hS hA [0, 1, 2, 3, 4, 5, 6, 7, 8] [] rfl rfl (by decide) (by decide) (by decide) rfl rfl rfl hl rfl (Nat.le_of_ble_eq_true rfl) d_M_draw_6 (fun r0 u H locs hr0 hP hD hS => ?_)
  have hP : va_P D classes (Mw cI cZ am (nI K, ca, tu, fo, cl, lc_nx seed, row, se, va, wa, kn, to, od, inn)) H := hP
  have hD : va_D A (Mw cI cZ am (nI K, ca, tu, fo, cl, lc_nx seed, row, se, va, wa, kn, to, od, inn)) := hD
  subst hr0
  refine lv_istore_n (lv' := [(2, .int (nI (lc_hi (lc_nx seed)))), (0, .ref (am 0)), (1, .int seed)]) hx hb d_M_draw_9 rfl hl (by decide) rfl (fun ls hl => ?_)
  refine dc_ldc S kc_M_48 d_M_draw_10 ?_
  refine lv_aload_n hx hb d_M_draw_12 rfl (lv_at hl 1 rfl) ?_
  refine dc_get_M S hK hP 0 rfl fl_M_35 rfl d_M_draw_13 ?_
  refine lv_idiv hx hb d_M_draw_16 (nI_ne0 h0 (by omega)) ?_
  refine dc_nrm (y := nI (lc_tb K 1)) (pk_div (a := 65536) (by omega) h0 (by omega)) ?_
  refine lv_istore_n (lv' := [(3, .int (nI (lc_tb K 1))), (2, .int (nI (lc_hi (lc_nx seed)))), (0, .ref (am 0)), (1, .int seed)]) hx hb d_M_draw_17 rfl hl (by decide) rfl (fun ls hl => ?_)
  refine lv_iconst (v := 1) hx hb d_M_draw_18 (by decide) ?_
  refine lv_istore (lv' := [(4, .int 1), (3, .int (nI (lc_tb K 1))), (2, .int (nI (lc_hi (lc_nx seed)))), (0, .ref (am 0)), (1, .int seed)]) hx hb d_M_draw_19 hl (by decide) rfl (fun ls hl => ?_)
  generalize hR0 : lc_hi (lc_nx seed) = R0 at hl ⊢
  have hR0lt : R0 < 65536 := by rw [← hR0]; exact lc_hi_lt _
  obtain ⟨dg1, dg2⟩ := lc_dg_in h0 R0
  have exit : ∀ (x3 : Int32) (ls : Array Slot), lv_has ls 7 [(4, .int (nI (lc_dg K R0))), (3, .int x3), (2, .int (nI R0)), (0, .ref (am 0)), (1, .int seed)] → W p l e (rmD 1 0 0) s m args below meth c H locs 0 0 Q (F0 m 54 ls []) := by
    intro x3 ls hl
    refine lv_iconst (v := 0) hx hb d_M_draw_54 (by decide) ?_
    refine lv_istore (lv' := [(5, .int 0), (4, .int (nI (lc_dg K R0))), (3, .int x3), (2, .int (nI R0)), (0, .ref (am 0)), (1, .int seed)]) hx hb d_M_draw_55 hl (by decide) rfl (fun ls hl => ?_)
    have exit2 : ∀ inn : Nat → Int32, (∀ i, i < K → inn i = 0) → ∀ (H : Heap) (locs : List Loc) (ls : Array Slot), va_P D classes (Mw cI cZ am (nI K, ca, tu, fo, cl, lc_nx seed, row, se, va, wa, kn, to, od, inn)) H → va_D A (Mw cI cZ am (nI K, ca, tu, fo, cl, lc_nx seed, row, se, va, wa, kn, to, od, inn)) → va_S A s.heap H locs → lv_has ls 7 [(5, .int (nI K)), (4, .int (nI (lc_dg K R0))), (3, .int x3), (2, .int (nI R0)), (0, .ref (am 0)), (1, .int seed)] → W p l e (rmD 1 0 0) s m args below meth c H locs 0 0 Q (F0 m 80 ls []) := by
      intro inn hin0 H locs ls hP hD hS hl
      refine lv_iconst (v := 0) hx hb d_M_draw_80 (by decide) ?_
      refine lv_istore (lv' := [(5, .int 0), (4, .int (nI (lc_dg K R0))), (3, .int x3), (2, .int (nI R0)), (0, .ref (am 0)), (1, .int seed)]) hx hb d_M_draw_81 hl (by decide) rfl (fun ls hl => ?_)
      obtain ⟨N1, N2⟩ := lc_N_spec h0 hK32 (lc_nx seed) dg2
      generalize hN : lc_N K (lc_dg K R0) (lc_nx seed) = N at N1 N2
      have loop3 : ∀ (f j : Nat), N < j + f → j ≤ N → ∀ inn : Nat → Int32, (∀ i, i < K → inn i = b2 (bt (lc_mask K (lc_nx seed) j) i)) → ∀ (H : Heap) (locs : List Loc) (ls : Array Slot), va_P D classes (Mw cI cZ am (nI K, ca, tu, fo, cl, lc_st (lc_nx seed) j, row, se, va, wa, kn, to, od, inn)) H → va_D A (Mw cI cZ am (nI K, ca, tu, fo, cl, lc_st (lc_nx seed) j, row, se, va, wa, kn, to, od, inn)) → va_S A s.heap H locs → lv_has ls 7 [(5, .int (nI (pb_pop (lc_mask K (lc_nx seed) j)))), (4, .int (nI (lc_dg K R0))), (3, .int x3), (2, .int (nI R0)), (0, .ref (am 0)), (1, .int seed)] → W p l e (rmD 1 0 0) s m args below meth c H locs 0 0 Q (F0 m 83 ls []) := by
        intro f
        induction f with
        | zero => intro j h1 h2; exact absurd h1 (by omega)
        | succ f ih =>
          intro j hf hj inn hinn H locs ls hP hD hS hl
          have hpl := pb_pop_le (lc_mask K (lc_nx seed) j)
          refine lv_iload hx hb d_M_draw_83 (lv_at hl 0 rfl) ?_
          refine lv_iload hx hb d_M_draw_85 (lv_at hl 1 rfl) ?_
          refine lv_icmp_ge (tgt := 132) hx hb d_M_draw_87 (by decide) (fun hc => ?_) (fun hc => ?_)
          · have e1 := zi_le hc
            have e2 : j = N := by
              rcases Nat.lt_or_ge j N with q | q
              · have := N2 j q
                omega
              · omega
            subst e2
            refine lv_iload hx hb d_M_draw_132 (lv_at hl 1 rfl) ?_
            exact hret _ _ _ _ _ (inn, lc_st (lc_nx seed) j) d_M_draw_134 rfl (⟨by rw [hR0], fun i hi => by unfold lc_sm; rw [hR0, hN]; exact hinn i hi⟩) hP hD hS
          · have e1 := zi_nle hc
            have e2 : j < N := by
              rcases Nat.lt_or_ge j N with q | q
              · exact q
              · have e : j = N := by omega
                subst e
                omega
            refine lv_aload_n hx hb d_M_draw_90 rfl (lv_at hl 4 rfl) ?_
            refine dc_callI S ok_M_drawn ml_M_44 (c_M_drawn l D cI cZ am (nI K) ca tu fo cl (lc_st (lc_nx seed) j) row se va wa kn to od inn) (As := []) (rest := []) (wr := []) ⟨Nat.le_of_ble_eq_true rfl, Nat.le_of_ble_eq_true rfl⟩ ⟨Nat.le_of_ble_eq_true rfl, Nat.le_of_ble_eq_true rfl⟩ hK hP hD hS hA [0, 1, 2, 3, 4, 5, 6, 7, 8] [] rfl rfl (by decide) (by decide) (by decide) rfl rfl rfl hl rfl (Nat.le_of_ble_eq_true rfl) d_M_draw_91 (fun r1 u H locs hr1 hP hD hS => ?_)
            have hP : va_P D classes (Mw cI cZ am (nI K, ca, tu, fo, cl, lc_st (lc_nx seed) (j + 1), row, se, va, wa, kn, to, od, inn)) H := hP
            have hD : va_D A (Mw cI cZ am (nI K, ca, tu, fo, cl, lc_st (lc_nx seed) (j + 1), row, se, va, wa, kn, to, od, inn)) := hD
            subst hr1
            refine lv_aload_n hx hb d_M_draw_94 rfl (lv_at hl 4 rfl) ?_
            refine dc_get_M S hK hP 0 rfl fl_M_35 rfl d_M_draw_95 ?_
            refine lv_irem hx hb d_M_draw_98 (nI_ne0 h0 (by omega)) ?_
            have hh := lc_hi_lt (lc_st (lc_nx seed) (j + 1))
            refine dc_nrm (y := nI (lc_ix K (lc_nx seed) j)) (pk_rem (a := lc_hi (lc_st (lc_nx seed) (j + 1))) (by omega) h0 (by omega)) ?_
            have hix := lc_ix_lt h0 (lc_nx seed) j
            generalize hixe : lc_ix K (lc_nx seed) j = ix at hix ⊢
            refine lv_istore (lv' := [(6, .int (nI ix)), (5, .int (nI (pb_pop (lc_mask K (lc_nx seed) j)))), (4, .int (nI (lc_dg K R0))), (3, .int x3), (2, .int (nI R0)), (0, .ref (am 0)), (1, .int seed)]) hx hb d_M_draw_99 hl (by decide) rfl (fun ls hl => ?_)
            refine lv_iload hx hb d_M_draw_101 (lv_at hl 1 rfl) ?_
            have rest : ∀ x : Int32, nI (pb_pop (lc_mask K (lc_nx seed) j)) + x = nI (pb_pop (lc_mask K (lc_nx seed) (j + 1))) → W p l e (rmD 1 0 0) s m args below meth c H locs 0 0 Q (F0 m 118 ls [.int x, .int (nI (pb_pop (lc_mask K (lc_nx seed) j)))]) := by
              intro x hxe
              refine lv_iadd hx hb d_M_draw_118 ?_
              refine dc_nrm (y := nI (pb_pop (lc_mask K (lc_nx seed) (j + 1)))) (hxe) ?_
              refine lv_istore (lv' := [(5, .int (nI (pb_pop (lc_mask K (lc_nx seed) (j + 1))))), (6, .int (nI ix)), (4, .int (nI (lc_dg K R0))), (3, .int x3), (2, .int (nI R0)), (0, .ref (am 0)), (1, .int seed)]) hx hb d_M_draw_119 hl (by decide) rfl (fun ls hl => ?_)
              refine lv_aload_n hx hb d_M_draw_121 rfl (lv_at hl 5 rfl) ?_
              refine dc_get_M S hK hP 0 rfl fl_M_32 rfl d_M_draw_122 ?_
              refine lv_iload hx hb d_M_draw_125 (lv_at hl 1 rfl) ?_
              refine lv_iconst (v := 1) hx hb d_M_draw_127 (by decide) ?_
              refine dc_zst S hK hP hD hS 8 rfl (j := ix) (rfl) (by omega) rfl d_M_draw_128 (fun H locs (hP : va_P D classes (Mw cI cZ am (nI K, ca, tu, fo, cl, lc_st (lc_nx seed) (j + 1), row, se, va, wa, kn, to, od, upd inn ix 1)) H) (hD : va_D A (Mw cI cZ am (nI K, ca, tu, fo, cl, lc_st (lc_nx seed) (j + 1), row, se, va, wa, kn, to, od, upd inn ix 1))) hS => ?_)
              refine lv_goto (tgt := 83) hx hb d_M_draw_129 (by decide) ?_
              refine ih (j + 1) (by omega) (by omega) _ (fun i hi => ?_) _ _ ls hP hD hS (lv_sub hl [0, 2, 3, 4, 5, 6] rfl)
              rw [lc_mask_bt h0 hK32, hixe]
              by_cases e : i = ix
              · rw [e, pk_us, decide_eq_true rfl, Bool.or_true]; rfl
              · rw [pk_un e, decide_eq_false e, Bool.or_false]; exact hinn i hi
            have hps := lc_pop_step h0 hK32 (lc_nx seed) j
            rw [hixe] at hps
            refine lv_aload_n hx hb d_M_draw_103 rfl (lv_at hl 5 rfl) ?_
            refine dc_get_M S hK hP 0 rfl fl_M_32 rfl d_M_draw_104 ?_
            refine lv_iload hx hb d_M_draw_107 (lv_at hl 0 rfl) ?_
            refine dc_zld S hK hP 8 rfl (j := ix) (rfl) (by omega) d_M_draw_109 ?_
            refine dc_nrm (y := b2 (bt (lc_mask K (lc_nx seed) j) ix)) (hinn ix hix) ?_
            refine lv_if_eq (tgt := 117) hx hb d_M_draw_110 (by decide) (fun hc2 => ?_) (fun hc2 => ?_)
            · rw [b2_eq0 hc2, if_neg (by decide)] at hps
              refine lv_iconst (v := 1) hx hb d_M_draw_117 (by decide) ?_
              exact rest 1 (by rw [hps]; exact nI_1 _)
            · rw [b2_ne0 hc2, if_pos rfl] at hps
              refine lv_iconst (v := 0) hx hb d_M_draw_113 (by decide) ?_
              refine lv_goto (tgt := 118) hx hb d_M_draw_114 (by decide) ?_
              exact rest 0 (by rw [hps]; exact Int32.add_zero _)
      have hp0 : pb_pop (lc_mask K (lc_nx seed) 0) = 0 := pb_pop_zero.mpr rfl
      refine loop3 (N + 1) 0 (by omega) (by omega) inn (fun i hi => ?_) _ _ ls hP hD hS (by rw [hp0]; exact hl)
      rw [hin0 i hi]
      show 0 = b2 (bt 0 i)
      rw [b_0]
      rfl
    have loop2 : ∀ (f j : Nat), K < j + f → j ≤ K → ∀ inn : Nat → Int32, (∀ i, i < j → inn i = 0) → ∀ (H : Heap) (locs : List Loc) (ls : Array Slot), va_P D classes (Mw cI cZ am (nI K, ca, tu, fo, cl, lc_nx seed, row, se, va, wa, kn, to, od, inn)) H → va_D A (Mw cI cZ am (nI K, ca, tu, fo, cl, lc_nx seed, row, se, va, wa, kn, to, od, inn)) → va_S A s.heap H locs → lv_has ls 7 [(5, .int (nI j)), (4, .int (nI (lc_dg K R0))), (3, .int x3), (2, .int (nI R0)), (0, .ref (am 0)), (1, .int seed)] → W p l e (rmD 1 0 0) s m args below meth c H locs 0 0 Q (F0 m 57 ls []) := by
      intro f
      induction f with
      | zero => intro j h1 h2; exact absurd h1 (by omega)
      | succ f ih =>
        intro j hf hj inn hin0 H locs ls hP hD hS hl
        refine lv_iload hx hb d_M_draw_57 (lv_at hl 0 rfl) ?_
        refine lv_aload_n hx hb d_M_draw_59 rfl (lv_at hl 4 rfl) ?_
        refine dc_get_M S hK hP 0 rfl fl_M_35 rfl d_M_draw_60 ?_
        refine lv_icmp_ge (tgt := 80) hx hb d_M_draw_63 (by decide) (fun hc => ?_) (fun hc => ?_)
        · have e1 := zi_le hc
          have e2 : j = K := by omega
          subst e2
          exact exit2 inn hin0 _ _ ls hP hD hS hl
        · have e1 := zi_nle hc
          refine lv_aload_n hx hb d_M_draw_66 rfl (lv_at hl 4 rfl) ?_
          refine dc_get_M S hK hP 0 rfl fl_M_32 rfl d_M_draw_67 ?_
          refine lv_iload hx hb d_M_draw_70 (lv_at hl 0 rfl) ?_
          refine lv_iconst (v := 0) hx hb d_M_draw_72 (by decide) ?_
          refine dc_zst S hK hP hD hS 8 rfl (j := j) (rfl) (by omega) rfl d_M_draw_73 (fun H locs (hP : va_P D classes (Mw cI cZ am (nI K, ca, tu, fo, cl, lc_nx seed, row, se, va, wa, kn, to, od, upd inn j 0)) H) (hD : va_D A (Mw cI cZ am (nI K, ca, tu, fo, cl, lc_nx seed, row, se, va, wa, kn, to, od, upd inn j 0))) hS => ?_)
          refine lv_iinc (v := nI (j + 1)) (lv' := [(5, .int (nI (j + 1))), (4, .int (nI (lc_dg K R0))), (3, .int x3), (2, .int (nI R0)), (0, .ref (am 0)), (1, .int seed)]) hx hb d_M_draw_74 hl (k := 0) rfl (nI_1 _) (by decide) rfl (fun ls hl => ?_)
          refine lv_goto (tgt := 57) hx hb d_M_draw_77 (by decide) ?_
          refine ih (j + 1) (by omega) (by omega) _ (fun i hi => ?_) _ _ ls hP hD hS hl
          by_cases e : i = j
          · rw [e, pk_us]
          · rw [pk_un e]; exact hin0 i (by omega)
    exact loop2 (K + 1) 0 (by omega) (by omega) inn (fun i hi => absurd hi (Nat.not_lt_zero i)) _ _ ls hP hD hS hl
  have loop1 : ∀ (f c0 : Nat), K < c0 + 1 + f → c0 + 1 ≤ K → lc_go K R0 f (c0 + 1) = lc_dg K R0 → ∀ ls : Array Slot, lv_has ls 7 [(4, .int (nI (c0 + 1))), (3, .int (nI (lc_tb K (c0 + 1)))), (2, .int (nI R0)), (0, .ref (am 0)), (1, .int seed)] → W p l e (rmD 1 0 0) s m args below meth c H locs 0 0 Q (F0 m 21 ls []) := by
    intro f
    induction f with
    | zero => intro c0 h1 h2; exact absurd h1 (by omega)
    | succ f ih =>
      intro c0 hf hdK hgo ls hl
      refine lv_iload hx hb d_M_draw_21 (lv_at hl 0 rfl) ?_
      refine lv_aload_n hx hb d_M_draw_23 rfl (lv_at hl 3 rfl) ?_
      refine dc_get_M S hK hP 0 rfl fl_M_35 rfl d_M_draw_24 ?_
      refine lv_icmp_ge (tgt := 54) hx hb d_M_draw_27 (by decide) (fun hc => ?_) (fun hc => ?_)
      · have e1 := zi_le hc
        rw [lc_go_stop _ (fun q => by omega)] at hgo
        exact exit _ ls (hgo ▸ hl)
      · have e1 := zi_nle hc
        refine lv_iload_n hx hb d_M_draw_30 rfl (lv_at hl 2 rfl) ?_
        refine lv_iload_n hx hb d_M_draw_31 rfl (lv_at hl 1 rfl) ?_
        refine lv_icmp_lt (tgt := 54) hx hb d_M_draw_32 (by decide) (fun hc2 => ?_) (fun hc2 => ?_)
        · rw [lc_go_stop _ (fun q => q.2 hc2)] at hgo
          exact exit _ ls (hgo ▸ hl)
        · rw [lc_go_next _ ⟨e1, hc2⟩] at hgo
          have hm : (c0 + 2) * (c0 + 1) ≤ 32 * 32 := Nat.mul_le_mul (by omega) (by omega)
          have hm0 : 0 < (c0 + 2) * (c0 + 1) := Nat.mul_pos (by omega) (by omega)
          refine lv_iinc (v := nI (c0 + 2)) (lv' := [(4, .int (nI (c0 + 2))), (3, .int (nI (lc_tb K (c0 + 1)))), (2, .int (nI R0)), (0, .ref (am 0)), (1, .int seed)]) hx hb d_M_draw_35 hl (k := 0) rfl (nI_1 (c0 + 1)) (by decide) rfl (fun ls hl => ?_)
          refine lv_iload_n hx hb d_M_draw_38 rfl (lv_at hl 1 rfl) ?_
          refine dc_ldc S kc_M_48 d_M_draw_39 ?_
          refine lv_iload hx hb d_M_draw_41 (lv_at hl 0 rfl) ?_
          refine lv_iload hx hb d_M_draw_43 (lv_at hl 0 rfl) ?_
          refine lv_iconst (v := 1) hx hb d_M_draw_45 (by decide) ?_
          refine lv_isub hx hb d_M_draw_46 ?_
          refine dc_nrm (y := nI (c0 + 1)) (nI_pred (c0 + 1)) ?_
          refine lv_imul hx hb d_M_draw_47 ?_
          refine dc_nrm (y := nI ((c0 + 2) * (c0 + 1))) (pk_mul _ _) ?_
          refine lv_idiv hx hb d_M_draw_48 (nI_ne0 hm0 (by omega)) ?_
          refine dc_nrm (y := nI (65536 / ((c0 + 2) * (c0 + 1)))) (pk_div (a := 65536) (by omega) hm0 (by omega)) ?_
          refine lv_iadd hx hb d_M_draw_49 ?_
          refine dc_nrm (y := nI (lc_tb K (c0 + 2))) (nI_add _ _) ?_
          refine lv_istore_n (lv' := [(3, .int (nI (lc_tb K (c0 + 2)))), (4, .int (nI (c0 + 2))), (2, .int (nI R0)), (0, .ref (am 0)), (1, .int seed)]) hx hb d_M_draw_50 rfl hl (by decide) rfl (fun ls hl => ?_)
          refine lv_goto (tgt := 21) hx hb d_M_draw_51 (by decide) ?_
          exact ih (c0 + 1) (by omega) (by omega) hgo ls (lv_sub hl [1, 0, 2, 3, 4] rfl)
  exact loop1 K 0 (by omega) (by omega) rfl ls (lv_sub hl [0, 1, 2, 3, 4] rfl)
end
section
set_option maxHeartbeats 4000000 in
set_option maxRecDepth 100000 in
theorem c_M_degree (l : Launch) (D : va_G) (cI cZ : ClassId) (am : Nat → Nat) (ca tu fo cl st : Int32) (row se va wa kn to od inn : Nat → Int32) (seed : Int32) (K : Nat) (h0 : 0 < K) (hK32 : K ≤ 32) : CtI l y_M_degree b_M_degree 2 .int 2 D [(cI, .int), (cZ, .boolean)] [.ref (am 0), .int seed] (Mw cI cZ am (nI K, ca, tu, fo, cl, st, row, se, va, wa, kn, to, od, inn)) (fun r (u : (Nat → Int32) × Int32) => r = nI (lc_dg K (lc_hi (lc_nx seed)))) (fun u => Mw cI cZ am (nI K, ca, tu, fo, cl, u.2, row, se, va, wa, kn, to, od, u.1)) := by
  refine CtI.of (by decide) (Nat.le_of_ble_eq_true rfl) ?_
  intro p e s m args below meth c A Q S hK hP hD hA hS hret ls hl
  have S : CallFix p m c b_M_degree 2 s args gw_tbl R_M := S
  have hx := S.1
  have hb := S.2.1
  have hl : lv_has ls 2 [(0, .ref (am 0)), (1, .int seed)] := hl
  refine lv_aload_n hx hb d_M_degree_0 rfl (lv_at hl 0 rfl) ?_
  refine lv_iload_n hx hb d_M_degree_1 rfl (lv_at hl 1 rfl) ?_
  refine dc_callI S ok_M_draw ml_M_49 (c_M_draw l D cI cZ am ca tu fo cl st row se va wa kn to od inn seed K h0 hK32) (As := [.int seed]) (rest := []) (wr := []) ⟨Nat.le_of_ble_eq_true rfl, Nat.le_of_ble_eq_true rfl⟩ ⟨Nat.le_of_ble_eq_true rfl, Nat.le_of_ble_eq_true rfl⟩ hK hP hD hS hA [0, 1, 2, 3, 4, 5, 6, 7, 8] [] rfl rfl (by decide) (by decide) (by decide) rfl rfl rfl hl rfl (Nat.le_of_ble_eq_true rfl) d_M_degree_2 (fun rd ud H locs hrd hP hD hS => ?_)
  obtain ⟨in1, st1⟩ := ud
  obtain ⟨hrd1, hin1⟩ := hrd
  dsimp only at hin1
  have hP : va_P D classes (Mw cI cZ am (nI K, ca, tu, fo, cl, st1, row, se, va, wa, kn, to, od, in1)) H := hP
  have hD : va_D A (Mw cI cZ am (nI K, ca, tu, fo, cl, st1, row, se, va, wa, kn, to, od, in1)) := hD
  exact hret _ _ _ _ _ (in1, st1) d_M_degree_5 rfl (hrd1) hP hD hS
set_option maxHeartbeats 4000000 in
set_option maxRecDepth 100000 in
theorem c_M_drop (l : Launch) (D : va_G) (cI cZ : ClassId) (am : Nat → Nat) (ca tu fo cl st : Int32) (row se va wa kn to od inn : Nat → Int32) (seed : Int32) (K : Nat) (h0 : 0 < K) (hK32 : K ≤ 32) : CtI l y_M_drop b_M_drop 5 .int 2 D [(cI, .int), (cZ, .boolean)] [.ref (am 0), .int seed] (Mw cI cZ am (nI K, ca, tu, fo, cl, st, row, se, va, wa, kn, to, od, inn)) (fun r (u : (Nat → Int32) × Int32) => r = pb_xr (bt (lc_sm K seed)) row 32) (fun u => Mw cI cZ am (nI K, ca, tu, fo, cl, u.2, row, se, va, wa, kn, to, od, u.1)) := by
  refine CtI.of (by decide) (Nat.le_of_ble_eq_true rfl) ?_
  intro p e s m args below meth c A Q S hK hP hD hA hS hret ls hl
  have S : CallFix p m c b_M_drop 5 s args gw_tbl R_M := S
  have hx := S.1
  have hb := S.2.1
  have hl : lv_has ls 5 [(0, .ref (am 0)), (1, .int seed)] := hl
  refine lv_aload_n hx hb d_M_drop_0 rfl (lv_at hl 0 rfl) ?_
  refine lv_iload_n hx hb d_M_drop_1 rfl (lv_at hl 1 rfl) ?_
  refine dc_callI S ok_M_draw ml_M_49 (c_M_draw l D cI cZ am ca tu fo cl st row se va wa kn to od inn seed K h0 hK32) (As := [.int seed]) (rest := []) (wr := []) ⟨Nat.le_of_ble_eq_true rfl, Nat.le_of_ble_eq_true rfl⟩ ⟨Nat.le_of_ble_eq_true rfl, Nat.le_of_ble_eq_true rfl⟩ hK hP hD hS hA [0, 1, 2, 3, 4, 5, 6, 7, 8] [] rfl rfl (by decide) (by decide) (by decide) rfl rfl rfl hl rfl (Nat.le_of_ble_eq_true rfl) d_M_drop_2 (fun rd ud H locs hrd hP hD hS => ?_)
  obtain ⟨in1, st1⟩ := ud
  obtain ⟨hrd1, hin1⟩ := hrd
  dsimp only at hin1
  have hP : va_P D classes (Mw cI cZ am (nI K, ca, tu, fo, cl, st1, row, se, va, wa, kn, to, od, in1)) H := hP
  have hD : va_D A (Mw cI cZ am (nI K, ca, tu, fo, cl, st1, row, se, va, wa, kn, to, od, in1)) := hD
  refine lv_istore_n (lv' := [(2, .int rd), (0, .ref (am 0)), (1, .int seed)]) hx hb d_M_drop_5 rfl hl (by decide) rfl (fun ls hl => ?_)
  refine lv_iconst (v := 0) hx hb d_M_drop_6 (by decide) ?_
  refine lv_istore_n (lv' := [(3, .int 0), (2, .int rd), (0, .ref (am 0)), (1, .int seed)]) hx hb d_M_drop_7 rfl hl (by decide) rfl (fun ls hl => ?_)
  refine lv_iconst (v := 0) hx hb d_M_drop_8 (by decide) ?_
  refine lv_istore (lv' := [(4, .int 0), (3, .int 0), (2, .int rd), (0, .ref (am 0)), (1, .int seed)]) hx hb d_M_drop_9 hl (by decide) rfl (fun ls hl => ?_)
  have loop : ∀ (f i : Nat), K < i + f → i ≤ K → ∀ ls : Array Slot, lv_has ls 5 [(4, .int (nI i)), (3, .int (pb_xr (bt (lc_sm K seed)) row i)), (2, .int rd), (0, .ref (am 0)), (1, .int seed)] → W p l e (rmD 2 0 0) s m args below meth c H locs 0 0 Q (F0 m 11 ls []) := by
    intro f
    induction f with
    | zero => intro i h1 h2; exact absurd h1 (by omega)
    | succ f ih =>
      intro i hf hi ls hl
      refine lv_iload hx hb d_M_drop_11 (lv_at hl 0 rfl) ?_
      refine lv_aload_n hx hb d_M_drop_13 rfl (lv_at hl 3 rfl) ?_
      refine dc_get_M S hK hP 0 rfl fl_M_35 rfl d_M_drop_14 ?_
      refine lv_icmp_ge (tgt := 50) hx hb d_M_drop_17 (by decide) (fun hc => ?_) (fun hc => ?_)
      · have e1 := zi_le hc
        have e2 : i = K := by omega
        subst e2
        refine lv_iload_n hx hb d_M_drop_50 rfl (lv_at hl 1 rfl) ?_
        exact hret _ _ _ _ _ (in1, st1) d_M_drop_51 rfl ((pb_xr_K hK32 (fun i q => lc_sm_in h0 hK32 seed q)).symm) hP hD hS
      · have e1 := zi_nle hc
        have rest : ∀ x : Int32, (pb_xr (bt (lc_sm K seed)) row i) ^^^ x = pb_xr (bt (lc_sm K seed)) row (i + 1) → W p l e (rmD 2 0 0) s m args below meth c H locs 0 0 Q (F0 m 42 ls [.int x, .int (pb_xr (bt (lc_sm K seed)) row i)]) := by
          intro x hxe
          refine lv_ixor hx hb d_M_drop_42 ?_
          refine dc_nrm (y := pb_xr (bt (lc_sm K seed)) row (i + 1)) (hxe) ?_
          refine lv_istore_n (lv' := [(3, .int (pb_xr (bt (lc_sm K seed)) row (i + 1))), (4, .int (nI i)), (2, .int rd), (0, .ref (am 0)), (1, .int seed)]) hx hb d_M_drop_43 rfl hl (by decide) rfl (fun ls hl => ?_)
          refine lv_iinc (v := nI (i + 1)) (lv' := [(4, .int (nI (i + 1))), (3, .int (pb_xr (bt (lc_sm K seed)) row (i + 1))), (2, .int rd), (0, .ref (am 0)), (1, .int seed)]) hx hb d_M_drop_44 hl (k := 1) rfl (nI_1 _) (by decide) rfl (fun ls hl => ?_)
          refine lv_goto (tgt := 11) hx hb d_M_drop_47 (by decide) ?_
          exact ih (i + 1) (by omega) (by omega) ls (lv_sub hl [0, 1, 2, 3, 4] rfl)
        refine lv_iload_n hx hb d_M_drop_20 rfl (lv_at hl 1 rfl) ?_
        refine lv_aload_n hx hb d_M_drop_21 rfl (lv_at hl 3 rfl) ?_
        refine dc_get_M S hK hP 0 rfl fl_M_32 rfl d_M_drop_22 ?_
        refine lv_iload hx hb d_M_drop_25 (lv_at hl 0 rfl) ?_
        refine dc_zld S hK hP 8 rfl (j := i) (rfl) (by omega) d_M_drop_27 ?_
        refine dc_nrm (y := b2 (bt (lc_sm K seed) i)) (hin1 i e1) ?_
        refine lv_if_eq (tgt := 41) hx hb d_M_drop_28 (by decide) (fun hc2 => ?_) (fun hc2 => ?_)
        · have q := b2_eq0 hc2
          refine lv_iconst (v := 0) hx hb d_M_drop_41 (by decide) ?_
          exact rest 0 (by show _ = pb_xr (bt (lc_sm K seed)) row i ^^^ (if bt (lc_sm K seed) i = true then row i else 0); rw [q, if_neg (by decide)])
        · have q := b2_ne0 hc2
          refine lv_aload_n hx hb d_M_drop_31 rfl (lv_at hl 3 rfl) ?_
          refine dc_get_M S hK hP 0 rfl fl_M_7 rfl d_M_drop_32 ?_
          refine lv_iload hx hb d_M_drop_35 (lv_at hl 0 rfl) ?_
          refine dc_ild S hK hP 1 rfl (j := i) (rfl) (by omega) d_M_drop_37 ?_
          refine lv_goto (tgt := 42) hx hb d_M_drop_38 (by decide) ?_
          exact rest (row i) (by show _ = pb_xr (bt (lc_sm K seed)) row i ^^^ (if bt (lc_sm K seed) i = true then row i else 0); rw [q, if_pos rfl])
  exact loop (K + 1) 0 (by omega) (by omega) ls (lv_sub hl [0, 1, 2, 3, 4] rfl)
set_option maxHeartbeats 4000000 in
set_option maxRecDepth 100000 in
theorem c_M_set (l : Launch) (D : va_G) (cI cZ : ClassId) (am : Nat → Nat) (ca tu fo cl st : Int32) (row se va wa kn to od inn : Nat → Int32) (seed : Int32) (K : Nat) (h0 : 0 < K) (hK32 : K ≤ 32) : CtI l y_M_set b_M_set 5 .int 2 D [(cI, .int), (cZ, .boolean)] [.ref (am 0), .int seed] (Mw cI cZ am (nI K, ca, tu, fo, cl, st, row, se, va, wa, kn, to, od, inn)) (fun r (u : (Nat → Int32) × Int32) => r = lc_sm K seed) (fun u => Mw cI cZ am (nI K, ca, tu, fo, cl, u.2, row, se, va, wa, kn, to, od, u.1)) := by
  refine CtI.of (by decide) (Nat.le_of_ble_eq_true rfl) ?_
  intro p e s m args below meth c A Q S hK hP hD hA hS hret ls hl
  have S : CallFix p m c b_M_set 5 s args gw_tbl R_M := S
  have hx := S.1
  have hb := S.2.1
  have hl : lv_has ls 5 [(0, .ref (am 0)), (1, .int seed)] := hl
  refine lv_aload_n hx hb d_M_set_0 rfl (lv_at hl 0 rfl) ?_
  refine lv_iload_n hx hb d_M_set_1 rfl (lv_at hl 1 rfl) ?_
  refine dc_callI S ok_M_draw ml_M_49 (c_M_draw l D cI cZ am ca tu fo cl st row se va wa kn to od inn seed K h0 hK32) (As := [.int seed]) (rest := []) (wr := []) ⟨Nat.le_of_ble_eq_true rfl, Nat.le_of_ble_eq_true rfl⟩ ⟨Nat.le_of_ble_eq_true rfl, Nat.le_of_ble_eq_true rfl⟩ hK hP hD hS hA [0, 1, 2, 3, 4, 5, 6, 7, 8] [] rfl rfl (by decide) (by decide) (by decide) rfl rfl rfl hl rfl (Nat.le_of_ble_eq_true rfl) d_M_set_2 (fun rd ud H locs hrd hP hD hS => ?_)
  obtain ⟨in1, st1⟩ := ud
  obtain ⟨hrd1, hin1⟩ := hrd
  dsimp only at hin1
  have hP : va_P D classes (Mw cI cZ am (nI K, ca, tu, fo, cl, st1, row, se, va, wa, kn, to, od, in1)) H := hP
  have hD : va_D A (Mw cI cZ am (nI K, ca, tu, fo, cl, st1, row, se, va, wa, kn, to, od, in1)) := hD
  refine lv_istore_n (lv' := [(2, .int rd), (0, .ref (am 0)), (1, .int seed)]) hx hb d_M_set_5 rfl hl (by decide) rfl (fun ls hl => ?_)
  refine lv_iconst (v := 0) hx hb d_M_set_6 (by decide) ?_
  refine lv_istore_n (lv' := [(3, .int 0), (2, .int rd), (0, .ref (am 0)), (1, .int seed)]) hx hb d_M_set_7 rfl hl (by decide) rfl (fun ls hl => ?_)
  refine lv_iconst (v := 0) hx hb d_M_set_8 (by decide) ?_
  refine lv_istore (lv' := [(4, .int 0), (3, .int 0), (2, .int rd), (0, .ref (am 0)), (1, .int seed)]) hx hb d_M_set_9 hl (by decide) rfl (fun ls hl => ?_)
  have loop : ∀ (f i : Nat), K < i + f → i ≤ K → ∀ ls : Array Slot, lv_has ls 5 [(4, .int (nI i)), (3, .int (pb_lo (lc_sm K seed) i)), (2, .int rd), (0, .ref (am 0)), (1, .int seed)] → W p l e (rmD 2 0 0) s m args below meth c H locs 0 0 Q (F0 m 11 ls []) := by
    intro f
    induction f with
    | zero => intro i h1 h2; exact absurd h1 (by omega)
    | succ f ih =>
      intro i hf hi ls hl
      refine lv_iload hx hb d_M_set_11 (lv_at hl 0 rfl) ?_
      refine lv_aload_n hx hb d_M_set_13 rfl (lv_at hl 3 rfl) ?_
      refine dc_get_M S hK hP 0 rfl fl_M_35 rfl d_M_set_14 ?_
      refine lv_icmp_ge (tgt := 47) hx hb d_M_set_17 (by decide) (fun hc => ?_) (fun hc => ?_)
      · have e1 := zi_le hc
        have e2 : i = K := by omega
        subst e2
        refine lv_iload_n hx hb d_M_set_47 rfl (lv_at hl 1 rfl) ?_
        exact hret _ _ _ _ _ (in1, st1) d_M_set_48 rfl (pb_lo_all hK32 (fun i q => lc_sm_in h0 hK32 seed q)) hP hD hS
      · have e1 := zi_nle hc
        have rest : ∀ x : Int32, (pb_lo (lc_sm K seed) i) ||| x = pb_lo (lc_sm K seed) (i + 1) → W p l e (rmD 2 0 0) s m args below meth c H locs 0 0 Q (F0 m 39 ls [.int x, .int (pb_lo (lc_sm K seed) i)]) := by
          intro x hxe
          refine lv_ior hx hb d_M_set_39 ?_
          refine dc_nrm (y := pb_lo (lc_sm K seed) (i + 1)) (hxe) ?_
          refine lv_istore_n (lv' := [(3, .int (pb_lo (lc_sm K seed) (i + 1))), (4, .int (nI i)), (2, .int rd), (0, .ref (am 0)), (1, .int seed)]) hx hb d_M_set_40 rfl hl (by decide) rfl (fun ls hl => ?_)
          refine lv_iinc (v := nI (i + 1)) (lv' := [(4, .int (nI (i + 1))), (3, .int (pb_lo (lc_sm K seed) (i + 1))), (2, .int rd), (0, .ref (am 0)), (1, .int seed)]) hx hb d_M_set_41 hl (k := 1) rfl (nI_1 _) (by decide) rfl (fun ls hl => ?_)
          refine lv_goto (tgt := 11) hx hb d_M_set_44 (by decide) ?_
          exact ih (i + 1) (by omega) (by omega) ls (lv_sub hl [0, 1, 2, 3, 4] rfl)
        refine lv_iload_n hx hb d_M_set_20 rfl (lv_at hl 1 rfl) ?_
        refine lv_aload_n hx hb d_M_set_21 rfl (lv_at hl 3 rfl) ?_
        refine dc_get_M S hK hP 0 rfl fl_M_32 rfl d_M_set_22 ?_
        refine lv_iload hx hb d_M_set_25 (lv_at hl 0 rfl) ?_
        refine dc_zld S hK hP 8 rfl (j := i) (rfl) (by omega) d_M_set_27 ?_
        refine dc_nrm (y := b2 (bt (lc_sm K seed) i)) (hin1 i e1) ?_
        refine lv_if_eq (tgt := 38) hx hb d_M_set_28 (by decide) (fun hc2 => ?_) (fun hc2 => ?_)
        · have q := b2_eq0 hc2
          refine lv_iconst (v := 0) hx hb d_M_set_38 (by decide) ?_
          exact rest 0 (by show _ = pb_lo (lc_sm K seed) i ||| (if bt (lc_sm K seed) i = true then pb_one i else 0); rw [q, if_neg (by decide)])
        · have q := b2_ne0 hc2
          refine lv_iconst (v := 1) hx hb d_M_set_31 (by decide) ?_
          refine lv_iload hx hb d_M_set_32 (lv_at hl 0 rfl) ?_
          refine lv_ishl hx hb d_M_set_34 ?_
          refine lv_goto (tgt := 39) hx hb d_M_set_35 (by decide) ?_
          exact rest (pb_one i) (by show _ = pb_lo (lc_sm K seed) i ||| (if bt (lc_sm K seed) i = true then pb_one i else 0); rw [q, if_pos rfl])
  exact loop (K + 1) 0 (by omega) (by omega) ls (lv_sub hl [0, 1, 2, 3, 4] rfl)
set_option maxHeartbeats 4000000 in
set_option maxRecDepth 100000 in
theorem c_M_isOpen (l : Launch) (D : va_G) (cI cZ : ClassId) (am : Nat → Nat) (ca tu fo cl st : Int32) (row se va wa kn to od inn : Nat → Int32) (j : Nat) (h : Int32) (t : Nat → Int32) (K : Nat) (h0 : 0 < K) (hK32 : K ≤ 32) (hj : j < 60) (Mk : m_Kn K h t kn to) : CtI l y_M_isOpen b_M_isOpen 5 .int 2 D [(cI, .int), (cZ, .boolean)] [.ref (am 0), .int (nI j)] (Mw cI cZ am (nI K, ca, tu, fo, cl, st, row, se, va, wa, kn, to, od, inn)) (fun r (u : (Nat → Int32) × Int32) => r = nI (pb_pop (pb_left (lc_sm K (se j)) h)) ∧ ∀ i, i < K → u.1 i = b2 (bt (lc_sm K (se j)) i)) (fun u => Mw cI cZ am (nI K, ca, tu, fo, cl, u.2, row, se, va, wa, kn, to, od, u.1)) := by
  refine CtI.of (by decide) (Nat.le_of_ble_eq_true rfl) ?_
  intro p e s m args below meth c A Q S hK hP hD hA hS hret ls hl
  have S : CallFix p m c b_M_isOpen 5 s args gw_tbl R_M := S
  have hx := S.1
  have hb := S.2.1
  have hl : lv_has ls 5 [(0, .ref (am 0)), (1, .int (nI j))] := hl
  refine lv_aload_n hx hb d_M_isOpen_0 rfl (lv_at hl 0 rfl) ?_
  refine lv_aload_n hx hb d_M_isOpen_1 rfl (lv_at hl 0 rfl) ?_
  refine dc_get_M S hK hP 0 rfl fl_M_13 rfl d_M_isOpen_2 ?_
  refine lv_iload_n hx hb d_M_isOpen_5 rfl (lv_at hl 1 rfl) ?_
  refine dc_ild S hK hP 2 rfl (j := j) (rfl) (by omega) d_M_isOpen_6 ?_
  refine dc_callI S ok_M_draw ml_M_49 (c_M_draw l D cI cZ am ca tu fo cl st row se va wa kn to od inn (se j) K h0 hK32) (As := [.int (se j)]) (rest := []) (wr := []) ⟨Nat.le_of_ble_eq_true rfl, Nat.le_of_ble_eq_true rfl⟩ ⟨Nat.le_of_ble_eq_true rfl, Nat.le_of_ble_eq_true rfl⟩ hK hP hD hS hA [0, 1, 2, 3, 4, 5, 6, 7, 8] [] rfl rfl (by decide) (by decide) (by decide) rfl rfl rfl hl rfl (Nat.le_of_ble_eq_true rfl) d_M_isOpen_7 (fun rd ud H locs hrd hP hD hS => ?_)
  obtain ⟨in1, st1⟩ := ud
  obtain ⟨hrd1, hin1⟩ := hrd
  dsimp only at hin1
  have hP : va_P D classes (Mw cI cZ am (nI K, ca, tu, fo, cl, st1, row, se, va, wa, kn, to, od, in1)) H := hP
  have hD : va_D A (Mw cI cZ am (nI K, ca, tu, fo, cl, st1, row, se, va, wa, kn, to, od, in1)) := hD
  refine lv_istore_n (lv' := [(2, .int rd), (0, .ref (am 0)), (1, .int (nI j))]) hx hb d_M_isOpen_10 rfl hl (by decide) rfl (fun ls hl => ?_)
  refine lv_iconst (v := 0) hx hb d_M_isOpen_11 (by decide) ?_
  refine lv_istore_n (lv' := [(3, .int 0), (2, .int rd), (0, .ref (am 0)), (1, .int (nI j))]) hx hb d_M_isOpen_12 rfl hl (by decide) rfl (fun ls hl => ?_)
  refine lv_iconst (v := 0) hx hb d_M_isOpen_13 (by decide) ?_
  refine lv_istore (lv' := [(4, .int 0), (3, .int 0), (2, .int rd), (0, .ref (am 0)), (1, .int (nI j))]) hx hb d_M_isOpen_14 hl (by decide) rfl (fun ls hl => ?_)
  have loop : ∀ (f i : Nat), K < i + f → i ≤ K → ∀ ls : Array Slot, lv_has ls 5 [(4, .int (nI i)), (3, .int (nI (pb_cnt (bt (pb_left (lc_sm K (se j)) h)) i))), (2, .int rd), (0, .ref (am 0)), (1, .int (nI j))] → W p l e (rmD 2 0 0) s m args below meth c H locs 0 0 Q (F0 m 16 ls []) := by
    intro f
    induction f with
    | zero => intro i h1 h2; exact absurd h1 (by omega)
    | succ f ih =>
      intro i hf hi ls hl
      refine lv_iload hx hb d_M_isOpen_16 (lv_at hl 0 rfl) ?_
      refine lv_aload_n hx hb d_M_isOpen_18 rfl (lv_at hl 3 rfl) ?_
      refine dc_get_M S hK hP 0 rfl fl_M_35 rfl d_M_isOpen_19 ?_
      refine lv_icmp_ge (tgt := 59) hx hb d_M_isOpen_22 (by decide) (fun hc => ?_) (fun hc => ?_)
      · have e1 := zi_le hc
        have e2 : i = K := by omega
        subst e2
        refine lv_iload_n hx hb d_M_isOpen_59 rfl (lv_at hl 1 rfl) ?_
        exact hret _ _ _ _ _ (in1, st1) d_M_isOpen_60 rfl (⟨by rw [← ab_pop_cut hK32 (pb_left_in (fun i q => lc_sm_in h0 hK32 (se j) q))], hin1⟩) hP hD hS
      · have e1 := zi_nle hc
        have rest : ∀ x : Int32, (nI (pb_cnt (bt (pb_left (lc_sm K (se j)) h)) i)) + x = nI (pb_cnt (bt (pb_left (lc_sm K (se j)) h)) (i + 1)) → W p l e (rmD 2 0 0) s m args below meth c H locs 0 0 Q (F0 m 51 ls [.int x, .int (nI (pb_cnt (bt (pb_left (lc_sm K (se j)) h)) i))]) := by
          intro x hxe
          refine lv_iadd hx hb d_M_isOpen_51 ?_
          refine dc_nrm (y := nI (pb_cnt (bt (pb_left (lc_sm K (se j)) h)) (i + 1))) (hxe) ?_
          refine lv_istore_n (lv' := [(3, .int (nI (pb_cnt (bt (pb_left (lc_sm K (se j)) h)) (i + 1)))), (4, .int (nI i)), (2, .int rd), (0, .ref (am 0)), (1, .int (nI j))]) hx hb d_M_isOpen_52 rfl hl (by decide) rfl (fun ls hl => ?_)
          refine lv_iinc (v := nI (i + 1)) (lv' := [(4, .int (nI (i + 1))), (3, .int (nI (pb_cnt (bt (pb_left (lc_sm K (se j)) h)) (i + 1)))), (2, .int rd), (0, .ref (am 0)), (1, .int (nI j))]) hx hb d_M_isOpen_53 hl (k := 1) rfl (nI_1 _) (by decide) rfl (fun ls hl => ?_)
          refine lv_goto (tgt := 16) hx hb d_M_isOpen_56 (by decide) ?_
          exact ih (i + 1) (by omega) (by omega) ls (lv_sub hl [0, 1, 2, 3, 4] rfl)
        refine lv_iload_n hx hb d_M_isOpen_25 rfl (lv_at hl 1 rfl) ?_
        refine lv_aload_n hx hb d_M_isOpen_26 rfl (lv_at hl 3 rfl) ?_
        refine dc_get_M S hK hP 0 rfl fl_M_32 rfl d_M_isOpen_27 ?_
        refine lv_iload hx hb d_M_isOpen_30 (lv_at hl 0 rfl) ?_
        refine dc_zld S hK hP 8 rfl (j := i) (rfl) (by omega) d_M_isOpen_32 ?_
        refine dc_nrm (y := b2 (bt (lc_sm K (se j)) i)) (hin1 i e1) ?_
        refine lv_if_eq (tgt := 50) hx hb d_M_isOpen_33 (by decide) (fun hc2 => ?_) (fun hc2 => ?_)
        · have q := b2_eq0 hc2
          refine lv_iconst (v := 0) hx hb d_M_isOpen_50 (by decide) ?_
          exact rest 0 (by show _ = nI (pb_cnt (bt (pb_left (lc_sm K (se j)) h)) i + (if bt (pb_left (lc_sm K (se j)) h) i = true then 1 else 0)); rw [pb_left_bt, q, Bool.false_and, if_neg (by decide)]; exact Int32.add_zero _)
        · have q := b2_ne0 hc2
          refine lv_aload_n hx hb d_M_isOpen_36 rfl (lv_at hl 3 rfl) ?_
          refine dc_get_M S hK hP 0 rfl fl_M_22 rfl d_M_isOpen_37 ?_
          refine lv_iload hx hb d_M_isOpen_40 (lv_at hl 0 rfl) ?_
          refine dc_zld S hK hP 5 rfl (j := i) (rfl) (by omega) d_M_isOpen_42 ?_
          refine dc_nrm (y := b2 (bt h i)) (Mk.1 i e1) ?_
          refine lv_if_ne (tgt := 50) hx hb d_M_isOpen_43 (by decide) (fun hc3 => ?_) (fun hc3 => ?_)
          · have q2 := b2_ne0 hc3
            refine lv_iconst (v := 0) hx hb d_M_isOpen_50 (by decide) ?_
            exact rest 0 (by show _ = nI (pb_cnt (bt (pb_left (lc_sm K (se j)) h)) i + (if bt (pb_left (lc_sm K (se j)) h) i = true then 1 else 0)); rw [pb_left_bt, q, q2, if_neg (by decide)]; exact Int32.add_zero _)
          · have q2 := b2_eq0 hc3
            refine lv_iconst (v := 1) hx hb d_M_isOpen_46 (by decide) ?_
            refine lv_goto (tgt := 51) hx hb d_M_isOpen_47 (by decide) ?_
            exact rest 1 (by show _ = nI (pb_cnt (bt (pb_left (lc_sm K (se j)) h)) i + (if bt (pb_left (lc_sm K (se j)) h) i = true then 1 else 0)); rw [pb_left_bt, q, q2, if_pos (by decide)]; exact nI_1 _)
  exact loop (K + 1) 0 (by omega) (by omega) ls (lv_sub hl [0, 1, 2, 3, 4] rfl)
set_option maxHeartbeats 4000000 in
set_option maxRecDepth 100000 in
theorem c_M_off (l : Launch) (D : va_G) (cI cZ : ClassId) (am : Nat → Nat) (ca tu fo cl st : Int32) (row se va wa kn to od inn : Nat → Int32) (j : Nat) (h : Int32) (t : Nat → Int32) (K : Nat) (h0 : 0 < K) (hK32 : K ≤ 32) (hj : j < 60) (Mk : m_Kn K h t kn to) : CtI l y_M_off b_M_off 5 .int 2 D [(cI, .int), (cZ, .boolean)] [.ref (am 0), .int (nI j)] (Mw cI cZ am (nI K, ca, tu, fo, cl, st, row, se, va, wa, kn, to, od, inn)) (fun r (u : (Nat → Int32) × Int32) => r = ab_rest (lc_sm K (se j)) h (va j) t ∧ ∀ i, i < K → u.1 i = b2 (bt (lc_sm K (se j)) i)) (fun u => Mw cI cZ am (nI K, ca, tu, fo, cl, u.2, row, se, va, wa, kn, to, od, u.1)) := by
  refine CtI.of (by decide) (Nat.le_of_ble_eq_true rfl) ?_
  intro p e s m args below meth c A Q S hK hP hD hA hS hret ls hl
  have S : CallFix p m c b_M_off 5 s args gw_tbl R_M := S
  have hx := S.1
  have hb := S.2.1
  have hl : lv_has ls 5 [(0, .ref (am 0)), (1, .int (nI j))] := hl
  refine lv_aload_n hx hb d_M_off_0 rfl (lv_at hl 0 rfl) ?_
  refine lv_aload_n hx hb d_M_off_1 rfl (lv_at hl 0 rfl) ?_
  refine dc_get_M S hK hP 0 rfl fl_M_13 rfl d_M_off_2 ?_
  refine lv_iload_n hx hb d_M_off_5 rfl (lv_at hl 1 rfl) ?_
  refine dc_ild S hK hP 2 rfl (j := j) (rfl) (by omega) d_M_off_6 ?_
  refine dc_callI S ok_M_draw ml_M_49 (c_M_draw l D cI cZ am ca tu fo cl st row se va wa kn to od inn (se j) K h0 hK32) (As := [.int (se j)]) (rest := []) (wr := []) ⟨Nat.le_of_ble_eq_true rfl, Nat.le_of_ble_eq_true rfl⟩ ⟨Nat.le_of_ble_eq_true rfl, Nat.le_of_ble_eq_true rfl⟩ hK hP hD hS hA [0, 1, 2, 3, 4, 5, 6, 7, 8] [] rfl rfl (by decide) (by decide) (by decide) rfl rfl rfl hl rfl (Nat.le_of_ble_eq_true rfl) d_M_off_7 (fun rd ud H locs hrd hP hD hS => ?_)
  obtain ⟨in1, st1⟩ := ud
  obtain ⟨hrd1, hin1⟩ := hrd
  dsimp only at hin1
  have hP : va_P D classes (Mw cI cZ am (nI K, ca, tu, fo, cl, st1, row, se, va, wa, kn, to, od, in1)) H := hP
  have hD : va_D A (Mw cI cZ am (nI K, ca, tu, fo, cl, st1, row, se, va, wa, kn, to, od, in1)) := hD
  refine lv_istore_n (lv' := [(2, .int rd), (0, .ref (am 0)), (1, .int (nI j))]) hx hb d_M_off_10 rfl hl (by decide) rfl (fun ls hl => ?_)
  refine lv_aload_n hx hb d_M_off_11 rfl (lv_at hl 1 rfl) ?_
  refine dc_get_M S hK hP 0 rfl fl_M_16 rfl d_M_off_12 ?_
  refine lv_iload_n hx hb d_M_off_15 rfl (lv_at hl 2 rfl) ?_
  refine dc_ild S hK hP 3 rfl (j := j) (rfl) (by omega) d_M_off_16 ?_
  refine lv_istore_n (lv' := [(3, .int (va j)), (2, .int rd), (0, .ref (am 0)), (1, .int (nI j))]) hx hb d_M_off_17 rfl hl (by decide) rfl (fun ls hl => ?_)
  refine lv_iconst (v := 0) hx hb d_M_off_18 (by decide) ?_
  refine lv_istore (lv' := [(4, .int 0), (3, .int (va j)), (2, .int rd), (0, .ref (am 0)), (1, .int (nI j))]) hx hb d_M_off_19 hl (by decide) rfl (fun ls hl => ?_)
  have hl : lv_has ls 5 [(4, .int 0), (3, .int (va j ^^^ pb_xr (bt ((lc_sm K (se j)) &&& h)) t 0)), (2, .int rd), (0, .ref (am 0)), (1, .int (nI j))] := by
    have e00 : va j ^^^ pb_xr (bt ((lc_sm K (se j)) &&& h)) t 0 = va j := pb_x0 _
    rw [e00]; exact hl
  have loop : ∀ (f i : Nat), K < i + f → i ≤ K → ∀ ls : Array Slot, lv_has ls 5 [(4, .int (nI i)), (3, .int (va j ^^^ pb_xr (bt ((lc_sm K (se j)) &&& h)) t i)), (2, .int rd), (0, .ref (am 0)), (1, .int (nI j))] → W p l e (rmD 2 0 0) s m args below meth c H locs 0 0 Q (F0 m 21 ls []) := by
    intro f
    induction f with
    | zero => intro i h1 h2; exact absurd h1 (by omega)
    | succ f ih =>
      intro i hf hi ls hl
      refine lv_iload hx hb d_M_off_21 (lv_at hl 0 rfl) ?_
      refine lv_aload_n hx hb d_M_off_23 rfl (lv_at hl 3 rfl) ?_
      refine dc_get_M S hK hP 0 rfl fl_M_35 rfl d_M_off_24 ?_
      refine lv_icmp_ge (tgt := 70) hx hb d_M_off_27 (by decide) (fun hc => ?_) (fun hc => ?_)
      · have e1 := zi_le hc
        have e2 : i = K := by omega
        subst e2
        refine lv_iload_n hx hb d_M_off_70 rfl (lv_at hl 1 rfl) ?_
        exact hret _ _ _ _ _ (in1, st1) d_M_off_71 rfl (⟨by unfold ab_rest; rw [pb_xr_K hK32 (b_and_in (fun i q => lc_sm_in h0 hK32 (se j) q))], hin1⟩) hP hD hS
      · have e1 := zi_nle hc
        have rest : ∀ x : Int32, (va j ^^^ pb_xr (bt ((lc_sm K (se j)) &&& h)) t i) ^^^ x = va j ^^^ pb_xr (bt ((lc_sm K (se j)) &&& h)) t (i + 1) → W p l e (rmD 2 0 0) s m args below meth c H locs 0 0 Q (F0 m 62 ls [.int x, .int (va j ^^^ pb_xr (bt ((lc_sm K (se j)) &&& h)) t i)]) := by
          intro x hxe
          refine lv_ixor hx hb d_M_off_62 ?_
          refine dc_nrm (y := va j ^^^ pb_xr (bt ((lc_sm K (se j)) &&& h)) t (i + 1)) (hxe) ?_
          refine lv_istore_n (lv' := [(3, .int (va j ^^^ pb_xr (bt ((lc_sm K (se j)) &&& h)) t (i + 1))), (4, .int (nI i)), (2, .int rd), (0, .ref (am 0)), (1, .int (nI j))]) hx hb d_M_off_63 rfl hl (by decide) rfl (fun ls hl => ?_)
          refine lv_iinc (v := nI (i + 1)) (lv' := [(4, .int (nI (i + 1))), (3, .int (va j ^^^ pb_xr (bt ((lc_sm K (se j)) &&& h)) t (i + 1))), (2, .int rd), (0, .ref (am 0)), (1, .int (nI j))]) hx hb d_M_off_64 hl (k := 1) rfl (nI_1 _) (by decide) rfl (fun ls hl => ?_)
          refine lv_goto (tgt := 21) hx hb d_M_off_67 (by decide) ?_
          exact ih (i + 1) (by omega) (by omega) ls (lv_sub hl [0, 1, 2, 3, 4] rfl)
        refine lv_iload_n hx hb d_M_off_30 rfl (lv_at hl 1 rfl) ?_
        refine lv_aload_n hx hb d_M_off_31 rfl (lv_at hl 3 rfl) ?_
        refine dc_get_M S hK hP 0 rfl fl_M_32 rfl d_M_off_32 ?_
        refine lv_iload hx hb d_M_off_35 (lv_at hl 0 rfl) ?_
        refine dc_zld S hK hP 8 rfl (j := i) (rfl) (by omega) d_M_off_37 ?_
        refine dc_nrm (y := b2 (bt (lc_sm K (se j)) i)) (hin1 i e1) ?_
        refine lv_if_eq (tgt := 61) hx hb d_M_off_38 (by decide) (fun hc2 => ?_) (fun hc2 => ?_)
        · have q := b2_eq0 hc2
          refine lv_iconst (v := 0) hx hb d_M_off_61 (by decide) ?_
          exact rest 0 (by show _ = va j ^^^ (pb_xr (bt ((lc_sm K (se j)) &&& h)) t i ^^^ (if bt ((lc_sm K (se j)) &&& h) i = true then t i else 0)); rw [b_and, q, Bool.false_and, if_neg (by decide), pb_xa])
        · have q := b2_ne0 hc2
          refine lv_aload_n hx hb d_M_off_41 rfl (lv_at hl 3 rfl) ?_
          refine dc_get_M S hK hP 0 rfl fl_M_22 rfl d_M_off_42 ?_
          refine lv_iload hx hb d_M_off_45 (lv_at hl 0 rfl) ?_
          refine dc_zld S hK hP 5 rfl (j := i) (rfl) (by omega) d_M_off_47 ?_
          refine dc_nrm (y := b2 (bt h i)) (Mk.1 i e1) ?_
          refine lv_if_eq (tgt := 61) hx hb d_M_off_48 (by decide) (fun hc3 => ?_) (fun hc3 => ?_)
          · have q2 := b2_eq0 hc3
            refine lv_iconst (v := 0) hx hb d_M_off_61 (by decide) ?_
            exact rest 0 (by show _ = va j ^^^ (pb_xr (bt ((lc_sm K (se j)) &&& h)) t i ^^^ (if bt ((lc_sm K (se j)) &&& h) i = true then t i else 0)); rw [b_and, q, q2, if_neg (by decide), pb_xa])
          · have q2 := b2_ne0 hc3
            refine lv_aload_n hx hb d_M_off_51 rfl (lv_at hl 3 rfl) ?_
            refine dc_get_M S hK hP 0 rfl fl_M_26 rfl d_M_off_52 ?_
            refine lv_iload hx hb d_M_off_55 (lv_at hl 0 rfl) ?_
            refine dc_ild S hK hP 6 rfl (j := i) (rfl) (by omega) d_M_off_57 ?_
            refine dc_nrm (y := t i) (Mk.2 i q2) ?_
            refine lv_goto (tgt := 62) hx hb d_M_off_58 (by decide) ?_
            exact rest (t i) (by show _ = va j ^^^ (pb_xr (bt ((lc_sm K (se j)) &&& h)) t i ^^^ (if bt ((lc_sm K (se j)) &&& h) i = true then t i else 0)); rw [b_and, q, q2, if_pos (by decide), pb_xa])
  exact loop (K + 1) 0 (by omega) (by omega) ls (lv_sub hl [0, 1, 2, 3, 4] rfl)
set_option maxHeartbeats 4000000 in
set_option maxRecDepth 100000 in
theorem c_M_await (l : Launch) (D : va_G) (cI cZ : ClassId) (am : Nat → Nat) (wd ca fo cl st : Int32) (row se va wa kn to od inn : Nat → Int32) (T j : Nat) (hj : j < 60) : CtV l y_M_await b_M_await 2 0 0 0 D [(cI, .int), (cZ, .boolean)] [.ref (am 0), .int (nI j)] (Mw cI cZ am (wd, ca, nI T, fo, cl, st, row, se, va, wa, kn, to, od, inn)) (fun (u : Unit) => True) (fun u => Mw cI cZ am (wd, ca, nI (T + 1), fo, cl, st, row, se, va, upd wa j (nI (T + 1)), kn, to, od, inn)) := by
  refine CtV.of (by decide) (Nat.le_of_ble_eq_true rfl) ?_
  intro p e s m args below meth c A Q hin S hK hP hD hA hS hret ls hl
  have S : CallFix p m c b_M_await 2 s args gw_tbl R_M := S
  have hx := S.1
  have hb := S.2.1
  have hl : lv_has ls 2 [(0, .ref (am 0)), (1, .int (nI j))] := hl
  refine lv_aload_n hx hb d_M_await_0 rfl (lv_at hl 0 rfl) ?_
  refine lv_dup hx hb d_M_await_1 rfl ?_
  refine dc_get_M S hK hP 0 rfl fl_M_53 rfl d_M_await_2 ?_
  refine lv_iconst (v := 1) hx hb d_M_await_5 (by decide) ?_
  refine lv_iadd hx hb d_M_await_6 ?_
  refine dc_nrm (y := nI (T + 1)) (nI_1 _) ?_
  refine dc_put_M S hK hP hD hS 0 rfl fl_M_53 (Nat.le_of_ble_eq_true rfl) d_M_await_7 (fun H locs (hP : va_P D classes (Mw cI cZ am (wd, ca, (nI (T + 1)), fo, cl, st, row, se, va, wa, kn, to, od, inn)) H) (hD : va_D A (Mw cI cZ am (wd, ca, (nI (T + 1)), fo, cl, st, row, se, va, wa, kn, to, od, inn))) hS => ?_)
  refine lv_aload_n hx hb d_M_await_10 rfl (lv_at hl 0 rfl) ?_
  refine dc_get_M S hK hP 0 rfl fl_M_19 rfl d_M_await_11 ?_
  refine lv_iload_n hx hb d_M_await_14 rfl (lv_at hl 1 rfl) ?_
  refine lv_aload_n hx hb d_M_await_15 rfl (lv_at hl 0 rfl) ?_
  refine dc_get_M S hK hP 0 rfl fl_M_53 rfl d_M_await_16 ?_
  refine dc_ist S hK hP hD hS 4 rfl (j := j) (rfl) (by omega) d_M_await_19 (fun H locs (hP : va_P D classes (Mw cI cZ am (wd, ca, (nI (T + 1)), fo, cl, st, row, se, va, upd wa j (nI (T + 1)), kn, to, od, inn)) H) (hD : va_D A (Mw cI cZ am (wd, ca, (nI (T + 1)), fo, cl, st, row, se, va, upd wa j (nI (T + 1)), kn, to, od, inn))) hS => ?_)
  exact hret _ _ _ _ (()) d_M_await_20 (trivial) hP hD hS
set_option maxHeartbeats 4000000 in
set_option maxRecDepth 100000 in
theorem c_M_first (l : Launch) (D : va_G) (cI cZ : ClassId) (am : Nat → Nat) (wd tu fo cl st : Int32) (row se va wa kn to od inn : Nat → Int32) (n T0 : Nat) (qf : Nat → Nat) (lo tl : Nat) (hn60 : n ≤ 60) (hT : T0 + tl < 2 ^ 30) (hq : ∀ p, lo ≤ p → p < tl → qf p < n) (Mw0 : m_W T0 n qf lo tl wa) : CtI l y_M_first b_M_first 3 .int 0 D [(cI, .int), (cZ, .boolean)] [.ref (am 0)] (Mw cI cZ am (wd, nI n, tu, fo, cl, st, row, se, va, wa, kn, to, od, inn)) (fun r (u : Unit) => r = if lo < tl then nI (qf lo) else -1) (fun u => Mw cI cZ am (wd, nI n, tu, fo, cl, st, row, se, va, wa, kn, to, od, inn)) := by
  refine CtI.of (by decide) (Nat.le_of_ble_eq_true rfl) ?_
  intro p e s m args below meth c A Q S hK hP hD hA hS hret ls hl
  have S : CallFix p m c b_M_first 3 s args gw_tbl R_M := S
  have hx := S.1
  have hb := S.2.1
  have hl : lv_has ls 3 [(0, .ref (am 0))] := hl
  refine lv_iconst (v := (-1)) hx hb d_M_first_0 (by decide) ?_
  refine lv_istore_n (lv' := [(1, .int (-1)), (0, .ref (am 0))]) hx hb d_M_first_1 rfl hl (by decide) rfl (fun ls hl => ?_)
  refine lv_iconst (v := 0) hx hb d_M_first_2 (by decide) ?_
  refine lv_istore_n (lv' := [(2, .int 0), (1, .int (-1)), (0, .ref (am 0))]) hx hb d_M_first_3 rfl hl (by decide) rfl (fun ls hl => ?_)
  have loop : ∀ (f j : Nat), n < j + f → j ≤ n → ∀ fd : Int32, m_F n qf lo tl j fd → ∀ ls : Array Slot, lv_has ls 3 [(2, .int (nI j)), (1, .int fd), (0, .ref (am 0))] → W p l e (rmD 0 0 0) s m args below meth c s.heap [] 0 0 Q (F0 m 4 ls []) := by
    intro f
    induction f with
    | zero => intro j h1 h2; exact absurd h1 (by omega)
    | succ f ih =>
      intro j hf hj fd hF ls hl
      refine lv_iload_n hx hb d_M_first_4 rfl (lv_at hl 0 rfl) ?_
      refine lv_aload_n hx hb d_M_first_5 rfl (lv_at hl 2 rfl) ?_
      refine dc_get_M S hK hP 0 rfl fl_M_56 rfl d_M_first_6 ?_
      refine lv_icmp_ge (tgt := 53) hx hb d_M_first_9 (by decide) (fun hc => ?_) (fun hc => ?_)
      · have e2 : j = n := Nat.le_antisymm hj (zi_le hc)
        subst e2
        refine lv_iload_n hx hb d_M_first_53 rfl (lv_at hl 1 rfl) ?_
        exact hret _ _ _ _ _ (()) d_M_first_54 rfl (hF.last hq) hP hD hS
      · have e1 := zi_nle hc
        have rest : ∀ x : Int32, m_F n qf lo tl (j + 1) x → W p l e (rmD 0 0 0) s m args below meth c s.heap [] 0 0 Q (F0 m 46 ls [.int x]) := by
          intro x hxe
          refine lv_istore_n (lv' := [(1, .int x), (2, .int (nI j)), (0, .ref (am 0))]) hx hb d_M_first_46 rfl hl (by decide) rfl (fun ls hl => ?_)
          refine lv_iinc (v := nI (j + 1)) (lv' := [(2, .int (nI (j + 1))), (1, .int x), (0, .ref (am 0))]) hx hb d_M_first_47 hl (k := 1) rfl (nI_1 _) (by decide) rfl (fun ls hl => ?_)
          refine lv_goto (tgt := 4) hx hb d_M_first_50 (by decide) ?_
          exact ih (j + 1) (by omega) e1 x hxe ls (lv_sub hl [0, 1, 2] rfl)
        refine lv_aload_n hx hb d_M_first_12 rfl (lv_at hl 2 rfl) ?_
        refine dc_get_M S hK hP 0 rfl fl_M_19 rfl d_M_first_13 ?_
        refine lv_iload_n hx hb d_M_first_16 rfl (lv_at hl 0 rfl) ?_
        refine dc_ild S hK hP 4 rfl (j := j) (rfl) (by omega) d_M_first_17 ?_
        refine lv_if_le (tgt := 45) hx hb d_M_first_18 (by decide) (fun hc2 => ?_) (fun hc2 => ?_)
        · have hni : ¬ ab_in qf lo tl j := by
            rintro ⟨p, g1, g2, g3⟩
            have h1 := Mw0.1 p g1 g2
            rw [g3] at h1
            rw [h1] at hc2
            have := zi_le (b := 0) hc2
            omega
          refine lv_iload_n hx hb d_M_first_45 rfl (lv_at hl 1 rfl) ?_
          exact rest fd (hF.keep hni)
        · have hin : ab_in qf lo tl j := by
            rcases Classical.em (ab_in qf lo tl j) with q | q
            · exact q
            · rw [Mw0.2 j e1 q] at hc2; exact absurd hc2 (by decide)
          obtain ⟨p1, g1, g2, g3⟩ := hin
          have hw1 : wa j = nI (T0 + p1 + 1) := by rw [← g3]; exact Mw0.1 p1 g1 g2
          refine lv_iload_n hx hb d_M_first_21 rfl (lv_at hl 1 rfl) ?_
          refine lv_iconst (v := (-1)) hx hb d_M_first_22 (by decide) ?_
          refine lv_icmp_eq (tgt := 41) hx hb d_M_first_23 (by decide) (fun hc3 => ?_) (fun hc3 => ?_)
          · refine lv_iload_n hx hb d_M_first_41 rfl (lv_at hl 0 rfl) ?_
            refine lv_goto (tgt := 46) hx hb d_M_first_42 (by decide) ?_
            refine rest _ (Or.inr ⟨p1, g1, g2, by omega, by rw [g3], fun p h1 h2 h3 => ?_⟩)
            rcases hF with ⟨-, q⟩ | ⟨p0, z1, z2, -, q, -⟩
            · have := q p h1 h2
              have h4 := Mw0.1 p h1 h2
              rw [show qf p = j by omega, hw1] at h4
              have := zi_eq h4
              omega
            · exact absurd (q.symm.trans hc3) (zi_m1 (by have := hq p0 z1 z2; omega))
          · rcases hF with ⟨q, -⟩ | ⟨p0, f1, f2, f3, f4, f5⟩
            · exact absurd q hc3
            · have hw0 : wa (qf p0) = nI (T0 + p0 + 1) := Mw0.1 p0 f1 f2
              have hq0 := hq p0 f1 f2
              refine lv_aload_n hx hb d_M_first_26 rfl (lv_at hl 2 rfl) ?_
              refine dc_get_M S hK hP 0 rfl fl_M_19 rfl d_M_first_27 ?_
              refine lv_iload_n hx hb d_M_first_30 rfl (lv_at hl 0 rfl) ?_
              refine dc_ild S hK hP 4 rfl (j := j) (rfl) (by omega) d_M_first_31 ?_
              refine dc_nrm (y := nI (T0 + p1 + 1)) (hw1) ?_
              refine lv_aload_n hx hb d_M_first_32 rfl (lv_at hl 2 rfl) ?_
              refine dc_get_M S hK hP 0 rfl fl_M_19 rfl d_M_first_33 ?_
              refine lv_iload_n hx hb d_M_first_36 rfl (lv_at hl 1 rfl) ?_
              refine dc_ild S hK hP 4 rfl (j := qf p0) (f4) (by omega) d_M_first_37 ?_
              refine dc_nrm (y := nI (T0 + p0 + 1)) (hw0) ?_
              refine lv_icmp_ge (tgt := 45) hx hb d_M_first_38 (by decide) (fun hc4 => ?_) (fun hc4 => ?_)
              · have e4 := zi_le hc4
                refine lv_iload_n hx hb d_M_first_45 rfl (lv_at hl 1 rfl) ?_
                refine rest fd (Or.inr ⟨p0, f1, f2, by omega, f4, fun p h1 h2 h3 => ?_⟩)
                by_cases e : qf p = j
                · have h4 := Mw0.1 p h1 h2
                  rw [e, hw1] at h4
                  have := zi_eq h4
                  omega
                · exact f5 p h1 h2 (by omega)
              · have e4 := zi_nle hc4
                refine lv_iload_n hx hb d_M_first_41 rfl (lv_at hl 0 rfl) ?_
                refine lv_goto (tgt := 46) hx hb d_M_first_42 (by decide) ?_
                refine rest _ (Or.inr ⟨p1, g1, g2, by omega, by rw [g3], fun p h1 h2 h3 => ?_⟩)
                by_cases e : qf p = j
                · have h4 := Mw0.1 p h1 h2
                  rw [e, hw1] at h4
                  have := zi_eq h4
                  omega
                · have := f5 p h1 h2 (by omega)
                  omega
  exact loop (n + 1) 0 (by omega) (by omega) (-1) m_F.zero ls hl
set_option maxHeartbeats 4000000 in
set_option maxRecDepth 100000 in
theorem c_M_put (l : Launch) (D : va_G) (cI cZ : ClassId) (am : Nat → Nat) (ca tu fo cl st : Int32) (row se va wa kn to od inn : Nat → Int32) (i v : Int32) (K : Nat) (h0 : 0 < K) (hK32 : K ≤ 32) : CtI l y_M_put b_M_put 3 .int 0 D [(cI, .int), (cZ, .boolean)] [.ref (am 0), .int i, .int v] (Mw cI cZ am (nI K, ca, tu, fo, cl, st, row, se, va, wa, kn, to, od, inn)) (fun r (u : Nat → Int32) => r = (if ¬ i < 0 ∧ i < nI K then 1 else -1) ∧ u = (if ¬ i < 0 ∧ i < nI K then upd row i.toNatClampNeg v else row)) (fun u => Mw cI cZ am (nI K, ca, tu, fo, cl, st, u, se, va, wa, kn, to, od, inn)) := by
  refine CtI.of (by decide) (Nat.le_of_ble_eq_true rfl) ?_
  intro p e s m args below meth c A Q S hK hP hD hA hS hret ls hl
  have S : CallFix p m c b_M_put 3 s args gw_tbl R_M := S
  have hx := S.1
  have hb := S.2.1
  have hl : lv_has ls 3 [(0, .ref (am 0)), (1, .int i), (2, .int v)] := hl
  refine lv_iload_n hx hb d_M_put_0 rfl (lv_at hl 1 rfl) ?_
  refine lv_if_lt (tgt := 12) hx hb d_M_put_1 (by decide) (fun hc => ?_) (fun hc => ?_)
  · refine lv_iconst (v := (-1)) hx hb d_M_put_12 (by decide) ?_
    exact hret _ _ _ _ _ (row) d_M_put_13 rfl (⟨by rw [if_neg (fun q => q.1 hc)], by rw [if_neg (fun q => q.1 hc)]⟩) hP hD hS
  · refine lv_iload_n hx hb d_M_put_4 rfl (lv_at hl 1 rfl) ?_
    refine lv_aload_n hx hb d_M_put_5 rfl (lv_at hl 0 rfl) ?_
    refine dc_get_M S hK hP 0 rfl fl_M_35 rfl d_M_put_6 ?_
    refine lv_icmp_lt (tgt := 14) hx hb d_M_put_9 (by decide) (fun hc2 => ?_) (fun hc2 => ?_)
    · have hw : ¬ i < 0 ∧ i < nI K := ⟨hc, hc2⟩
      obtain ⟨j, hj, rfl⟩ : ∃ j : Nat, j < K ∧ i = nI j := by
        rcases pk_ix i (n := K) (by omega) with q | q | q
        · exact absurd q hw.1
        · exact absurd hw.2 (Int32.not_lt.mpr q)
        · exact q
      refine lv_aload_n hx hb d_M_put_14 rfl (lv_at hl 0 rfl) ?_
      refine dc_get_M S hK hP 0 rfl fl_M_7 rfl d_M_put_15 ?_
      refine lv_iload_n hx hb d_M_put_18 rfl (lv_at hl 1 rfl) ?_
      refine lv_iload_n hx hb d_M_put_19 rfl (lv_at hl 2 rfl) ?_
      refine dc_ist S hK hP hD hS 1 rfl (j := j) (rfl) (by omega) d_M_put_20 (fun H locs (hP : va_P D classes (Mw cI cZ am (nI K, ca, tu, fo, cl, st, upd row j v, se, va, wa, kn, to, od, inn)) H) (hD : va_D A (Mw cI cZ am (nI K, ca, tu, fo, cl, st, upd row j v, se, va, wa, kn, to, od, inn))) hS => ?_)
      refine lv_iconst (v := 1) hx hb d_M_put_21 (by decide) ?_
      exact hret _ _ _ _ _ (upd row j v) d_M_put_22 rfl (⟨by rw [if_pos hw], by rw [if_pos hw, nI_clamp (by omega)]⟩) hP hD hS
    · refine lv_iconst (v := (-1)) hx hb d_M_put_12 (by decide) ?_
      exact hret _ _ _ _ _ (row) d_M_put_13 rfl (⟨by rw [if_neg (fun q => hc2 q.2)], by rw [if_neg (fun q => hc2 q.2)]⟩) hP hD hS
set_option maxHeartbeats 4000000 in
set_option maxRecDepth 100000 in
theorem c_M_known (l : Launch) (D : va_G) (cI cZ : ClassId) (am : Nat → Nat) (ca tu fo cl st : Int32) (row se va wa kn to od inn : Nat → Int32) (i h : Int32) (t : Nat → Int32) (K : Nat) (h0 : 0 < K) (hK32 : K ≤ 32) (Mk : m_Kn K h t kn to) : CtI l y_M_known b_M_known 2 .int 0 D [(cI, .int), (cZ, .boolean)] [.ref (am 0), .int i] (Mw cI cZ am (nI K, ca, tu, fo, cl, st, row, se, va, wa, kn, to, od, inn)) (fun r (u : Unit) => r = if ¬ i < 0 ∧ i < nI K then (if bt h i.toNatClampNeg = true then 1 else 0) else -1) (fun u => Mw cI cZ am (nI K, ca, tu, fo, cl, st, row, se, va, wa, kn, to, od, inn)) := by
  refine CtI.of (by decide) (Nat.le_of_ble_eq_true rfl) ?_
  intro p e s m args below meth c A Q S hK hP hD hA hS hret ls hl
  have S : CallFix p m c b_M_known 2 s args gw_tbl R_M := S
  have hx := S.1
  have hb := S.2.1
  have hl : lv_has ls 2 [(0, .ref (am 0)), (1, .int i)] := hl
  refine lv_iload_n hx hb d_M_known_0 rfl (lv_at hl 1 rfl) ?_
  refine lv_if_lt (tgt := 12) hx hb d_M_known_1 (by decide) (fun hc => ?_) (fun hc => ?_)
  · refine lv_iconst (v := (-1)) hx hb d_M_known_12 (by decide) ?_
    refine lv_goto (tgt := 30) hx hb d_M_known_13 (by decide) ?_
    exact hret _ _ _ _ _ (()) d_M_known_30 rfl (by rw [if_neg (fun q => q.1 hc)]) hP hD hS
  · refine lv_iload_n hx hb d_M_known_4 rfl (lv_at hl 1 rfl) ?_
    refine lv_aload_n hx hb d_M_known_5 rfl (lv_at hl 0 rfl) ?_
    refine dc_get_M S hK hP 0 rfl fl_M_35 rfl d_M_known_6 ?_
    refine lv_icmp_lt (tgt := 16) hx hb d_M_known_9 (by decide) (fun hc2 => ?_) (fun hc2 => ?_)
    · have hw : ¬ i < 0 ∧ i < nI K := ⟨hc, hc2⟩
      obtain ⟨j, hj, rfl⟩ : ∃ j : Nat, j < K ∧ i = nI j := by
        rcases pk_ix i (n := K) (by omega) with q | q | q
        · exact absurd q hw.1
        · exact absurd hw.2 (Int32.not_lt.mpr q)
        · exact q
      refine lv_aload_n hx hb d_M_known_16 rfl (lv_at hl 0 rfl) ?_
      refine dc_get_M S hK hP 0 rfl fl_M_22 rfl d_M_known_17 ?_
      refine lv_iload_n hx hb d_M_known_20 rfl (lv_at hl 1 rfl) ?_
      refine dc_zld S hK hP 5 rfl (j := j) (rfl) (by omega) d_M_known_21 ?_
      refine dc_nrm (y := b2 (bt h j)) (Mk.1 j hj) ?_
      refine lv_if_eq (tgt := 29) hx hb d_M_known_22 (by decide) (fun hc3 => ?_) (fun hc3 => ?_)
      · have q := b2_eq0 hc3
        refine lv_iconst (v := 0) hx hb d_M_known_29 (by decide) ?_
        exact hret _ _ _ _ _ (()) d_M_known_30 rfl (by rw [if_pos hw, nI_clamp (by omega), q, if_neg (by decide)]) hP hD hS
      · have q := b2_ne0 hc3
        refine lv_iconst (v := 1) hx hb d_M_known_25 (by decide) ?_
        refine lv_goto (tgt := 30) hx hb d_M_known_26 (by decide) ?_
        exact hret _ _ _ _ _ (()) d_M_known_30 rfl (by rw [if_pos hw, nI_clamp (by omega), q, if_pos rfl]) hP hD hS
    · refine lv_iconst (v := (-1)) hx hb d_M_known_12 (by decide) ?_
      refine lv_goto (tgt := 30) hx hb d_M_known_13 (by decide) ?_
      exact hret _ _ _ _ _ (()) d_M_known_30 rfl (by rw [if_neg (fun q => hc2 q.2)]) hP hD hS
set_option maxHeartbeats 4000000 in
set_option maxRecDepth 100000 in
theorem c_M_word (l : Launch) (D : va_G) (cI cZ : ClassId) (am : Nat → Nat) (ca tu fo cl st : Int32) (row se va wa kn to od inn : Nat → Int32) (i h : Int32) (t : Nat → Int32) (K : Nat) (h0 : 0 < K) (hK32 : K ≤ 32) (Mk : m_Kn K h t kn to) : CtI l y_M_word b_M_word 2 .int 0 D [(cI, .int), (cZ, .boolean)] [.ref (am 0), .int i] (Mw cI cZ am (nI K, ca, tu, fo, cl, st, row, se, va, wa, kn, to, od, inn)) (fun r (u : Unit) => r = if (¬ i < 0 ∧ i < nI K) ∧ bt h i.toNatClampNeg = true then t i.toNatClampNeg else 0) (fun u => Mw cI cZ am (nI K, ca, tu, fo, cl, st, row, se, va, wa, kn, to, od, inn)) := by
  refine CtI.of (by decide) (Nat.le_of_ble_eq_true rfl) ?_
  intro p e s m args below meth c A Q S hK hP hD hA hS hret ls hl
  have S : CallFix p m c b_M_word 2 s args gw_tbl R_M := S
  have hx := S.1
  have hb := S.2.1
  have hl : lv_has ls 2 [(0, .ref (am 0)), (1, .int i)] := hl
  refine lv_iload_n hx hb d_M_word_0 rfl (lv_at hl 1 rfl) ?_
  refine lv_if_lt (tgt := 21) hx hb d_M_word_1 (by decide) (fun hc => ?_) (fun hc => ?_)
  · refine lv_iconst (v := 0) hx hb d_M_word_21 (by decide) ?_
    refine lv_goto (tgt := 31) hx hb d_M_word_22 (by decide) ?_
    exact hret _ _ _ _ _ (()) d_M_word_31 rfl (by rw [if_neg (fun q => q.1.1 hc)]) hP hD hS
  · refine lv_iload_n hx hb d_M_word_4 rfl (lv_at hl 1 rfl) ?_
    refine lv_aload_n hx hb d_M_word_5 rfl (lv_at hl 0 rfl) ?_
    refine dc_get_M S hK hP 0 rfl fl_M_35 rfl d_M_word_6 ?_
    refine lv_icmp_ge (tgt := 21) hx hb d_M_word_9 (by decide) (fun hc2 => ?_) (fun hc2 => ?_)
    · refine lv_iconst (v := 0) hx hb d_M_word_21 (by decide) ?_
      refine lv_goto (tgt := 31) hx hb d_M_word_22 (by decide) ?_
      exact hret _ _ _ _ _ (()) d_M_word_31 rfl (by rw [if_neg (fun q => absurd q.1.2 (Int32.not_lt.mpr hc2))]) hP hD hS
    · have hw : ¬ i < 0 ∧ i < nI K := ⟨hc, Int32.not_le.mp hc2⟩
      obtain ⟨j, hj, rfl⟩ : ∃ j : Nat, j < K ∧ i = nI j := by
        rcases pk_ix i (n := K) (by omega) with q | q | q
        · exact absurd q hw.1
        · exact absurd hw.2 (Int32.not_lt.mpr q)
        · exact q
      refine lv_aload_n hx hb d_M_word_12 rfl (lv_at hl 0 rfl) ?_
      refine dc_get_M S hK hP 0 rfl fl_M_22 rfl d_M_word_13 ?_
      refine lv_iload_n hx hb d_M_word_16 rfl (lv_at hl 1 rfl) ?_
      refine dc_zld S hK hP 5 rfl (j := j) (rfl) (by omega) d_M_word_17 ?_
      refine dc_nrm (y := b2 (bt h j)) (Mk.1 j hj) ?_
      refine lv_if_ne (tgt := 25) hx hb d_M_word_18 (by decide) (fun hc3 => ?_) (fun hc3 => ?_)
      · have q := b2_ne0 hc3
        refine lv_aload_n hx hb d_M_word_25 rfl (lv_at hl 0 rfl) ?_
        refine dc_get_M S hK hP 0 rfl fl_M_26 rfl d_M_word_26 ?_
        refine lv_iload_n hx hb d_M_word_29 rfl (lv_at hl 1 rfl) ?_
        refine dc_ild S hK hP 6 rfl (j := j) (rfl) (by omega) d_M_word_30 ?_
        refine dc_nrm (y := t j) (Mk.2 j q) ?_
        exact hret _ _ _ _ _ (()) d_M_word_31 rfl (by rw [nI_clamp (by omega), if_pos ⟨hw, q⟩]) hP hD hS
      · have q := b2_eq0 hc3
        refine lv_iconst (v := 0) hx hb d_M_word_21 (by decide) ?_
        refine lv_goto (tgt := 31) hx hb d_M_word_22 (by decide) ?_
        exact hret _ _ _ _ _ (()) d_M_word_31 rfl (by rw [nI_clamp (by omega), if_neg (fun z => by rw [q] at z; exact absurd z.2 (by decide))]) hP hD hS
set_option maxHeartbeats 4000000 in
set_option maxRecDepth 100000 in
theorem c_M_order (l : Launch) (D : va_G) (cI cZ : ClassId) (am : Nat → Nat) (wd ca tu cl st : Int32) (row se va wa kn to od inn : Nat → Int32) (i : Int32) (cn : Nat) (hcn : cn ≤ 32) : CtI l y_M_order b_M_order 2 .int 0 D [(cI, .int), (cZ, .boolean)] [.ref (am 0), .int i] (Mw cI cZ am (wd, ca, tu, nI cn, cl, st, row, se, va, wa, kn, to, od, inn)) (fun r (u : Unit) => r = if ¬ i < 0 ∧ i < nI cn then od i.toNatClampNeg else -1) (fun u => Mw cI cZ am (wd, ca, tu, nI cn, cl, st, row, se, va, wa, kn, to, od, inn)) := by
  refine CtI.of (by decide) (Nat.le_of_ble_eq_true rfl) ?_
  intro p e s m args below meth c A Q S hK hP hD hA hS hret ls hl
  have S : CallFix p m c b_M_order 2 s args gw_tbl R_M := S
  have hx := S.1
  have hb := S.2.1
  have hl : lv_has ls 2 [(0, .ref (am 0)), (1, .int i)] := hl
  refine lv_iload_n hx hb d_M_order_0 rfl (lv_at hl 1 rfl) ?_
  refine lv_if_lt (tgt := 12) hx hb d_M_order_1 (by decide) (fun hc => ?_) (fun hc => ?_)
  · refine lv_iconst (v := (-1)) hx hb d_M_order_12 (by decide) ?_
    refine lv_goto (tgt := 22) hx hb d_M_order_13 (by decide) ?_
    exact hret _ _ _ _ _ (()) d_M_order_22 rfl (by rw [if_neg (fun q => q.1 hc)]) hP hD hS
  · refine lv_iload_n hx hb d_M_order_4 rfl (lv_at hl 1 rfl) ?_
    refine lv_aload_n hx hb d_M_order_5 rfl (lv_at hl 0 rfl) ?_
    refine dc_get_M S hK hP 0 rfl fl_M_62 rfl d_M_order_6 ?_
    refine lv_icmp_lt (tgt := 16) hx hb d_M_order_9 (by decide) (fun hc2 => ?_) (fun hc2 => ?_)
    · have hw : ¬ i < 0 ∧ i < nI cn := ⟨hc, hc2⟩
      obtain ⟨j, hj, rfl⟩ : ∃ j : Nat, j < cn ∧ i = nI j := by
        rcases pk_ix i (n := cn) (by omega) with q | q | q
        · exact absurd q hw.1
        · exact absurd hw.2 (Int32.not_lt.mpr q)
        · exact q
      refine lv_aload_n hx hb d_M_order_16 rfl (lv_at hl 0 rfl) ?_
      refine dc_get_M S hK hP 0 rfl fl_M_29 rfl d_M_order_17 ?_
      refine lv_iload_n hx hb d_M_order_20 rfl (lv_at hl 1 rfl) ?_
      refine dc_ild S hK hP 7 rfl (j := j) (rfl) (by omega) d_M_order_21 ?_
      exact hret _ _ _ _ _ (()) d_M_order_22 rfl (by rw [if_pos hw, nI_clamp (by omega)]) hP hD hS
    · refine lv_iconst (v := (-1)) hx hb d_M_order_12 (by decide) ?_
      refine lv_goto (tgt := 22) hx hb d_M_order_13 (by decide) ?_
      exact hret _ _ _ _ _ (()) d_M_order_22 rfl (by rw [if_neg (fun q => hc2 q.2)]) hP hD hS
set_option maxHeartbeats 4000000 in
set_option maxRecDepth 100000 in
theorem c_M_open (l : Launch) (D : va_G) (cI cZ : ClassId) (am : Nat → Nat) (tu fo cl st : Int32) (row se va wa kn to od inn : Nat → Int32) (i : Int32) (n : Nat) (h : Int32) (t : Nat → Int32) (K : Nat) (h0 : 0 < K) (hK32 : K ≤ 32) (hn60 : n ≤ 60) (Mk : m_Kn K h t kn to) : CtI l y_M_open b_M_open 2 .int 3 D [(cI, .int), (cZ, .boolean)] [.ref (am 0), .int i] (Mw cI cZ am (nI K, nI n, tu, fo, cl, st, row, se, va, wa, kn, to, od, inn)) (fun r (u : (Nat → Int32) × Int32) => r = if ¬ i < 0 ∧ i < nI n then nI (pb_pop (pb_left (lc_sm K (se i.toNatClampNeg)) h)) else -1) (fun u => Mw cI cZ am (nI K, nI n, tu, fo, cl, u.2, row, se, va, wa, kn, to, od, u.1)) := by
  refine CtI.of (by decide) (Nat.le_of_ble_eq_true rfl) ?_
  intro p e s m args below meth c A Q S hK hP hD hA hS hret ls hl
  have S : CallFix p m c b_M_open 2 s args gw_tbl R_M := S
  have hx := S.1
  have hb := S.2.1
  have hl : lv_has ls 2 [(0, .ref (am 0)), (1, .int i)] := hl
  refine lv_iload_n hx hb d_M_open_0 rfl (lv_at hl 1 rfl) ?_
  refine lv_if_lt (tgt := 12) hx hb d_M_open_1 (by decide) (fun hc => ?_) (fun hc => ?_)
  · refine lv_iconst (v := (-1)) hx hb d_M_open_12 (by decide) ?_
    refine lv_goto (tgt := 21) hx hb d_M_open_13 (by decide) ?_
    exact hret _ _ _ _ _ (inn, st) d_M_open_21 rfl (by rw [if_neg (fun q => q.1 hc)]) hP hD hS
  · refine lv_iload_n hx hb d_M_open_4 rfl (lv_at hl 1 rfl) ?_
    refine lv_aload_n hx hb d_M_open_5 rfl (lv_at hl 0 rfl) ?_
    refine dc_get_M S hK hP 0 rfl fl_M_56 rfl d_M_open_6 ?_
    refine lv_icmp_lt (tgt := 16) hx hb d_M_open_9 (by decide) (fun hc2 => ?_) (fun hc2 => ?_)
    · have hw : ¬ i < 0 ∧ i < nI n := ⟨hc, hc2⟩
      obtain ⟨j, hj, rfl⟩ : ∃ j : Nat, j < n ∧ i = nI j := by
        rcases pk_ix i (n := n) (by omega) with q | q | q
        · exact absurd q hw.1
        · exact absurd hw.2 (Int32.not_lt.mpr q)
        · exact q
      refine lv_aload_n hx hb d_M_open_16 rfl (lv_at hl 0 rfl) ?_
      refine lv_iload_n hx hb d_M_open_17 rfl (lv_at hl 1 rfl) ?_
      refine dc_callI S ok_M_isOpen ml_M_65 (c_M_isOpen l D cI cZ am (nI n) tu fo cl st row se va wa kn to od inn j h t K h0 hK32 (by omega) Mk) (As := [.int (nI j)]) (rest := []) (wr := []) ⟨Nat.le_of_ble_eq_true rfl, Nat.le_of_ble_eq_true rfl⟩ ⟨Nat.le_of_ble_eq_true rfl, Nat.le_of_ble_eq_true rfl⟩ hK hP hD hS hA [0, 1, 2, 3, 4, 5, 6, 7, 8] [] rfl rfl (by decide) (by decide) (by decide) rfl rfl rfl hl rfl (Nat.le_of_ble_eq_true rfl) d_M_open_18 (fun ro uo H locs hro hP hD hS => ?_)
      obtain ⟨in1, st1⟩ := uo
      obtain ⟨hro1, hin1⟩ := hro
      have hP : va_P D classes (Mw cI cZ am (nI K, nI n, tu, fo, cl, st1, row, se, va, wa, kn, to, od, in1)) H := hP
      have hD : va_D A (Mw cI cZ am (nI K, nI n, tu, fo, cl, st1, row, se, va, wa, kn, to, od, in1)) := hD
      exact hret _ _ _ _ _ (in1, st1) d_M_open_21 rfl (by rw [if_pos hw, nI_clamp (by omega)]; exact hro1) hP hD hS
    · refine lv_iconst (v := (-1)) hx hb d_M_open_12 (by decide) ?_
      refine lv_goto (tgt := 21) hx hb d_M_open_13 (by decide) ?_
      exact hret _ _ _ _ _ (inn, st) d_M_open_21 rfl (by rw [if_neg (fun q => hc2 q.2)]) hP hD hS
set_option maxHeartbeats 4000000 in
set_option maxRecDepth 100000 in
theorem c_M_drops (l : Launch) (D : va_G) (cI cZ : ClassId) (am : Nat → Nat) (wd ca tu fo cl st : Int32) (row se va wa kn to od inn : Nat → Int32) : CtI l y_M_drops b_M_drops 1 .int 0 D [(cI, .int), (cZ, .boolean)] [.ref (am 0)] (Mw cI cZ am (wd, ca, tu, fo, cl, st, row, se, va, wa, kn, to, od, inn)) (fun r (u : Unit) => r = ca) (fun u => Mw cI cZ am (wd, ca, tu, fo, cl, st, row, se, va, wa, kn, to, od, inn)) := by
  refine CtI.of (by decide) (Nat.le_of_ble_eq_true rfl) ?_
  intro p e s m args below meth c A Q S hK hP hD hA hS hret ls hl
  have S : CallFix p m c b_M_drops 1 s args gw_tbl R_M := S
  have hx := S.1
  have hb := S.2.1
  have hl : lv_has ls 1 [(0, .ref (am 0))] := hl
  refine lv_aload_n hx hb d_M_drops_0 rfl (lv_at hl 0 rfl) ?_
  refine dc_get_M S hK hP 0 rfl fl_M_56 rfl d_M_drops_1 ?_
  exact hret _ _ _ _ _ (()) d_M_drops_4 rfl (rfl) hP hD hS
set_option maxHeartbeats 4000000 in
set_option maxRecDepth 100000 in
theorem c_M_count (l : Launch) (D : va_G) (cI cZ : ClassId) (am : Nat → Nat) (wd ca tu fo cl st : Int32) (row se va wa kn to od inn : Nat → Int32) : CtI l y_M_count b_M_count 1 .int 0 D [(cI, .int), (cZ, .boolean)] [.ref (am 0)] (Mw cI cZ am (wd, ca, tu, fo, cl, st, row, se, va, wa, kn, to, od, inn)) (fun r (u : Unit) => r = fo) (fun u => Mw cI cZ am (wd, ca, tu, fo, cl, st, row, se, va, wa, kn, to, od, inn)) := by
  refine CtI.of (by decide) (Nat.le_of_ble_eq_true rfl) ?_
  intro p e s m args below meth c A Q S hK hP hD hA hS hret ls hl
  have S : CallFix p m c b_M_count 1 s args gw_tbl R_M := S
  have hx := S.1
  have hb := S.2.1
  have hl : lv_has ls 1 [(0, .ref (am 0))] := hl
  refine lv_aload_n hx hb d_M_count_0 rfl (lv_at hl 0 rfl) ?_
  refine dc_get_M S hK hP 0 rfl fl_M_62 rfl d_M_count_1 ?_
  exact hret _ _ _ _ _ (()) d_M_count_4 rfl (rfl) hP hD hS
set_option maxHeartbeats 4000000 in
set_option maxRecDepth 100000 in
theorem c_M_clashes (l : Launch) (D : va_G) (cI cZ : ClassId) (am : Nat → Nat) (wd ca tu fo cl st : Int32) (row se va wa kn to od inn : Nat → Int32) : CtI l y_M_clashes b_M_clashes 1 .int 0 D [(cI, .int), (cZ, .boolean)] [.ref (am 0)] (Mw cI cZ am (wd, ca, tu, fo, cl, st, row, se, va, wa, kn, to, od, inn)) (fun r (u : Unit) => r = cl) (fun u => Mw cI cZ am (wd, ca, tu, fo, cl, st, row, se, va, wa, kn, to, od, inn)) := by
  refine CtI.of (by decide) (Nat.le_of_ble_eq_true rfl) ?_
  intro p e s m args below meth c A Q S hK hP hD hA hS hret ls hl
  have S : CallFix p m c b_M_clashes 1 s args gw_tbl R_M := S
  have hx := S.1
  have hb := S.2.1
  have hl : lv_has ls 1 [(0, .ref (am 0))] := hl
  refine lv_aload_n hx hb d_M_clashes_0 rfl (lv_at hl 0 rfl) ?_
  refine dc_get_M S hK hP 0 rfl fl_M_72 rfl d_M_clashes_1 ?_
  exact hret _ _ _ _ _ (()) d_M_clashes_4 rfl (rfl) hP hD hS
set_option maxHeartbeats 4000000 in
set_option maxRecDepth 100000 in
theorem c_M_forget (l : Launch) (D : va_G) (cI cZ : ClassId) (am : Nat → Nat) (ca tu fo cl st : Int32) (row se va wa kn to od inn : Nat → Int32) (K : Nat) (h0 : 0 < K) (hK32 : K ≤ 32) : CtI l y_M_forget b_M_forget 3 .int 0 D [(cI, .int), (cZ, .boolean)] [.ref (am 0)] (Mw cI cZ am (nI K, ca, tu, fo, cl, st, row, se, va, wa, kn, to, od, inn)) (fun r (u : Nat → Int32) => r = ca ∧ ∀ i, i < K → u i = 0) (fun u => Mw cI cZ am (nI K, 0, tu, 0, 0, st, row, se, va, wa, u, to, od, inn)) := by
  refine CtI.of (by decide) (Nat.le_of_ble_eq_true rfl) ?_
  intro p e s m args below meth c A Q S hK hP hD hA hS hret ls hl
  have S : CallFix p m c b_M_forget 3 s args gw_tbl R_M := S
  have hx := S.1
  have hb := S.2.1
  have hl : lv_has ls 3 [(0, .ref (am 0))] := hl
  refine lv_aload_n hx hb d_M_forget_0 rfl (lv_at hl 0 rfl) ?_
  refine dc_get_M S hK hP 0 rfl fl_M_56 rfl d_M_forget_1 ?_
  refine lv_istore_n (lv' := [(1, .int ca), (0, .ref (am 0))]) hx hb d_M_forget_4 rfl hl (by decide) rfl (fun ls hl => ?_)
  refine lv_aload_n hx hb d_M_forget_5 rfl (lv_at hl 1 rfl) ?_
  refine lv_iconst (v := 0) hx hb d_M_forget_6 (by decide) ?_
  refine dc_put_M S hK hP hD hS 0 rfl fl_M_56 (Nat.le_of_ble_eq_true rfl) d_M_forget_7 (fun H locs (hP : va_P D classes (Mw cI cZ am (nI K, 0, tu, fo, cl, st, row, se, va, wa, kn, to, od, inn)) H) (hD : va_D A (Mw cI cZ am (nI K, 0, tu, fo, cl, st, row, se, va, wa, kn, to, od, inn))) hS => ?_)
  refine lv_aload_n hx hb d_M_forget_10 rfl (lv_at hl 1 rfl) ?_
  refine lv_iconst (v := 0) hx hb d_M_forget_11 (by decide) ?_
  refine dc_put_M S hK hP hD hS 0 rfl fl_M_62 (Nat.le_of_ble_eq_true rfl) d_M_forget_12 (fun H locs (hP : va_P D classes (Mw cI cZ am (nI K, 0, tu, 0, cl, st, row, se, va, wa, kn, to, od, inn)) H) (hD : va_D A (Mw cI cZ am (nI K, 0, tu, 0, cl, st, row, se, va, wa, kn, to, od, inn))) hS => ?_)
  refine lv_aload_n hx hb d_M_forget_15 rfl (lv_at hl 1 rfl) ?_
  refine lv_iconst (v := 0) hx hb d_M_forget_16 (by decide) ?_
  refine dc_put_M S hK hP hD hS 0 rfl fl_M_72 (Nat.le_of_ble_eq_true rfl) d_M_forget_17 (fun H locs (hP : va_P D classes (Mw cI cZ am (nI K, 0, tu, 0, 0, st, row, se, va, wa, kn, to, od, inn)) H) (hD : va_D A (Mw cI cZ am (nI K, 0, tu, 0, 0, st, row, se, va, wa, kn, to, od, inn))) hS => ?_)
  refine lv_iconst (v := 0) hx hb d_M_forget_20 (by decide) ?_
  refine lv_istore_n (lv' := [(2, .int 0), (1, .int ca), (0, .ref (am 0))]) hx hb d_M_forget_21 rfl hl (by decide) rfl (fun ls hl => ?_)
  have loop : ∀ (f j : Nat), K < j + f → j ≤ K → ∀ kn : Nat → Int32, (∀ i, i < j → kn i = 0) → ∀ (H : Heap) (locs : List Loc) (ls : Array Slot), va_P D classes (Mw cI cZ am (nI K, 0, tu, 0, 0, st, row, se, va, wa, kn, to, od, inn)) H → va_D A (Mw cI cZ am (nI K, 0, tu, 0, 0, st, row, se, va, wa, kn, to, od, inn)) → va_S A s.heap H locs → lv_has ls 3 [(2, .int (nI j)), (1, .int ca), (0, .ref (am 0))] → W p l e (rmD 0 0 0) s m args below meth c H locs 0 0 Q (F0 m 22 ls []) := by
    intro f
    induction f with
    | zero => intro j h1 h2; exact absurd h1 (by omega)
    | succ f ih =>
      intro j hf hj kn hkn H locs ls hP hD hS hl
      refine lv_iload_n hx hb d_M_forget_22 rfl (lv_at hl 0 rfl) ?_
      refine lv_aload_n hx hb d_M_forget_23 rfl (lv_at hl 2 rfl) ?_
      refine dc_get_M S hK hP 0 rfl fl_M_35 rfl d_M_forget_24 ?_
      refine lv_icmp_ge (tgt := 43) hx hb d_M_forget_27 (by decide) (fun hc => ?_) (fun hc => ?_)
      · have e2 : j = K := Nat.le_antisymm hj (zi_le hc)
        subst e2
        refine lv_iload_n hx hb d_M_forget_43 rfl (lv_at hl 1 rfl) ?_
        exact hret _ _ _ _ _ (kn) d_M_forget_44 rfl (⟨rfl, hkn⟩) hP hD hS
      · have e1 := zi_nle hc
        refine lv_aload_n hx hb d_M_forget_30 rfl (lv_at hl 2 rfl) ?_
        refine dc_get_M S hK hP 0 rfl fl_M_22 rfl d_M_forget_31 ?_
        refine lv_iload_n hx hb d_M_forget_34 rfl (lv_at hl 0 rfl) ?_
        refine lv_iconst (v := 0) hx hb d_M_forget_35 (by decide) ?_
        refine dc_zst S hK hP hD hS 5 rfl (j := j) (rfl) (by omega) rfl d_M_forget_36 (fun H locs (hP : va_P D classes (Mw cI cZ am (nI K, 0, tu, 0, 0, st, row, se, va, wa, upd kn j 0, to, od, inn)) H) (hD : va_D A (Mw cI cZ am (nI K, 0, tu, 0, 0, st, row, se, va, wa, upd kn j 0, to, od, inn))) hS => ?_)
        refine lv_iinc (v := nI (j + 1)) (lv' := [(2, .int (nI (j + 1))), (1, .int ca), (0, .ref (am 0))]) hx hb d_M_forget_37 hl (k := 0) rfl (nI_1 _) (by decide) rfl (fun ls hl => ?_)
        refine lv_goto (tgt := 22) hx hb d_M_forget_40 (by decide) ?_
        refine ih (j + 1) (by omega) e1 _ (fun i hi => ?_) _ _ ls hP hD hS hl
        by_cases e : i = j
        · rw [e, pk_us]
        · rw [pk_un e]; exact hkn i (by omega)
  exact loop (K + 1) 0 (by omega) (by omega) kn (fun i hi => absurd hi (Nat.not_lt_zero i)) _ _ ls hP hD hS hl
end
section
set_option maxHeartbeats 4000000 in
set_option maxRecDepth 100000 in
/-- a word becomes known -/
theorem c_M_learn (l : Launch) (D : va_G) (cI cZ : ClassId) (am : Nat → Nat) (cl st : Int32) (row se va wa kn to inn : Nat → Int32) (K : Nat) (h0 : 0 < K) (hK32 : K ≤ 32) (n T0 : Nat) (Sm : Nat → Int32) (h : Int32) (t o : Nat → Int32) (cn : Nat) (qf : Nat → Nat) (hd tl : Nat) (x r : Int32) (wx : Nat) (hn60 : n ≤ 60) (hT : T0 + 60 < 2 ^ 30) (hSm : ∀ m, Sm m = lc_sm K (se m)) (Mk : m_Kn K h t kn to) (I : ab_Inv K n Sm h cn qf hd tl) (ht : hd < tl) (hxe : pb_left (Sm (qf hd)) h = x) (hx1 : ∀ j, bt x j = decide (j = wx)) (hwK : wx < K) (hcw : bt (Sm (qf hd)) wx = true) (hnw : bt h wx = false) (hre : r = ab_rest (Sm (qf hd)) h (va (qf hd)) t) (Mw0 : m_W T0 n qf (hd + 1) tl wa) : CtV l y_M_learn b_M_learn 7 3 0 0 D [(cI, .int), (cZ, .boolean)] [.ref (am 0), .int (nI (qf hd))] (Mw cI cZ am (nI K, nI n, nI (T0 + tl), nI cn, cl, st, row, se, va, wa, kn, to, o, inn)) (fun (u : (Nat → Int32) × (Nat → Int32) × Int32) => m_W T0 n (ab_pq (ab_P Sm wx (h ||| x)) qf tl n).1 (hd + 1) (ab_pq (ab_P Sm wx (h ||| x)) qf tl n).2 u.1) (fun u => Mw cI cZ am (nI K, nI n, nI (T0 + (ab_pq (ab_P Sm wx (h ||| x)) qf tl n).2), nI (cn + 1), cl, u.2.2, row, se, va, u.1, upd kn wx 1, upd to wx r, upd o cn (nI wx), u.2.1)) := by
  refine CtV.of (by decide) (Nat.le_of_ble_eq_true rfl) ?_
  intro p e s m args below meth c A Q hin S hK hP hD hA hS hret ls hl
  have S : CallFix p m c b_M_learn 7 s args gw_tbl R_M := S
  have hx := S.1
  have hb := S.2.1
  have hl : lv_has ls 7 [(0, .ref (am 0)), (1, .int (nI (qf hd)))] := hl
  obtain ⟨hcur, hpop⟩ := I.2.2.2.1 hd ht
  have htl := I.tl
  obtain ⟨ol, orr⟩ := ab_own (v := va (qf hd)) (t := t) hx1 (by omega) hnw hcw hxe
  rw [← hre] at orr
  have hcn : cn < K := by rw [I.2.1]; exact ab_cn_lt hx1 hwK hK32 hnw I.1
  refine lv_aload_n hx hb d_M_learn_0 rfl (lv_at hl 0 rfl) ?_
  refine lv_iload_n hx hb d_M_learn_1 rfl (lv_at hl 1 rfl) ?_
  refine dc_callI S ok_M_off ml_M_59 (c_M_off l D cI cZ am (nI n) (nI (T0 + tl)) (nI cn) cl st row se va wa kn to o inn (qf hd) h t K h0 hK32 (by omega) Mk) (As := [.int (nI (qf hd))]) (rest := []) (wr := []) ⟨Nat.le_of_ble_eq_true rfl, Nat.le_of_ble_eq_true rfl⟩ ⟨Nat.le_of_ble_eq_true rfl, Nat.le_of_ble_eq_true rfl⟩ hK hP hD hS hA [0, 1, 2, 3, 4, 5, 6, 7, 8] [] rfl rfl (by decide) (by decide) (by decide) rfl rfl rfl hl rfl (Nat.le_of_ble_eq_true rfl) d_M_learn_2 (fun ro u1 H locs hro hP hD hS => ?_)
  obtain ⟨in1, st1⟩ := u1
  obtain ⟨hro, hin1⟩ := hro
  dsimp only at hin1
  have hP : va_P D classes (Mw cI cZ am (nI K, nI n, nI (T0 + tl), nI cn, cl, st1, row, se, va, wa, kn, to, o, in1)) H := hP
  have hD : va_D A (Mw cI cZ am (nI K, nI n, nI (T0 + tl), nI cn, cl, st1, row, se, va, wa, kn, to, o, in1)) := hD
  have er : ro = r := by rw [hro, ← hSm, ← hre]
  subst er
  refine lv_istore_n (lv' := [(2, .int ro), (0, .ref (am 0)), (1, .int (nI (qf hd)))]) hx hb d_M_learn_5 rfl hl (by decide) rfl (fun ls hl => ?_)
  refine lv_aload_n hx hb d_M_learn_6 rfl (lv_at hl 1 rfl) ?_
  refine lv_aload_n hx hb d_M_learn_7 rfl (lv_at hl 1 rfl) ?_
  refine dc_get_M S hK hP 0 rfl fl_M_13 rfl d_M_learn_8 ?_
  refine lv_iload_n hx hb d_M_learn_11 rfl (lv_at hl 2 rfl) ?_
  refine dc_ild S hK hP 2 rfl (j := qf hd) (rfl) (by omega) d_M_learn_12 ?_
  refine dc_callI S ok_M_draw ml_M_49 (c_M_draw l D cI cZ am (nI n) (nI (T0 + tl)) (nI cn) cl st1 row se va wa kn to o in1 (se (qf hd)) K h0 hK32) (As := [.int (se (qf hd))]) (rest := []) (wr := []) ⟨Nat.le_of_ble_eq_true rfl, Nat.le_of_ble_eq_true rfl⟩ ⟨Nat.le_of_ble_eq_true rfl, Nat.le_of_ble_eq_true rfl⟩ hK hP hD hS hA [0, 1, 2, 3, 4, 5, 6, 7, 8] [] rfl rfl (by decide) (by decide) (by decide) rfl rfl rfl hl rfl (Nat.le_of_ble_eq_true rfl) d_M_learn_13 (fun rd u2 H locs hrd hP hD hS => ?_)
  obtain ⟨in2, st2⟩ := u2
  obtain ⟨hrd1, hin2⟩ := hrd
  dsimp only at hin2
  rw [← hSm] at hin2
  have hP : va_P D classes (Mw cI cZ am (nI K, nI n, nI (T0 + tl), nI cn, cl, st2, row, se, va, wa, kn, to, o, in2)) H := hP
  have hD : va_D A (Mw cI cZ am (nI K, nI n, nI (T0 + tl), nI cn, cl, st2, row, se, va, wa, kn, to, o, in2)) := hD
  refine lv_istore_n (lv' := [(3, .int rd), (2, .int ro), (0, .ref (am 0)), (1, .int (nI (qf hd)))]) hx hb d_M_learn_16 rfl hl (by decide) rfl (fun ls hl => ?_)
  refine lv_iconst (v := 0) hx hb d_M_learn_17 (by decide) ?_
  refine lv_istore (lv' := [(4, .int 0), (3, .int rd), (2, .int ro), (0, .ref (am 0)), (1, .int (nI (qf hd)))]) hx hb d_M_learn_18 hl (by decide) rfl (fun ls hl => ?_)
  have exit : ∀ ls : Array Slot, lv_has ls 7 [(4, .int (nI wx)), (3, .int rd), (2, .int ro), (0, .ref (am 0)), (1, .int (nI (qf hd)))] → W p l e (rmD 3 0 0) s m args below meth c H locs 0 0 Q (F0 m 46 ls []) := by
    intro ls hl
    refine lv_aload_n hx hb d_M_learn_46 rfl (lv_at hl 3 rfl) ?_
    refine dc_get_M S hK hP 0 rfl fl_M_22 rfl d_M_learn_47 ?_
    refine lv_iload hx hb d_M_learn_50 (lv_at hl 0 rfl) ?_
    refine lv_iconst (v := 1) hx hb d_M_learn_52 (by decide) ?_
    refine dc_zst S hK hP hD hS 5 rfl (j := wx) (rfl) (by omega) rfl d_M_learn_53 (fun H locs (hP : va_P D classes (Mw cI cZ am (nI K, nI n, nI (T0 + tl), nI cn, cl, st2, row, se, va, wa, upd kn wx 1, to, o, in2)) H) (hD : va_D A (Mw cI cZ am (nI K, nI n, nI (T0 + tl), nI cn, cl, st2, row, se, va, wa, upd kn wx 1, to, o, in2))) hS => ?_)
    refine lv_aload_n hx hb d_M_learn_54 rfl (lv_at hl 3 rfl) ?_
    refine dc_get_M S hK hP 0 rfl fl_M_26 rfl d_M_learn_55 ?_
    refine lv_iload hx hb d_M_learn_58 (lv_at hl 0 rfl) ?_
    refine lv_iload_n hx hb d_M_learn_60 rfl (lv_at hl 2 rfl) ?_
    refine dc_ist S hK hP hD hS 6 rfl (j := wx) (rfl) (by omega) d_M_learn_61 (fun H locs (hP : va_P D classes (Mw cI cZ am (nI K, nI n, nI (T0 + tl), nI cn, cl, st2, row, se, va, wa, upd kn wx 1, upd to wx ro, o, in2)) H) (hD : va_D A (Mw cI cZ am (nI K, nI n, nI (T0 + tl), nI cn, cl, st2, row, se, va, wa, upd kn wx 1, upd to wx ro, o, in2))) hS => ?_)
    refine lv_aload_n hx hb d_M_learn_62 rfl (lv_at hl 3 rfl) ?_
    refine dc_get_M S hK hP 0 rfl fl_M_29 rfl d_M_learn_63 ?_
    refine lv_aload_n hx hb d_M_learn_66 rfl (lv_at hl 3 rfl) ?_
    refine dc_get_M S hK hP 0 rfl fl_M_62 rfl d_M_learn_67 ?_
    refine lv_iload hx hb d_M_learn_70 (lv_at hl 0 rfl) ?_
    refine dc_ist S hK hP hD hS 7 rfl (j := cn) (rfl) (by omega) d_M_learn_72 (fun H locs (hP : va_P D classes (Mw cI cZ am (nI K, nI n, nI (T0 + tl), nI cn, cl, st2, row, se, va, wa, upd kn wx 1, upd to wx ro, upd o cn (nI wx), in2)) H) (hD : va_D A (Mw cI cZ am (nI K, nI n, nI (T0 + tl), nI cn, cl, st2, row, se, va, wa, upd kn wx 1, upd to wx ro, upd o cn (nI wx), in2))) hS => ?_)
    refine lv_aload_n hx hb d_M_learn_73 rfl (lv_at hl 3 rfl) ?_
    refine lv_dup hx hb d_M_learn_74 rfl ?_
    refine dc_get_M S hK hP 0 rfl fl_M_62 rfl d_M_learn_75 ?_
    refine lv_iconst (v := 1) hx hb d_M_learn_78 (by decide) ?_
    refine lv_iadd hx hb d_M_learn_79 ?_
    refine dc_nrm (y := nI (cn + 1)) (nI_1 _) ?_
    refine dc_put_M S hK hP hD hS 0 rfl fl_M_62 (Nat.le_of_ble_eq_true rfl) d_M_learn_80 (fun H locs (hP : va_P D classes (Mw cI cZ am (nI K, nI n, nI (T0 + tl), (nI (cn + 1)), cl, st2, row, se, va, wa, upd kn wx 1, upd to wx ro, upd o cn (nI wx), in2)) H) (hD : va_D A (Mw cI cZ am (nI K, nI n, nI (T0 + tl), (nI (cn + 1)), cl, st2, row, se, va, wa, upd kn wx 1, upd to wx ro, upd o cn (nI wx), in2))) hS => ?_)
    refine lv_iconst (v := 0) hx hb d_M_learn_83 (by decide) ?_
    refine lv_istore (lv' := [(5, .int 0), (4, .int (nI wx)), (3, .int rd), (2, .int ro), (0, .ref (am 0)), (1, .int (nI (qf hd)))]) hx hb d_M_learn_84 hl (by decide) rfl (fun ls hl => ?_)
    have Mk1 : m_Kn K (h ||| x) (upd t wx ro) (upd kn wx 1) (upd to wx ro) := Mk.learn hx1
    have loop : ∀ (f j : Nat), n < j + f → j ≤ n → ∀ (wa inn : Nat → Int32) (st : Int32), m_W T0 n (ab_pq (ab_P Sm wx (h ||| x)) qf tl j).1 (hd + 1) (ab_pq (ab_P Sm wx (h ||| x)) qf tl j).2 wa → ∀ (H : Heap) (locs : List Loc) (ls : Array Slot), va_P D classes (Mw cI cZ am (nI K, nI n, nI (T0 + (ab_pq (ab_P Sm wx (h ||| x)) qf tl j).2), (nI (cn + 1)), cl, st, row, se, va, wa, upd kn wx 1, upd to wx ro, upd o cn (nI wx), inn)) H → va_D A (Mw cI cZ am (nI K, nI n, nI (T0 + (ab_pq (ab_P Sm wx (h ||| x)) qf tl j).2), (nI (cn + 1)), cl, st, row, se, va, wa, upd kn wx 1, upd to wx ro, upd o cn (nI wx), inn)) → va_S A s.heap H locs → lv_has ls 7 [(5, .int (nI j)), (4, .int (nI wx)), (3, .int rd), (2, .int ro), (0, .ref (am 0)), (1, .int (nI (qf hd)))] → W p l e (rmD 3 0 0) s m args below meth c H locs 0 0 Q (F0 m 86 ls []) := by
      intro f
      induction f with
      | zero => intro j h1 h2; exact absurd h1 (by omega)
      | succ f ih =>
        intro j hf hj wa inn st M1 H locs ls hP hD hS hl
        have hst := I.stage hx1 (by omega) hnw hj
        have hsp := (ab_pq_spec (P := ab_P Sm wx (h ||| x)) I.2.2.2.2.1 (I.fresh hx1 (by omega) hnw) j).1
        refine lv_iload hx hb d_M_learn_86 (lv_at hl 0 rfl) ?_
        refine lv_aload_n hx hb d_M_learn_88 rfl (lv_at hl 4 rfl) ?_
        refine dc_get_M S hK hP 0 rfl fl_M_56 rfl d_M_learn_89 ?_
        refine lv_icmp_ge (tgt := 178) hx hb d_M_learn_92 (by decide) (fun hc => ?_) (fun hc => ?_)
        · have e2 : j = n := Nat.le_antisymm hj (zi_le hc)
          subst e2
          exact hret _ _ _ _ (wa, inn, st) d_M_learn_178 (M1) hP hD hS
        · have hlt := zi_nle hc
          refine lv_aload_n hx hb d_M_learn_95 rfl (lv_at hl 4 rfl) ?_
          refine lv_iload hx hb d_M_learn_96 (lv_at hl 0 rfl) ?_
          refine dc_callI S ok_M_isOpen ml_M_65 (c_M_isOpen l D cI cZ am (nI n) (nI (T0 + (ab_pq (ab_P Sm wx (h ||| x)) qf tl j).2)) (nI (cn + 1)) cl st row se va wa (upd kn wx 1) (upd to wx ro) (upd o cn (nI wx)) inn j (h ||| x) (upd t wx ro) K h0 hK32 (by omega) Mk1) (As := [.int (nI j)]) (rest := []) (wr := []) ⟨Nat.le_of_ble_eq_true rfl, Nat.le_of_ble_eq_true rfl⟩ ⟨Nat.le_of_ble_eq_true rfl, Nat.le_of_ble_eq_true rfl⟩ hK hP hD hS hA [0, 1, 2, 3, 4, 5, 6, 7, 8] [] rfl rfl (by decide) (by decide) (by decide) rfl rfl rfl hl rfl (Nat.le_of_ble_eq_true rfl) d_M_learn_98 (fun rp u3 H locs hrp hP hD hS => ?_)
          obtain ⟨in3, st3⟩ := u3
          obtain ⟨hrp, hin3⟩ := hrp
          dsimp only at hin3
          have hP : va_P D classes (Mw cI cZ am (nI K, nI n, nI (T0 + (ab_pq (ab_P Sm wx (h ||| x)) qf tl j).2), (nI (cn + 1)), cl, st3, row, se, va, wa, upd kn wx 1, upd to wx ro, upd o cn (nI wx), in3)) H := hP
          have hD : va_D A (Mw cI cZ am (nI K, nI n, nI (T0 + (ab_pq (ab_P Sm wx (h ||| x)) qf tl j).2), (nI (cn + 1)), cl, st3, row, se, va, wa, upd kn wx 1, upd to wx ro, upd o cn (nI wx), in3)) := hD
          rw [← hSm] at hrp hin3
          subst hrp
          have hpl := pb_pop_le (pb_left (Sm j) (h ||| x))
          refine lv_istore (lv' := [(6, .int (nI (pb_pop (pb_left (Sm j) (h ||| x))))), (5, .int (nI j)), (4, .int (nI wx)), (3, .int rd), (2, .int ro), (0, .ref (am 0)), (1, .int (nI (qf hd)))]) hx hb d_M_learn_101 hl (by decide) rfl (fun ls hl => ?_)
          refine lv_aload_n hx hb d_M_learn_103 rfl (lv_at hl 5 rfl) ?_
          refine dc_get_M S hK hP 0 rfl fl_M_32 rfl d_M_learn_104 ?_
          refine lv_iload hx hb d_M_learn_107 (lv_at hl 2 rfl) ?_
          refine dc_zld S hK hP 8 rfl (j := wx) (rfl) (by omega) d_M_learn_109 ?_
          refine dc_nrm (y := b2 (bt (Sm j) wx)) (hin3 wx hwK) ?_
          refine lv_if_eq (tgt := 128) hx hb d_M_learn_110 (by decide) (fun hc2 => ?_) (fun hc2 => ?_)
          · have hbit := b2_eq0 hc2
            have hP0 : ¬ ab_P Sm wx (h ||| x) j = true := by
              unfold ab_P
              rw [hbit, Bool.false_and]
              decide
            refine lv_aload_n hx hb d_M_learn_128 rfl (lv_at hl 5 rfl) ?_
            refine dc_get_M S hK hP 0 rfl fl_M_32 rfl d_M_learn_129 ?_
            refine lv_iload hx hb d_M_learn_132 (lv_at hl 2 rfl) ?_
            refine dc_zld S hK hP 8 rfl (j := wx) (rfl) (by omega) d_M_learn_134 ?_
            refine dc_nrm (y := b2 (bt (Sm j) wx)) (hin3 wx hwK) ?_
            refine lv_if_eq (tgt := 172) hx hb d_M_learn_135 (by decide) (fun hcx => ?_) (fun hcx => ?_)
            · refine lv_iinc (v := nI (j + 1)) (lv' := [(5, .int (nI (j + 1))), (6, .int (nI (pb_pop (pb_left (Sm j) (h ||| x))))), (4, .int (nI wx)), (3, .int rd), (2, .int ro), (0, .ref (am 0)), (1, .int (nI (qf hd)))]) hx hb d_M_learn_172 hl (k := 1) rfl (nI_1 _) (by decide) rfl (fun ls hl => ?_)
              refine lv_goto (tgt := 86) hx hb d_M_learn_175 (by decide) ?_
              have e2 := ab_pq_f (qf := qf) (tl := tl) hP0
              exact ih (j + 1) (by omega) hlt _ _ _ (by rw [e2]; exact M1) _ _ ls (by rw [e2]; exact hP) (by rw [e2]; exact hD) hS (lv_sub hl [0, 2, 3, 4, 5, 6] rfl)
            · rw [hbit] at hcx
              exact absurd rfl hcx
          · have hbit := b2_ne0 hc2
            refine lv_iload hx hb d_M_learn_113 (lv_at hl 0 rfl) ?_
            refine lv_iconst (v := 1) hx hb d_M_learn_115 (by decide) ?_
            refine lv_icmp_ne (tgt := 128) hx hb d_M_learn_116 (by decide) (fun hc3 => ?_) (fun hc3 => ?_)
            · have hne1 : pb_pop (pb_left (Sm j) (h ||| x)) ≠ 1 := zi_ne (b := 1) hc3
              have hP0 : ¬ ab_P Sm wx (h ||| x) j = true := by
                unfold ab_P
                rw [Bool.and_eq_true, decide_eq_true_eq]
                exact fun q => hne1 q.2
              refine lv_aload_n hx hb d_M_learn_128 rfl (lv_at hl 5 rfl) ?_
              refine dc_get_M S hK hP 0 rfl fl_M_32 rfl d_M_learn_129 ?_
              refine lv_iload hx hb d_M_learn_132 (lv_at hl 2 rfl) ?_
              refine dc_zld S hK hP 8 rfl (j := wx) (rfl) (by omega) d_M_learn_134 ?_
              refine dc_nrm (y := b2 (bt (Sm j) wx)) (hin3 wx hwK) ?_
              refine lv_if_eq (tgt := 172) hx hb d_M_learn_135 (by decide) (fun hcx => ?_) (fun hcx => ?_)
              · rw [hbit] at hcx
                exact absurd hcx (by decide)
              · refine lv_iload hx hb d_M_learn_138 (lv_at hl 0 rfl) ?_
                refine lv_if_ne (tgt := 172) hx hb d_M_learn_140 (by decide) (fun hc4 => ?_) (fun hc4 => ?_)
                · refine lv_iinc (v := nI (j + 1)) (lv' := [(5, .int (nI (j + 1))), (6, .int (nI (pb_pop (pb_left (Sm j) (h ||| x))))), (4, .int (nI wx)), (3, .int rd), (2, .int ro), (0, .ref (am 0)), (1, .int (nI (qf hd)))]) hx hb d_M_learn_172 hl (k := 1) rfl (nI_1 _) (by decide) rfl (fun ls hl => ?_)
                  refine lv_goto (tgt := 86) hx hb d_M_learn_175 (by decide) ?_
                  have e2 := ab_pq_f (qf := qf) (tl := tl) hP0
                  exact ih (j + 1) (by omega) hlt _ _ _ (by rw [e2]; exact M1) _ _ ls (by rw [e2]; exact hP) (by rw [e2]; exact hD) hS (lv_sub hl [0, 2, 3, 4, 5, 6] rfl)
                · have hz : pb_pop (pb_left (Sm j) (h ||| x)) = 0 := zi_eq (b := 0) hc4
                  refine lv_aload_n hx hb d_M_learn_143 rfl (lv_at hl 5 rfl) ?_
                  refine dc_get_M S hK hP 0 rfl fl_M_19 rfl d_M_learn_144 ?_
                  refine lv_iload hx hb d_M_learn_147 (lv_at hl 1 rfl) ?_
                  refine dc_ild S hK hP 4 rfl (j := j) (rfl) (by omega) d_M_learn_149 ?_
                  refine lv_if_ne (tgt := 172) hx hb d_M_learn_150 (by decide) (fun hc5 => ?_) (fun hc5 => ?_)
                  · refine lv_iinc (v := nI (j + 1)) (lv' := [(5, .int (nI (j + 1))), (6, .int (nI (pb_pop (pb_left (Sm j) (h ||| x))))), (4, .int (nI wx)), (3, .int rd), (2, .int ro), (0, .ref (am 0)), (1, .int (nI (qf hd)))]) hx hb d_M_learn_172 hl (k := 1) rfl (nI_1 _) (by decide) rfl (fun ls hl => ?_)
                    refine lv_goto (tgt := 86) hx hb d_M_learn_175 (by decide) ?_
                    have e2 := ab_pq_f (qf := qf) (tl := tl) hP0
                    exact ih (j + 1) (by omega) hlt _ _ _ (by rw [e2]; exact M1) _ _ ls (by rw [e2]; exact hP) (by rw [e2]; exact hD) hS (lv_sub hl [0, 2, 3, 4, 5, 6] rfl)
                  · have ecur := m_st_cur I ht hx1 (by omega) hnw (by omega) M1 hlt hbit hz hc5
                    refine lv_aload_n hx hb d_M_learn_153 rfl (lv_at hl 5 rfl) ?_
                    refine lv_iload hx hb d_M_learn_154 (lv_at hl 1 rfl) ?_
                    refine dc_callI S ok_M_off ml_M_59 (c_M_off l D cI cZ am (nI n) (nI (T0 + (ab_pq (ab_P Sm wx (h ||| x)) qf tl j).2)) (nI (cn + 1)) cl st3 row se va wa (upd kn wx 1) (upd to wx ro) (upd o cn (nI wx)) in3 j (h ||| x) (upd t wx ro) K h0 hK32 (by omega) Mk1) (As := [.int (nI j)]) (rest := []) (wr := []) ⟨Nat.le_of_ble_eq_true rfl, Nat.le_of_ble_eq_true rfl⟩ ⟨Nat.le_of_ble_eq_true rfl, Nat.le_of_ble_eq_true rfl⟩ hK hP hD hS hA [0, 1, 2, 3, 4, 5, 6, 7, 8] [] rfl rfl (by decide) (by decide) (by decide) rfl rfl rfl hl rfl (Nat.le_of_ble_eq_true rfl) d_M_learn_156 (fun rq u4 H locs hrq hP hD hS => ?_)
                    obtain ⟨in4, st4⟩ := u4
                    obtain ⟨hrq, hin4⟩ := hrq
                    dsimp only at hin4
                    have hP : va_P D classes (Mw cI cZ am (nI K, nI n, nI (T0 + (ab_pq (ab_P Sm wx (h ||| x)) qf tl j).2), (nI (cn + 1)), cl, st4, row, se, va, wa, upd kn wx 1, upd to wx ro, upd o cn (nI wx), in4)) H := hP
                    have hD : va_D A (Mw cI cZ am (nI K, nI n, nI (T0 + (ab_pq (ab_P Sm wx (h ||| x)) qf tl j).2), (nI (cn + 1)), cl, st4, row, se, va, wa, upd kn wx 1, upd to wx ro, upd o cn (nI wx), in4)) := hD
                    rw [← hSm, ecur, orr] at hrq
                    subst hrq
                    refine lv_if_eq (tgt := 172) hx hb d_M_learn_159 (by decide) (fun hc6 => ?_) (fun hc6 => ?_)
                    · refine lv_iinc (v := nI (j + 1)) (lv' := [(5, .int (nI (j + 1))), (6, .int (nI (pb_pop (pb_left (Sm j) (h ||| x))))), (4, .int (nI wx)), (3, .int rd), (2, .int ro), (0, .ref (am 0)), (1, .int (nI (qf hd)))]) hx hb d_M_learn_172 hl (k := 1) rfl (nI_1 _) (by decide) rfl (fun ls hl => ?_)
                      refine lv_goto (tgt := 86) hx hb d_M_learn_175 (by decide) ?_
                      have e2 := ab_pq_f (qf := qf) (tl := tl) hP0
                      exact ih (j + 1) (by omega) hlt _ _ _ (by rw [e2]; exact M1) _ _ ls (by rw [e2]; exact hP) (by rw [e2]; exact hD) hS (lv_sub hl [0, 2, 3, 4, 5, 6] rfl)
                    · exact absurd rfl hc6
            · have hone : pb_pop (pb_left (Sm j) (h ||| x)) = 1 := zi_eq (b := 1) hc3
              have hP0 : ab_P Sm wx (h ||| x) j = true := by
                unfold ab_P
                rw [hbit, hone]
                rfl
              have e2 := ab_pq_t (qf := qf) (tl := tl) hP0
              refine lv_aload_n hx hb d_M_learn_119 rfl (lv_at hl 5 rfl) ?_
              refine lv_iload hx hb d_M_learn_120 (lv_at hl 1 rfl) ?_
              refine dc_callV S ok_M_await ml_M_68 (c_M_await l D cI cZ am (nI K) (nI n) (nI (cn + 1)) cl st3 row se va wa (upd kn wx 1) (upd to wx ro) (upd o cn (nI wx)) in3 (T0 + (ab_pq (ab_P Sm wx (h ||| x)) qf tl j).2) j (by omega)) (As := [.int (nI j)]) (rest := []) (wr := []) ⟨Nat.le_of_ble_eq_true rfl, Nat.le_of_ble_eq_true rfl⟩ ⟨Nat.le_of_ble_eq_true rfl, Nat.le_of_ble_eq_true rfl⟩ hK hP hD hS hA [0, 1, 2, 3, 4, 5, 6, 7, 8] [] rfl rfl (by decide) (by decide) (by decide) rfl rfl rfl hl rfl (Nat.le_of_ble_eq_true rfl) d_M_learn_122 (fun ua H locs hua hP hD hS => ?_)
              have hP : va_P D classes (Mw cI cZ am (nI K, nI n, nI (T0 + (ab_pq (ab_P Sm wx (h ||| x)) qf tl j).2 + 1), (nI (cn + 1)), cl, st3, row, se, va, upd wa j (nI (T0 + (ab_pq (ab_P Sm wx (h ||| x)) qf tl j).2 + 1)), upd kn wx 1, upd to wx ro, upd o cn (nI wx), in3)) H := hP
              have hD : va_D A (Mw cI cZ am (nI K, nI n, nI (T0 + (ab_pq (ab_P Sm wx (h ||| x)) qf tl j).2 + 1), (nI (cn + 1)), cl, st3, row, se, va, upd wa j (nI (T0 + (ab_pq (ab_P Sm wx (h ||| x)) qf tl j).2 + 1)), upd kn wx 1, upd to wx ro, upd o cn (nI wx), in3)) := hD
              have M2 : m_W T0 n (ab_pq (ab_P Sm wx (h ||| x)) qf tl (j + 1)).1 (hd + 1) (ab_pq (ab_P Sm wx (h ||| x)) qf tl (j + 1)).2 (upd wa j (nI (T0 + (ab_pq (ab_P Sm wx (h ||| x)) qf tl j).2 + 1))) := by
                rw [e2]
                exact M1.push (by omega) (fun p _ g => m_st_fresh I hx1 (by omega) hnw hP0 p g)
              refine lv_goto (tgt := 172) hx hb d_M_learn_125 (by decide) ?_
              refine lv_iinc (v := nI (j + 1)) (lv' := [(5, .int (nI (j + 1))), (6, .int (nI (pb_pop (pb_left (Sm j) (h ||| x))))), (4, .int (nI wx)), (3, .int rd), (2, .int ro), (0, .ref (am 0)), (1, .int (nI (qf hd)))]) hx hb d_M_learn_172 hl (k := 1) rfl (nI_1 _) (by decide) rfl (fun ls hl => ?_)
              refine lv_goto (tgt := 86) hx hb d_M_learn_175 (by decide) ?_
              exact ih (j + 1) (by omega) hlt _ _ _ M2 _ _ ls (by rw [e2]; exact hP) (by rw [e2]; exact hD) hS (lv_sub hl [0, 2, 3, 4, 5, 6] rfl)
    exact loop (n + 1) 0 (by omega) (by omega) _ _ _ Mw0 _ _ ls hP hD hS hl
  have loop0 : ∀ (f i : Nat), wx < i + f → i ≤ wx → ∀ ls : Array Slot, lv_has ls 7 [(4, .int (nI i)), (3, .int rd), (2, .int ro), (0, .ref (am 0)), (1, .int (nI (qf hd)))] → W p l e (rmD 3 0 0) s m args below meth c H locs 0 0 Q (F0 m 20 ls []) := by
    intro f
    induction f with
    | zero => intro i h1 h2; exact absurd h1 (by omega)
    | succ f ih =>
      intro i hf hi ls hl
      refine lv_aload_n hx hb d_M_learn_20 rfl (lv_at hl 3 rfl) ?_
      refine dc_get_M S hK hP 0 rfl fl_M_32 rfl d_M_learn_21 ?_
      refine lv_iload hx hb d_M_learn_24 (lv_at hl 0 rfl) ?_
      refine dc_zld S hK hP 8 rfl (j := i) (rfl) (by omega) d_M_learn_26 ?_
      refine dc_nrm (y := b2 (bt (Sm (qf hd)) i)) (hin2 i (by omega)) ?_
      refine lv_if_eq (tgt := 40) hx hb d_M_learn_27 (by decide) (fun hc => ?_) (fun hc => ?_)
      · have q := b2_eq0 hc
        have hne : i ≠ wx := fun e => by rw [e, hcw] at q; cases q
        refine lv_iinc (v := nI (i + 1)) (lv' := [(4, .int (nI (i + 1))), (3, .int rd), (2, .int ro), (0, .ref (am 0)), (1, .int (nI (qf hd)))]) hx hb d_M_learn_40 hl (k := 0) rfl (nI_1 _) (by decide) rfl (fun ls hl => ?_)
        refine lv_goto (tgt := 20) hx hb d_M_learn_43 (by decide) ?_
        exact ih (i + 1) (by omega) (by omega) ls hl
      · have q := b2_ne0 hc
        refine lv_aload_n hx hb d_M_learn_30 rfl (lv_at hl 3 rfl) ?_
        refine dc_get_M S hK hP 0 rfl fl_M_22 rfl d_M_learn_31 ?_
        refine lv_iload hx hb d_M_learn_34 (lv_at hl 0 rfl) ?_
        refine dc_zld S hK hP 5 rfl (j := i) (rfl) (by omega) d_M_learn_36 ?_
        refine dc_nrm (y := b2 (bt h i)) (Mk.1 i (by omega)) ?_
        refine lv_if_eq (tgt := 46) hx hb d_M_learn_37 (by decide) (fun hc2 => ?_) (fun hc2 => ?_)
        · have q2 := b2_eq0 hc2
          have e : i = wx := by
            have h1 := hx1 i
            rw [← hxe, pb_left_bt, q, q2] at h1
            exact of_decide_eq_true h1.symm
          subst e
          exact exit ls hl
        · have q2 := b2_ne0 hc2
          have hne : i ≠ wx := fun e => by rw [e, hnw] at q2; cases q2
          refine lv_iinc (v := nI (i + 1)) (lv' := [(4, .int (nI (i + 1))), (3, .int rd), (2, .int ro), (0, .ref (am 0)), (1, .int (nI (qf hd)))]) hx hb d_M_learn_40 hl (k := 0) rfl (nI_1 _) (by decide) rfl (fun ls hl => ?_)
          refine lv_goto (tgt := 20) hx hb d_M_learn_43 (by decide) ?_
          exact ih (i + 1) (by omega) (by omega) ls hl
  exact loop0 (wx + 1) 0 (by omega) (by omega) ls hl
end
section
set_option maxHeartbeats 4000000 in
set_option maxRecDepth 100000 in
/-- a drop comes -/
theorem c_M_receive (l : Launch) (D : va_G) (cI cZ : ClassId) (am : Nat → Nat) (cl st : Int32) (row se va wa kn to inn : Nat → Int32) (K : Nat) (h0 : 0 < K) (hK32 : K ≤ 32) (n T0 : Nat) (Sm : Nat → Int32) (h : Int32) (t o : Nat → Int32) (cn : Nat) (seed word : Int32) (hn60 : n < 60) (hT : T0 + 60 < 2 ^ 30) (hSm : ∀ m, Sm m = lc_sm K (se m)) (R0 : ab_Rest K n Sm h cn) (Mk : m_Kn K h t kn to) (hwa : ∀ m, m < n → wa m = 0) : CtI l y_M_receive b_M_receive 6 .int 4 D [(cI, .int), (cZ, .boolean)] [.ref (am 0), .int seed, .int word] (Mw cI cZ am (nI K, nI n, nI T0, nI cn, cl, st, row, se, va, wa, kn, to, o, inn)) (fun r (u : ab_S × Nat × Int32 × (Nat → Int32) × (Nat → Int32) × (Nat → Int32) × (Nat → Int32)) => u.1 = ab_run (n + 1) (upd Sm n (lc_sm K seed)) (upd va n word) 61 (ab_start n (upd Sm n (lc_sm K seed)) (upd va n word) h t o cn cl) ∧ r = nI (a_cn u.1) ∧ u.2.1 ≤ T0 + 60 ∧ m_Kn K (a_h u.1) (a_t u.1) u.2.2.2.2.1 u.2.2.2.2.2.1 ∧ ∀ m, m < n + 1 → u.2.2.2.1 m = 0) (fun u => Mw cI cZ am (nI K, nI (n + 1), nI u.2.1, nI (a_cn u.1), a_cl u.1, u.2.2.1, row, upd se n seed, upd va n word, u.2.2.2.1, u.2.2.2.2.1, u.2.2.2.2.2.1, a_o u.1, u.2.2.2.2.2.2)) := by
  refine CtI.of (by decide) (Nat.le_of_ble_eq_true rfl) ?_
  intro p e s m args below meth c A Q S hK hP hD hA hS hret ls hl
  have S : CallFix p m c b_M_receive 6 s args gw_tbl R_M := S
  have hx := S.1
  have hb := S.2.1
  have hl : lv_has ls 6 [(0, .ref (am 0)), (1, .int seed), (2, .int word)] := hl
  refine lv_aload_n hx hb d_M_receive_0 rfl (lv_at hl 0 rfl) ?_
  refine dc_get_M S hK hP 0 rfl fl_M_56 rfl d_M_receive_1 ?_
  refine lv_bipush (v := 60) hx hb d_M_receive_4 (by decide) ?_
  refine lv_icmp_ne (tgt := 12) hx hb d_M_receive_6 (by decide) (fun hc => ?_) (fun hc => ?_)
  · have hSm1 : ∀ m, (upd Sm n (lc_sm K seed)) m = lc_sm K ((upd se n seed) m) := by
      intro m
      by_cases e : m = n
      · rw [e, pk_us, pk_us]
      · rw [pk_un e, pk_un e]; exact hSm m
    have hSK1 : ∀ m, m < n + 1 → ∀ i, bt ((upd Sm n (lc_sm K seed)) m) i = true → i < K := fun m _ i hi => by rw [hSm1] at hi; exact lc_sm_in h0 hK32 _ hi
    have hI0 := ab_Inv.start (V := va) (S := (upd Sm n (lc_sm K seed))) (n := n) R0.1 R0.2.1 (fun m hm => by rw [pk_un (Nat.ne_of_lt hm)]; exact R0.2.2 m hm)
    refine lv_aload_n hx hb d_M_receive_12 rfl (lv_at hl 0 rfl) ?_
    refine dc_get_M S hK hP 0 rfl fl_M_56 rfl d_M_receive_13 ?_
    refine lv_istore_n (lv' := [(3, .int (nI n)), (0, .ref (am 0)), (1, .int seed), (2, .int word)]) hx hb d_M_receive_16 rfl hl (by decide) rfl (fun ls hl => ?_)
    refine lv_aload_n hx hb d_M_receive_17 rfl (lv_at hl 1 rfl) ?_
    refine lv_dup hx hb d_M_receive_18 rfl ?_
    refine dc_get_M S hK hP 0 rfl fl_M_56 rfl d_M_receive_19 ?_
    refine lv_iconst (v := 1) hx hb d_M_receive_22 (by decide) ?_
    refine lv_iadd hx hb d_M_receive_23 ?_
    refine dc_nrm (y := nI (n + 1)) (nI_1 _) ?_
    refine dc_put_M S hK hP hD hS 0 rfl fl_M_56 (Nat.le_of_ble_eq_true rfl) d_M_receive_24 (fun H locs (hP : va_P D classes (Mw cI cZ am (nI K, (nI (n + 1)), nI T0, nI cn, cl, st, row, se, va, wa, kn, to, o, inn)) H) (hD : va_D A (Mw cI cZ am (nI K, (nI (n + 1)), nI T0, nI cn, cl, st, row, se, va, wa, kn, to, o, inn))) hS => ?_)
    refine lv_aload_n hx hb d_M_receive_27 rfl (lv_at hl 1 rfl) ?_
    refine dc_get_M S hK hP 0 rfl fl_M_13 rfl d_M_receive_28 ?_
    refine lv_iload_n hx hb d_M_receive_31 rfl (lv_at hl 0 rfl) ?_
    refine lv_iload_n hx hb d_M_receive_32 rfl (lv_at hl 2 rfl) ?_
    refine dc_ist S hK hP hD hS 2 rfl (j := n) (rfl) (by omega) d_M_receive_33 (fun H locs (hP : va_P D classes (Mw cI cZ am (nI K, (nI (n + 1)), nI T0, nI cn, cl, st, row, upd se n seed, va, wa, kn, to, o, inn)) H) (hD : va_D A (Mw cI cZ am (nI K, (nI (n + 1)), nI T0, nI cn, cl, st, row, upd se n seed, va, wa, kn, to, o, inn))) hS => ?_)
    refine lv_aload_n hx hb d_M_receive_34 rfl (lv_at hl 1 rfl) ?_
    refine dc_get_M S hK hP 0 rfl fl_M_16 rfl d_M_receive_35 ?_
    refine lv_iload_n hx hb d_M_receive_38 rfl (lv_at hl 0 rfl) ?_
    refine lv_iload_n hx hb d_M_receive_39 rfl (lv_at hl 3 rfl) ?_
    refine dc_ist S hK hP hD hS 3 rfl (j := n) (rfl) (by omega) d_M_receive_40 (fun H locs (hP : va_P D classes (Mw cI cZ am (nI K, (nI (n + 1)), nI T0, nI cn, cl, st, row, upd se n seed, upd va n word, wa, kn, to, o, inn)) H) (hD : va_D A (Mw cI cZ am (nI K, (nI (n + 1)), nI T0, nI cn, cl, st, row, upd se n seed, upd va n word, wa, kn, to, o, inn))) hS => ?_)
    refine lv_aload_n hx hb d_M_receive_41 rfl (lv_at hl 1 rfl) ?_
    refine dc_get_M S hK hP 0 rfl fl_M_19 rfl d_M_receive_42 ?_
    refine lv_iload_n hx hb d_M_receive_45 rfl (lv_at hl 0 rfl) ?_
    refine lv_iconst (v := 0) hx hb d_M_receive_46 (by decide) ?_
    refine dc_ist S hK hP hD hS 4 rfl (j := n) (rfl) (by omega) d_M_receive_47 (fun H locs (hP : va_P D classes (Mw cI cZ am (nI K, (nI (n + 1)), nI T0, nI cn, cl, st, row, upd se n seed, upd va n word, upd wa n 0, kn, to, o, inn)) H) (hD : va_D A (Mw cI cZ am (nI K, (nI (n + 1)), nI T0, nI cn, cl, st, row, upd se n seed, upd va n word, upd wa n 0, kn, to, o, inn))) hS => ?_)
    have at92 : ∀ (x4 : Int32) (wa inn : Nat → Int32) (st : Int32), m_W T0 (n + 1) (fun _ => n) 0 (a_tl (ab_start n (upd Sm n (lc_sm K seed)) (upd va n word) h t o cn cl)) wa → ∀ (H : Heap) (locs : List Loc) (ls : Array Slot), va_P D classes (Mw cI cZ am (nI K, (nI (n + 1)), nI (T0 + a_tl (ab_start n (upd Sm n (lc_sm K seed)) (upd va n word) h t o cn cl)), nI (a_cn (ab_start n (upd Sm n (lc_sm K seed)) (upd va n word) h t o cn cl)), a_cl (ab_start n (upd Sm n (lc_sm K seed)) (upd va n word) h t o cn cl), st, row, upd se n seed, upd va n word, wa, kn, to, a_o (ab_start n (upd Sm n (lc_sm K seed)) (upd va n word) h t o cn cl), inn)) H → va_D A (Mw cI cZ am (nI K, (nI (n + 1)), nI (T0 + a_tl (ab_start n (upd Sm n (lc_sm K seed)) (upd va n word) h t o cn cl)), nI (a_cn (ab_start n (upd Sm n (lc_sm K seed)) (upd va n word) h t o cn cl)), a_cl (ab_start n (upd Sm n (lc_sm K seed)) (upd va n word) h t o cn cl), st, row, upd se n seed, upd va n word, wa, kn, to, a_o (ab_start n (upd Sm n (lc_sm K seed)) (upd va n word) h t o cn cl), inn)) → va_S A s.heap H locs → lv_has ls 6 [(4, .int x4), (3, .int (nI n)), (0, .ref (am 0)), (1, .int seed), (2, .int word)] → W p l e (rmD 4 0 0) s m args below meth c H locs 0 0 Q (F0 m 92 ls []) := by
      intro x4 wa inn st M1 H locs ls hP hD hS hl
      have htl0 := hI0.tl
      refine lv_aload_n hx hb d_M_receive_92 rfl (lv_at hl 2 rfl) ?_
      refine dc_callI S ok_M_first ml_M_75 (c_M_first l D cI cZ am (nI K) (nI (T0 + a_tl (ab_start n (upd Sm n (lc_sm K seed)) (upd va n word) h t o cn cl))) (nI (a_cn (ab_start n (upd Sm n (lc_sm K seed)) (upd va n word) h t o cn cl))) (a_cl (ab_start n (upd Sm n (lc_sm K seed)) (upd va n word) h t o cn cl)) st row (upd se n seed) (upd va n word) wa kn to (a_o (ab_start n (upd Sm n (lc_sm K seed)) (upd va n word) h t o cn cl)) inn (n + 1) T0 (fun _ => n) 0 (a_tl (ab_start n (upd Sm n (lc_sm K seed)) (upd va n word) h t o cn cl)) (by omega) (show T0 + (if pb_pop (pb_left ((upd Sm n (lc_sm K seed)) n) h) = 1 then 1 else 0) < 2 ^ 30 by omega) (fun p _ _ => Nat.lt_succ_self n) M1) (As := []) (rest := []) (wr := []) ⟨Nat.le_of_ble_eq_true rfl, Nat.le_of_ble_eq_true rfl⟩ ⟨Nat.le_of_ble_eq_true rfl, Nat.le_of_ble_eq_true rfl⟩ hK hP hD hS hA [0, 1, 2, 3, 4, 5, 6, 7, 8] [] rfl rfl (by decide) (by decide) (by decide) rfl rfl rfl hl rfl (Nat.le_of_ble_eq_true rfl) d_M_receive_93 (fun rf uf H locs hrf hP hD hS => ?_)
      have hP : va_P D classes (Mw cI cZ am (nI K, (nI (n + 1)), nI (T0 + a_tl (ab_start n (upd Sm n (lc_sm K seed)) (upd va n word) h t o cn cl)), nI (a_cn (ab_start n (upd Sm n (lc_sm K seed)) (upd va n word) h t o cn cl)), a_cl (ab_start n (upd Sm n (lc_sm K seed)) (upd va n word) h t o cn cl), st, row, upd se n seed, upd va n word, wa, kn, to, a_o (ab_start n (upd Sm n (lc_sm K seed)) (upd va n word) h t o cn cl), inn)) H := hP
      have hD : va_D A (Mw cI cZ am (nI K, (nI (n + 1)), nI (T0 + a_tl (ab_start n (upd Sm n (lc_sm K seed)) (upd va n word) h t o cn cl)), nI (a_cn (ab_start n (upd Sm n (lc_sm K seed)) (upd va n word) h t o cn cl)), a_cl (ab_start n (upd Sm n (lc_sm K seed)) (upd va n word) h t o cn cl), st, row, upd se n seed, upd va n word, wa, kn, to, a_o (ab_start n (upd Sm n (lc_sm K seed)) (upd va n word) h t o cn cl), inn)) := hD
      subst hrf
      refine lv_istore (lv' := [(5, .int (if 0 < (a_tl (ab_start n (upd Sm n (lc_sm K seed)) (upd va n word) h t o cn cl)) then nI ((fun _ => n) 0) else -1)), (4, .int x4), (3, .int (nI n)), (0, .ref (am 0)), (1, .int seed), (2, .int word)]) hx hb d_M_receive_96 hl (by decide) rfl (fun ls hl => ?_)
      have loop : ∀ (f : Nat) (a : ab_S) (wa kn to inn : Nat → Int32) (st : Int32), n + 1 < a_hd a + f → ab_Inv K (n + 1) (upd Sm n (lc_sm K seed)) (a_h a) (a_cn a) (a_qf a) (a_hd a) (a_tl a) → m_Kn K (a_h a) (a_t a) kn to → m_W T0 (n + 1) (a_qf a) (a_hd a) (a_tl a) wa → ab_run (n + 1) (upd Sm n (lc_sm K seed)) (upd va n word) f a = ab_run (n + 1) (upd Sm n (lc_sm K seed)) (upd va n word) 61 (ab_start n (upd Sm n (lc_sm K seed)) (upd va n word) h t o cn cl) → ∀ (H : Heap) (locs : List Loc) (ls : Array Slot), va_P D classes (Mw cI cZ am (nI K, (nI (n + 1)), nI (T0 + a_tl a), nI (a_cn a), a_cl a, st, row, upd se n seed, upd va n word, wa, kn, to, a_o a, inn)) H → va_D A (Mw cI cZ am (nI K, (nI (n + 1)), nI (T0 + a_tl a), nI (a_cn a), a_cl a, st, row, upd se n seed, upd va n word, wa, kn, to, a_o a, inn)) → va_S A s.heap H locs → lv_has ls 6 [(5, .int (if a_hd a < a_tl a then nI (a_qf a (a_hd a)) else -1)), (4, .int x4), (3, .int (nI n)), (0, .ref (am 0)), (1, .int seed), (2, .int word)] → W p l e (rmD 4 0 0) s m args below meth c H locs 0 0 Q (F0 m 98 ls []) := by
        intro f
        induction f with
        | zero =>
          intro a wa kn to inn st h1 I
          have g1 := I.tl
          have g2 := I.2.2.1
          exact absurd h1 (by omega)
        | succ f ih =>
          intro a wa kn to inn st hf I Mk M1 hrun H locs ls hP hD hS hl
          obtain ⟨h1, t1, o1, cn1, cl1, qf1, hd1, tl1⟩ := a
          dsimp only [a_h, a_t, a_o, a_cn, a_cl, a_qf, a_hd, a_tl] at hf I Mk M1 hrun hP hD hl
          have g1 := I.tl
          have g2 := I.2.2.1
          refine lv_iload hx hb d_M_receive_98 (lv_at hl 0 rfl) ?_
          refine lv_iconst (v := (-1)) hx hb d_M_receive_100 (by decide) ?_
          refine lv_icmp_eq (tgt := 158) hx hb d_M_receive_101 (by decide) (fun hc2 => ?_) (fun hc2 => ?_)
          · have e0 : ¬ hd1 < tl1 := by
              intro q
              rw [if_pos q] at hc2
              exact absurd hc2 (zi_m1 (by have := (I.2.2.2.1 hd1 q).1; omega))
            refine lv_aload_n hx hb d_M_receive_158 rfl (lv_at hl 3 rfl) ?_
            refine dc_get_M S hK hP 0 rfl fl_M_62 rfl d_M_receive_159 ?_
            exact hret _ _ _ _ _ ((h1, t1, o1, cn1, cl1, qf1, hd1, tl1), T0 + tl1, st, wa, kn, to, inn) d_M_receive_162 rfl (⟨by rw [← hrun, ab_run_stop _ e0], rfl, by show T0 + tl1 ≤ T0 + 60; omega, Mk, M1.empty e0⟩) hP hD hS
          · have e0 : hd1 < tl1 := by
              rcases Nat.lt_or_ge hd1 tl1 with q | q
              · exact q
              · rw [if_neg (Nat.not_lt.mpr q)] at hc2; exact absurd rfl hc2
            rw [if_pos e0] at hl
            obtain ⟨hcur, hpop⟩ := I.2.2.2.1 hd1 e0
            have at149 : ∀ (a2 : ab_S) (wa kn to inn : Nat → Int32) (st : Int32), a2 = ab_turn (n + 1) (upd Sm n (lc_sm K seed)) (upd va n word) (h1, t1, o1, cn1, cl1, qf1, hd1, tl1) → a_hd a2 = hd1 + 1 → ab_Inv K (n + 1) (upd Sm n (lc_sm K seed)) (a_h a2) (a_cn a2) (a_qf a2) (a_hd a2) (a_tl a2) → m_Kn K (a_h a2) (a_t a2) kn to → m_W T0 (n + 1) (a_qf a2) (a_hd a2) (a_tl a2) wa → ∀ (H : Heap) (locs : List Loc) (ls : Array Slot), va_P D classes (Mw cI cZ am (nI K, (nI (n + 1)), nI (T0 + a_tl a2), nI (a_cn a2), a_cl a2, st, row, upd se n seed, upd va n word, wa, kn, to, a_o a2, inn)) H → va_D A (Mw cI cZ am (nI K, (nI (n + 1)), nI (T0 + a_tl a2), nI (a_cn a2), a_cl a2, st, row, upd se n seed, upd va n word, wa, kn, to, a_o a2, inn)) → va_S A s.heap H locs → lv_has ls 6 [(5, .int (nI (qf1 hd1))), (4, .int x4), (3, .int (nI n)), (0, .ref (am 0)), (1, .int seed), (2, .int word)] → W p l e (rmD 4 0 0) s m args below meth c H locs 0 0 Q (F0 m 149 ls []) := by
              intro a2 wa kn to inn st ea2 ehd I2 Mk2 M2 H locs ls hP hD hS hl
              have g3 := I2.tl
              refine lv_aload_n hx hb d_M_receive_149 rfl (lv_at hl 3 rfl) ?_
              refine dc_callI S ok_M_first ml_M_75 (c_M_first l D cI cZ am (nI K) (nI (T0 + a_tl a2)) (nI (a_cn a2)) (a_cl a2) st row (upd se n seed) (upd va n word) wa kn to (a_o a2) inn (n + 1) T0 (a_qf a2) (a_hd a2) (a_tl a2) (by omega) (by omega) (fun p _ q => (I2.2.2.2.1 p q).1) M2) (As := []) (rest := []) (wr := []) ⟨Nat.le_of_ble_eq_true rfl, Nat.le_of_ble_eq_true rfl⟩ ⟨Nat.le_of_ble_eq_true rfl, Nat.le_of_ble_eq_true rfl⟩ hK hP hD hS hA [0, 1, 2, 3, 4, 5, 6, 7, 8] [] rfl rfl (by decide) (by decide) (by decide) rfl rfl rfl hl rfl (Nat.le_of_ble_eq_true rfl) d_M_receive_150 (fun rf uf H locs hrf hP hD hS => ?_)
              have hP : va_P D classes (Mw cI cZ am (nI K, (nI (n + 1)), nI (T0 + a_tl a2), nI (a_cn a2), a_cl a2, st, row, upd se n seed, upd va n word, wa, kn, to, a_o a2, inn)) H := hP
              have hD : va_D A (Mw cI cZ am (nI K, (nI (n + 1)), nI (T0 + a_tl a2), nI (a_cn a2), a_cl a2, st, row, upd se n seed, upd va n word, wa, kn, to, a_o a2, inn)) := hD
              subst hrf
              refine lv_istore (lv' := [(5, .int (if (a_hd a2) < (a_tl a2) then nI ((a_qf a2) (a_hd a2)) else -1)), (4, .int x4), (3, .int (nI n)), (0, .ref (am 0)), (1, .int seed), (2, .int word)]) hx hb d_M_receive_153 hl (by decide) rfl (fun ls hl => ?_)
              refine lv_goto (tgt := 98) hx hb d_M_receive_155 (by decide) ?_
              exact ih a2 wa kn to inn st (by omega) I2 Mk2 M2 (by rw [← hrun, ab_run_next _ e0, ea2]) _ _ ls hP hD hS hl
            refine lv_aload_n hx hb d_M_receive_104 rfl (lv_at hl 3 rfl) ?_
            refine dc_get_M S hK hP 0 rfl fl_M_19 rfl d_M_receive_105 ?_
            refine lv_iload hx hb d_M_receive_108 (lv_at hl 0 rfl) ?_
            refine lv_iconst (v := 0) hx hb d_M_receive_110 (by decide) ?_
            refine dc_ist S hK hP hD hS 4 rfl (j := qf1 hd1) (rfl) (by omega) d_M_receive_111 (fun H locs (hP : va_P D classes (Mw cI cZ am (nI K, (nI (n + 1)), nI (T0 + tl1), nI cn1, cl1, st, row, upd se n seed, upd va n word, upd wa (qf1 hd1) 0, kn, to, o1, inn)) H) (hD : va_D A (Mw cI cZ am (nI K, (nI (n + 1)), nI (T0 + tl1), nI cn1, cl1, st, row, upd se n seed, upd va n word, upd wa (qf1 hd1) 0, kn, to, o1, inn))) hS => ?_)
            refine lv_aload_n hx hb d_M_receive_112 rfl (lv_at hl 3 rfl) ?_
            refine lv_iload hx hb d_M_receive_113 (lv_at hl 0 rfl) ?_
            have M1 := M1.pop e0 I.2.2.2.2.1
            refine dc_callI S ok_M_isOpen ml_M_65 (c_M_isOpen l D cI cZ am (nI (n + 1)) (nI (T0 + tl1)) (nI cn1) cl1 st row (upd se n seed) (upd va n word) (upd wa (qf1 hd1) 0) kn to o1 inn (qf1 hd1) h1 t1 K h0 hK32 (by omega) Mk) (As := [.int (nI (qf1 hd1))]) (rest := []) (wr := []) ⟨Nat.le_of_ble_eq_true rfl, Nat.le_of_ble_eq_true rfl⟩ ⟨Nat.le_of_ble_eq_true rfl, Nat.le_of_ble_eq_true rfl⟩ hK hP hD hS hA [0, 1, 2, 3, 4, 5, 6, 7, 8] [] rfl rfl (by decide) (by decide) (by decide) rfl rfl rfl hl rfl (Nat.le_of_ble_eq_true rfl) d_M_receive_115 (fun rp u3 H locs hrp hP hD hS => ?_)
            obtain ⟨in3, st3⟩ := u3
            obtain ⟨hrp, hin3⟩ := hrp
            dsimp only at hin3
            have hP : va_P D classes (Mw cI cZ am (nI K, (nI (n + 1)), nI (T0 + tl1), nI cn1, cl1, st3, row, upd se n seed, upd va n word, upd wa (qf1 hd1) 0, kn, to, o1, in3)) H := hP
            have hD : va_D A (Mw cI cZ am (nI K, (nI (n + 1)), nI (T0 + tl1), nI cn1, cl1, st3, row, upd se n seed, upd va n word, upd wa (qf1 hd1) 0, kn, to, o1, in3)) := hD
            rw [← hSm1] at hrp
            subst hrp
            have hpl := pb_pop_le (pb_left ((upd Sm n (lc_sm K seed)) (qf1 hd1)) h1)
            refine lv_if_le (tgt := 130) hx hb d_M_receive_118 (by decide) (fun hc3 => ?_) (fun hc3 => ?_)
            · have ez : pb_left ((upd Sm n (lc_sm K seed)) (qf1 hd1)) h1 = 0 := pb_pop_zero.mp (by have := zi_le (b := 0) hc3; omega)
              refine lv_aload_n hx hb d_M_receive_130 rfl (lv_at hl 3 rfl) ?_
              refine lv_iload hx hb d_M_receive_131 (lv_at hl 0 rfl) ?_
              refine dc_callI S ok_M_off ml_M_59 (c_M_off l D cI cZ am (nI (n + 1)) (nI (T0 + tl1)) (nI cn1) cl1 st3 row (upd se n seed) (upd va n word) (upd wa (qf1 hd1) 0) kn to o1 in3 (qf1 hd1) h1 t1 K h0 hK32 (by omega) Mk) (As := [.int (nI (qf1 hd1))]) (rest := []) (wr := []) ⟨Nat.le_of_ble_eq_true rfl, Nat.le_of_ble_eq_true rfl⟩ ⟨Nat.le_of_ble_eq_true rfl, Nat.le_of_ble_eq_true rfl⟩ hK hP hD hS hA [0, 1, 2, 3, 4, 5, 6, 7, 8] [] rfl rfl (by decide) (by decide) (by decide) rfl rfl rfl hl rfl (Nat.le_of_ble_eq_true rfl) d_M_receive_133 (fun rq u4 H locs hrq hP hD hS => ?_)
              obtain ⟨in4, st4⟩ := u4
              obtain ⟨hrq, hin4⟩ := hrq
              dsimp only at hin4
              have hP : va_P D classes (Mw cI cZ am (nI K, (nI (n + 1)), nI (T0 + tl1), nI cn1, cl1, st4, row, upd se n seed, upd va n word, upd wa (qf1 hd1) 0, kn, to, o1, in4)) H := hP
              have hD : va_D A (Mw cI cZ am (nI K, (nI (n + 1)), nI (T0 + tl1), nI cn1, cl1, st4, row, upd se n seed, upd va n word, upd wa (qf1 hd1) 0, kn, to, o1, in4)) := hD
              rw [← hSm1] at hrq
              subst hrq
              refine lv_if_eq (tgt := 149) hx hb d_M_receive_136 (by decide) (fun hc4 => ?_) (fun hc4 => ?_)
              · exact at149 (h1, t1, o1, cn1, cl1, qf1, hd1 + 1, tl1) _ _ _ _ _ (by rw [ab_turn_skip ez, if_pos hc4]) rfl (I.skip e0 ez) Mk M1 _ _ ls hP hD hS hl
              · refine lv_aload_n hx hb d_M_receive_139 rfl (lv_at hl 3 rfl) ?_
                refine lv_dup hx hb d_M_receive_140 rfl ?_
                refine dc_get_M S hK hP 0 rfl fl_M_72 rfl d_M_receive_141 ?_
                refine lv_iconst (v := 1) hx hb d_M_receive_144 (by decide) ?_
                refine lv_iadd hx hb d_M_receive_145 ?_
                refine dc_put_M S hK hP hD hS 0 rfl fl_M_72 (Nat.le_of_ble_eq_true rfl) d_M_receive_146 (fun H locs (hP : va_P D classes (Mw cI cZ am (nI K, (nI (n + 1)), nI (T0 + tl1), nI cn1, (cl1 + 1), st4, row, upd se n seed, upd va n word, upd wa (qf1 hd1) 0, kn, to, o1, in4)) H) (hD : va_D A (Mw cI cZ am (nI K, (nI (n + 1)), nI (T0 + tl1), nI cn1, (cl1 + 1), st4, row, upd se n seed, upd va n word, upd wa (qf1 hd1) 0, kn, to, o1, in4))) hS => ?_)
                exact at149 (h1, t1, o1, cn1, cl1 + 1, qf1, hd1 + 1, tl1) _ _ _ _ _ (by rw [ab_turn_skip ez, if_neg hc4]) rfl (I.skip e0 ez) Mk M1 _ _ ls hP hD hS hl
            · have ez : ¬ pb_left ((upd Sm n (lc_sm K seed)) (qf1 hd1)) h1 = 0 := fun q => hc3 (by rw [q, pb_pop_zero.mpr rfl]; decide)
              obtain ⟨hwK, hx1, hcw, hnw⟩ := I.word hSK1 e0 ez
              refine lv_aload_n hx hb d_M_receive_121 rfl (lv_at hl 3 rfl) ?_
              refine lv_iload hx hb d_M_receive_122 (lv_at hl 0 rfl) ?_
              refine dc_callV S ok_M_learn ml_M_78 (c_M_learn l D cI cZ am cl1 st3 row (upd se n seed) (upd va n word) (upd wa (qf1 hd1) 0) kn to in3 K h0 hK32 (n + 1) T0 (upd Sm n (lc_sm K seed)) h1 t1 o1 cn1 qf1 hd1 tl1 _ _ _ (by omega) hT hSm1 Mk I e0 rfl hx1 hwK hcw hnw rfl M1) (As := [.int (nI (qf1 hd1))]) (rest := []) (wr := []) ⟨Nat.le_of_ble_eq_true rfl, Nat.le_of_ble_eq_true rfl⟩ ⟨Nat.le_of_ble_eq_true rfl, Nat.le_of_ble_eq_true rfl⟩ hK hP hD hS hA [0, 1, 2, 3, 4, 5, 6, 7, 8] [] rfl rfl (by decide) (by decide) (by decide) rfl rfl rfl hl rfl (Nat.le_of_ble_eq_true rfl) d_M_receive_124 (fun ul H locs hul hP hD hS => ?_)
              obtain ⟨wa5, in5, st5⟩ := ul
              dsimp only at hul
              refine lv_goto (tgt := 149) hx hb d_M_receive_127 (by decide) ?_
              exact at149 _ _ _ _ _ _ (ab_turn_learn ez).symm rfl (I.learn e0 hx1 hwK hK32 hnw hcw) (Mk.learn hx1) hul _ _ ls hP hD hS hl
      exact loop 61 (ab_start n (upd Sm n (lc_sm K seed)) (upd va n word) h t o cn cl) wa kn to inn st (show n + 1 < 0 + 61 by omega) hI0 Mk M1 rfl _ _ ls hP hD hS hl
    refine lv_aload_n hx hb d_M_receive_48 rfl (lv_at hl 1 rfl) ?_
    refine lv_iload_n hx hb d_M_receive_49 rfl (lv_at hl 0 rfl) ?_
    refine dc_callI S ok_M_isOpen ml_M_65 (c_M_isOpen l D cI cZ am (nI (n + 1)) (nI T0) (nI cn) cl st row (upd se n seed) (upd va n word) (upd wa n 0) kn to o inn n h t K h0 hK32 hn60 Mk) (As := [.int (nI n)]) (rest := []) (wr := []) ⟨Nat.le_of_ble_eq_true rfl, Nat.le_of_ble_eq_true rfl⟩ ⟨Nat.le_of_ble_eq_true rfl, Nat.le_of_ble_eq_true rfl⟩ hK hP hD hS hA [0, 1, 2, 3, 4, 5, 6, 7, 8] [] rfl rfl (by decide) (by decide) (by decide) rfl rfl rfl hl rfl (Nat.le_of_ble_eq_true rfl) d_M_receive_50 (fun rp u3 H locs hrp hP hD hS => ?_)
    obtain ⟨in3, st3⟩ := u3
    obtain ⟨hrp, hin3⟩ := hrp
    dsimp only at hin3
    have hP : va_P D classes (Mw cI cZ am (nI K, (nI (n + 1)), nI T0, nI cn, cl, st3, row, upd se n seed, upd va n word, upd wa n 0, kn, to, o, in3)) H := hP
    have hD : va_D A (Mw cI cZ am (nI K, (nI (n + 1)), nI T0, nI cn, cl, st3, row, upd se n seed, upd va n word, upd wa n 0, kn, to, o, in3)) := hD
    rw [pk_us] at hrp hin3
    subst hrp
    have hpl := pb_pop_le (pb_left (lc_sm K seed) h)
    have hM0 : ∀ m, m < n + 1 → upd wa n 0 m = 0 := by
      intro m hm
      by_cases e : m = n
      · rw [e, pk_us]
      · rw [pk_un e]; exact hwa m (by omega)
    refine lv_istore (lv' := [(4, .int (nI (pb_pop (pb_left (lc_sm K seed) h)))), (3, .int (nI n)), (0, .ref (am 0)), (1, .int seed), (2, .int word)]) hx hb d_M_receive_53 hl (by decide) rfl (fun ls hl => ?_)
    refine lv_iload hx hb d_M_receive_55 (lv_at hl 0 rfl) ?_
    refine lv_iconst (v := 1) hx hb d_M_receive_57 (by decide) ?_
    refine lv_icmp_ne (tgt := 69) hx hb d_M_receive_58 (by decide) (fun hc2 => ?_) (fun hc2 => ?_)
    · have hne1 : pb_pop (pb_left (lc_sm K seed) h) ≠ 1 := zi_ne (b := 1) hc2
      have Mz : m_W T0 (n + 1) (fun _ => n) 0 0 (upd wa n 0) := ⟨fun p _ q => absurd q (Nat.not_lt_zero p), fun m hm _ => hM0 m hm⟩
      refine lv_iload hx hb d_M_receive_69 (lv_at hl 0 rfl) ?_
      refine lv_if_ne (tgt := 92) hx hb d_M_receive_71 (by decide) (fun hc3 => ?_) (fun hc3 => ?_)
      · have hne0 : pb_pop (pb_left (lc_sm K seed) h) ≠ 0 := zi_ne (b := 0) hc3
        have ea : (ab_start n (upd Sm n (lc_sm K seed)) (upd va n word) h t o cn cl) = (h, t, o, cn, cl, fun _ => n, 0, 0) := by unfold ab_start; rw [pk_us, pk_us, if_neg (fun q => hne0 q.1), if_neg hne1]
        exact at92 _ _ _ _ (by rw [ea]; exact Mz) _ _ ls (by rw [ea]; exact hP) (by rw [ea]; exact hD) hS (lv_sub hl [0, 1, 2, 3, 4] rfl)
      · have hz : pb_pop (pb_left (lc_sm K seed) h) = 0 := zi_eq (b := 0) hc3
        refine lv_aload_n hx hb d_M_receive_74 rfl (lv_at hl 2 rfl) ?_
        refine lv_iload_n hx hb d_M_receive_75 rfl (lv_at hl 1 rfl) ?_
        refine dc_callI S ok_M_off ml_M_59 (c_M_off l D cI cZ am (nI (n + 1)) (nI T0) (nI cn) cl st3 row (upd se n seed) (upd va n word) (upd wa n 0) kn to o in3 n h t K h0 hK32 hn60 Mk) (As := [.int (nI n)]) (rest := []) (wr := []) ⟨Nat.le_of_ble_eq_true rfl, Nat.le_of_ble_eq_true rfl⟩ ⟨Nat.le_of_ble_eq_true rfl, Nat.le_of_ble_eq_true rfl⟩ hK hP hD hS hA [0, 1, 2, 3, 4, 5, 6, 7, 8] [] rfl rfl (by decide) (by decide) (by decide) rfl rfl rfl hl rfl (Nat.le_of_ble_eq_true rfl) d_M_receive_76 (fun rq u4 H locs hrq hP hD hS => ?_)
        obtain ⟨in4, st4⟩ := u4
        obtain ⟨hrq, hin4⟩ := hrq
        dsimp only at hin4
        have hP : va_P D classes (Mw cI cZ am (nI K, (nI (n + 1)), nI T0, nI cn, cl, st4, row, upd se n seed, upd va n word, upd wa n 0, kn, to, o, in4)) H := hP
        have hD : va_D A (Mw cI cZ am (nI K, (nI (n + 1)), nI T0, nI cn, cl, st4, row, upd se n seed, upd va n word, upd wa n 0, kn, to, o, in4)) := hD
        rw [pk_us, pk_us] at hrq
        subst hrq
        refine lv_if_eq (tgt := 92) hx hb d_M_receive_79 (by decide) (fun hc4 => ?_) (fun hc4 => ?_)
        · have ea : (ab_start n (upd Sm n (lc_sm K seed)) (upd va n word) h t o cn cl) = (h, t, o, cn, cl, fun _ => n, 0, 0) := by unfold ab_start; rw [pk_us, pk_us, if_neg (fun q => q.2 hc4), if_neg hne1]
          exact at92 _ _ _ _ (by rw [ea]; exact Mz) _ _ ls (by rw [ea]; exact hP) (by rw [ea]; exact hD) hS (lv_sub hl [0, 1, 2, 3, 4] rfl)
        · refine lv_aload_n hx hb d_M_receive_82 rfl (lv_at hl 2 rfl) ?_
          refine lv_dup hx hb d_M_receive_83 rfl ?_
          refine dc_get_M S hK hP 0 rfl fl_M_72 rfl d_M_receive_84 ?_
          refine lv_iconst (v := 1) hx hb d_M_receive_87 (by decide) ?_
          refine lv_iadd hx hb d_M_receive_88 ?_
          refine dc_put_M S hK hP hD hS 0 rfl fl_M_72 (Nat.le_of_ble_eq_true rfl) d_M_receive_89 (fun H locs (hP : va_P D classes (Mw cI cZ am (nI K, (nI (n + 1)), nI T0, nI cn, (cl + 1), st4, row, upd se n seed, upd va n word, upd wa n 0, kn, to, o, in4)) H) (hD : va_D A (Mw cI cZ am (nI K, (nI (n + 1)), nI T0, nI cn, (cl + 1), st4, row, upd se n seed, upd va n word, upd wa n 0, kn, to, o, in4))) hS => ?_)
          have ea : (ab_start n (upd Sm n (lc_sm K seed)) (upd va n word) h t o cn cl) = (h, t, o, cn, cl + 1, fun _ => n, 0, 0) := by unfold ab_start; rw [pk_us, pk_us, if_pos ⟨hz, hc4⟩, if_neg hne1]
          exact at92 _ _ _ _ (by rw [ea]; exact Mz) _ _ ls (by rw [ea]; exact hP) (by rw [ea]; exact hD) hS (lv_sub hl [0, 1, 2, 3, 4] rfl)
    · have hone : pb_pop (pb_left (lc_sm K seed) h) = 1 := zi_eq (b := 1) hc2
      refine lv_aload_n hx hb d_M_receive_61 rfl (lv_at hl 2 rfl) ?_
      refine lv_iload_n hx hb d_M_receive_62 rfl (lv_at hl 1 rfl) ?_
      refine dc_callV S ok_M_await ml_M_68 (c_M_await l D cI cZ am (nI K) (nI (n + 1)) (nI cn) cl st3 row (upd se n seed) (upd va n word) (upd wa n 0) kn to o in3 T0 n hn60) (As := [.int (nI n)]) (rest := []) (wr := []) ⟨Nat.le_of_ble_eq_true rfl, Nat.le_of_ble_eq_true rfl⟩ ⟨Nat.le_of_ble_eq_true rfl, Nat.le_of_ble_eq_true rfl⟩ hK hP hD hS hA [0, 1, 2, 3, 4, 5, 6, 7, 8] [] rfl rfl (by decide) (by decide) (by decide) rfl rfl rfl hl rfl (Nat.le_of_ble_eq_true rfl) d_M_receive_63 (fun ua H locs hua hP hD hS => ?_)
      have hP : va_P D classes (Mw cI cZ am (nI K, (nI (n + 1)), nI (T0 + 1), nI cn, cl, st3, row, upd se n seed, upd va n word, upd (upd wa n 0) n (nI (T0 + 1)), kn, to, o, in3)) H := hP
      have hD : va_D A (Mw cI cZ am (nI K, (nI (n + 1)), nI (T0 + 1), nI cn, cl, st3, row, upd se n seed, upd va n word, upd (upd wa n 0) n (nI (T0 + 1)), kn, to, o, in3)) := hD
      refine lv_goto (tgt := 92) hx hb d_M_receive_66 (by decide) ?_
      have ea : (ab_start n (upd Sm n (lc_sm K seed)) (upd va n word) h t o cn cl) = (h, t, o, cn, cl, fun _ => n, 0, 1) := by unfold ab_start; rw [pk_us, pk_us, if_neg (fun q => by omega), if_pos hone]
      have Mz : m_W T0 (n + 1) (fun _ => n) 0 1 (upd (upd wa n 0) n (nI (T0 + 1))) := by
        refine ⟨fun p _ q => ?_, fun m hm q => ?_⟩
        · have e : p = 0 := by omega
          rw [e, pk_us]
        · have e : m ≠ n := fun e => q ⟨0, Nat.le_refl 0, Nat.zero_lt_one, e.symm⟩
          rw [pk_un e]; exact hM0 m hm
      exact at92 _ _ _ _ (by rw [ea]; exact Mz) _ _ ls (by rw [ea]; exact hP) (by rw [ea]; exact hD) hS (lv_sub hl [0, 1, 2, 3, 4] rfl)
  · exact absurd (zi_eq (a := n) (b := 60) hc) (by omega)
set_option maxHeartbeats 4000000 in
set_option maxRecDepth 100000 in
/-- no room is left -/
theorem c_M_receive_full (l : Launch) (D : va_G) (cI cZ : ClassId) (am : Nat → Nat) (wd tu fo cl st : Int32) (row se va wa kn to od inn : Nat → Int32) (seed word : Int32) : CtI l y_M_receive b_M_receive 6 .int 4 D [(cI, .int), (cZ, .boolean)] [.ref (am 0), .int seed, .int word] (Mw cI cZ am (wd, nI 60, tu, fo, cl, st, row, se, va, wa, kn, to, od, inn)) (fun r (u : Unit) => r = -2) (fun u => Mw cI cZ am (wd, nI 60, tu, fo, cl, st, row, se, va, wa, kn, to, od, inn)) := by
  refine CtI.of (by decide) (Nat.le_of_ble_eq_true rfl) ?_
  intro p e s m args below meth c A Q S hK hP hD hA hS hret ls hl
  have S : CallFix p m c b_M_receive 6 s args gw_tbl R_M := S
  have hx := S.1
  have hb := S.2.1
  have hl : lv_has ls 6 [(0, .ref (am 0)), (1, .int seed), (2, .int word)] := hl
  refine lv_aload_n hx hb d_M_receive_0 rfl (lv_at hl 0 rfl) ?_
  refine dc_get_M S hK hP 0 rfl fl_M_56 rfl d_M_receive_1 ?_
  refine lv_bipush (v := 60) hx hb d_M_receive_4 (by decide) ?_
  refine lv_icmp_ne (tgt := 12) hx hb d_M_receive_6 (by decide) (fun hc => ?_) (fun hc => ?_)
  · exact absurd rfl hc
  · refine lv_bipush (v := (-2)) hx hb d_M_receive_9 (by decide) ?_
    exact hret _ _ _ _ _ (()) d_M_receive_11 rfl (rfl) hP hD hS
end
section
/-! what follows up to lw_At is a starting text (the skeleton) -/
def lw_P (b : Addr) (xs : List Int32) (args : Array Value) (s : State) : Prop := args = #[.ref b] ∧ s.IntsAt b xs ∧ xs.length ≤ 1537 ∧ (Jvm.Cond.and given_1 narrow_1).before args s = true
def lw_Q (_ : Array Value) (s : State) (o : Outcome) (t : State) : Prop := o = .returned (some (.int 1)) ∧ Framed s o t [] 18 743
def lw_Z (below : List Frame) (a : Array Value) (s : State) : State → Prop := fun t => ∃ o, t.status = .running ∧ Ended t below o ∧ lw_Q a s o t
/-- the law's own end, with 1 on the stack, nothing written that was there before, its room as the claim has it -/
theorem lw_ret {p : Program} {l : Launch} {e : Env} {s : State} {m : MethodId} {below : List Frame} {meth : Method} {c : Code} {b : Nat} (hx : p.tables.exec = Jvm.exec) (hb : c.code = code) (hr : meth.sig.returnType = ret) (hlocks : meth.locks = false) {pc : Nat} {H : Heap} {ls : Array Slot} (hdg : decode code pc = .ok (.ireturn, 1)) : W p l e room_1 s m #[Value.ref b] below meth c H [] 18 743 (lw_Z below #[Value.ref b] s) (F0 m pc ls [.int 1]) := by
  intro T hT X
  obtain ⟨fs, hret, hrun, hended, hW, hframe⟩ := X.leave (v := some (.int 1)) (hlocks := hlocks) (fun h => by rw [hr] at h; cases h)
  have hmeth' : T.vm.method? m = some meth := X.method'
  refine ⟨T.setFrames fs, ?_, .returned (some (.int 1)), hrun, hended, rfl, ⟨_, rfl⟩, hW, hframe⟩
  jvm_step X.here [X.here.top, hx, hb, hdg, hmeth', hr, ret, narrow_b1]
  (try refine ⟨rfl, ?_⟩); (try refine ⟨rfl, ?_⟩)
  first | (intro acts; rw [hret _ acts rfl rfl rfl]) | rw [hret _ _ rfl rfl rfl]
  exact Steps.refl _
/-- what holds at the law's entry: the machine, the code, the tables' words (any of lw_tbl by 'hts w (by decide +kernel)'), the script of L ints xs at the cell b, what the Statement gives of the start (any of its parts by flat_of_before) -/
def lw_At (p : Program) (s : State) (m : MethodId) (meth : Method) (c : Code) (b L : Nat) (xs : Nat → Int32) : Prop :=
  p.tables.exec = Jvm.exec ∧ c.code = code ∧ meth.sig.returnType = ret ∧ c.maxLocals = 4 ∧ s.vm.findClass R_law = some m.cls ∧ (∀ w ∈ lw_tbl, w.before #[Value.ref b] s = true) ∧ va_X b L xs s s.heap ∧ b < s.heap.size ∧ meth.locks = false ∧ (Jvm.Cond.and given_1 narrow_1).before #[Value.ref b] s = true
section LAW
variable {p : Program} {l : Launch} {e : Env} {R : Room} {s : State} {m : MethodId} {args : Array Value} {below : List Frame} {meth : Method} {c : Code} {H : Heap} {locs : List Loc} {cells slots : Nat} {Q : State → Prop}
variable {cc : ByteArray} {pc nL : Nat} {ls : Array Slot} {rest : List Value} {D : va_G} {A : Nat → Prop} {tys : List (ClassId × FieldType)} {ws : va_W} {H0 : Heap} {own : String}
theorem dc_sld (S : CallFix p m c cc nL s args gw_tbl own) {b L : Nat} {xs : Nat → Int32} (hX : va_X b L xs s H0) (hbl : b < H0.size) (hbA : ¬ A b) (hS : va_S A H0 H locs) {i : Int32} {j : Nat} (hi : i = nI j) (hj : j < L) (hL : L < 2 ^ 31) (hdg : decode cc pc = .ok (.iaload, 1))
    (kk : W p l e R s m args below meth c H locs cells slots Q (F0 m (pc + 1) ls (.int (xs j) :: rest))) : W p l e R s m args below meth c H locs cells slots Q (F0 m pc ls (.int i :: .ref b :: rest)) := by
  subst hi
  refine va_sld S.1 S.2.1 hX hbl hbA hS (vp_in_nI hj hL) hdg ?_
  rw [nI_clamp (by omega)]
  exact kk
set_option maxHeartbeats 4000000 in
theorem c_L_cell (l : Launch) (b L : Nat) (xs : Nat → Int32) (hL : L ≤ 1537) (sz : Nat) : Met l y_L_cell (ct_ws y_L_cell b_L_cell 2 (some .int)) (rmD 0 0 0) (va_Pc [.ref b, .int 0] (fun U => U.heap.size = sz ∧ va_X b L xs U U.heap ∧ b < sz)) (va_Qi (fun r (_ : Unit) => r = if 0 < L then xs 0 else 0) (fun _ _ => True) (fun q => sz ≤ q)) 0 0 (fun q => sz ≤ q) := by
  refine Met.ofW (cc := b_L_cell) (maxL := 2) (ret := some .int) (by decide) rfl ?_
  intro p e s m args below meth c s₁ B hml hv
  obtain ⟨rfl, hsz, hX, hbl⟩ := hv
  have hx := B.exec
  have hb := B.bytes
  have hr := B.returns
  have hlocks := B.notSynchronized
  have hts := atoms_spec (ws := ct_ws y_L_cell b_L_cell 2 (some .int)) B.pre
  have S : CallFix p m c b_L_cell 2 s _ gw_tbl R_law := ⟨hx, hb, hml, findClass_of_methodNamed B.named, fun w hw => hts w (List.mem_cons_of_mem _ hw)⟩
  subst hsz
  have hS : va_S (fun q : Nat => s.heap.size ≤ q) s.heap s.heap [] := va_S.rf
  have hbA : ¬ (fun q : Nat => s.heap.size ≤ q) b := Nat.not_le.mpr hbl
  have hl := lv_entry ([.ref b, .int 0]) (n := 2) (Nat.le_of_ble_eq_true rfl)
  rw [lg_entry_eq]
  generalize (lg_sl ([.ref b, .int 0]) ++ List.replicate (2 - (lg_sl ([.ref b, .int 0])).length) Slot.unset).toArray = ls at hl ⊢
  have hl : lv_has ls 2 [(0, .ref b), (1, .int 0)] := hl
  refine lv_iload_n hx hb d_L_cell_0 rfl (lv_at hl 1 rfl) ?_
  refine lv_aload_n hx hb d_L_cell_1 rfl (lv_at hl 0 rfl) ?_
  refine va_slen hx hb hX hbl hbA hS d_L_cell_2 ?_
  refine lv_icmp_ge (tgt := 12) hx hb d_L_cell_3 (by decide) (fun hc => ?_) (fun hc => ?_)
  · have e0 := zi_le (a := L) (b := 0) hc
    refine lv_iconst (v := 0) hx hb d_L_cell_12 (by decide) ?_
    exact W.iret hx hb hr (fun t ht hW => ⟨⟨0, (), rfl, by rw [if_neg (by omega)], trivial⟩, hS.F ht⟩) hS.2.2 d_L_cell_13 hlocks
  · have e0 := zi_nle (a := L) (b := 0) hc
    refine lv_aload_n hx hb d_L_cell_6 rfl (lv_at hl 0 rfl) ?_
    refine lv_iload_n hx hb d_L_cell_7 rfl (lv_at hl 1 rfl) ?_
    refine dc_sld S hX hbl hbA hS (j := 0) rfl e0 (by omega) d_L_cell_8 ?_
    refine lv_goto (tgt := 13) hx hb d_L_cell_9 (by decide) ?_
    exact W.iret hx hb hr (fun t ht hW => ⟨⟨xs 0, (), rfl, by rw [if_pos e0], trivial⟩, hS.F ht⟩) hS.2.2 d_L_cell_13 hlocks
/-- the call of cell, from the law -/
theorem dc_cell {lv : List (Nat × Value)} (S : CallFix p m c cc nL s args gw_tbl R_law) {b L : Nat} {xs : Nat → Int32} (hL : L ≤ 1537) (hX : va_X b L xs s s.heap) (hbl : b < s.heap.size) (hbA : ¬ A b) (hP : va_P D classes ws H) (hS : va_S A s.heap H locs) (hA : ∀ q, s.heap.size ≤ q → A q)
    (hR : 1 ≤ R.frames ∧ 8 + (2 + 11) ≤ R.locals) (hf : cells ≤ R.cells ∧ slots ≤ R.slots) (hl : lv_has ls nL lv) (hrm : (rest.map fun v => v.category).sum ≤ 8) (hdg : decode cc pc = .ok (.invokestatic 9, 3))
    (kk : ∀ (H1 : Heap) (locs1 : List Loc), va_P D classes ws H1 → va_S A s.heap H1 locs1 → W p l e R s m args below meth c H1 locs1 cells slots Q (F0 m (pc + 3) ls (.int (if 0 < L then xs 0 else 0) :: rest))) : W p l e R s m args below meth c H locs cells slots Q (F0 m pc ls (.int 0 :: .ref b :: rest)) := by
  obtain ⟨k1, k2, k4, k5⟩ := ok_L_cell
  have hts := S.2.2.2.2
  have hXH : va_X b L xs s H := hX.kept (hS.2.1 b hbl hbA)
  refine va_calli (A1 := fun q => H.size ≤ q) (va_runS (As := [.ref b, .int 0]) (rest := rest) S (c_L_cell l b L xs hL H.size) ⟨callB_of 2 hts (ct_good k1) rfl rfl rfl (hts _ k4) (hts _ ml_L_9) k5 ⟨hR.1, by show 8 + (2 + 11) + 26 * 0 ≤ R.locals; omega⟩, hts _ k2⟩ ⟨fun a U g mk q => by
      obtain ⟨q0, q1, qX, qb⟩ := q
      exact ⟨q0, q1, va_X.moved (u := U) (U := U.calling g mk a) (Vm.Alike.refl U.vm) qX, qb⟩, fun U hU hW => ⟨rfl, by rw [hU], by rw [hU]; exact va_X.moved hW.alike hXH, Nat.lt_of_lt_of_le hbl hS.1⟩⟩ rfl rfl hl.1 rfl (lv_room (m := m) (pc := pc) (ls := ls) (rest := .int 0 :: .ref b :: rest) hrm) hdg ⟨hf.1, hf.2⟩) hS (fun q h1 h2 => absurd h2 (Nat.not_le.mpr h1)) (fun q h => hA q (Nat.le_trans hS.1 h)) (fun r u t H1 locs1 ht hvm hw hB hz1 hk1 hS1 => ?_)
  subst hw
  exact kk H1 locs1 (hP.kept (fun k q hq => hk1 q.1 (hP k q hq).lt (Nat.not_le.mpr (hP k q hq).lt))) hS1
end LAW
/-- the arrays' classes are there from the start -/
theorem ka_known {s : State} {args : Array Value} {D : va_G} (hts : ∀ w ∈ gw_tbl, w.before args s = true) (hK : ∀ (k : Nat) (q : vw_C), classes[k]? = some q → u_Kn s q.1 q.2.1 q.2.2 (D.1 k) (D.2 k)) : ∃ cI cZ : ClassId, va_K D classes [(cI, .int), (cZ, .boolean)] s := by
  obtain ⟨cI, kI, p1, a1, a2, a3⟩ := Cond.arrayClass_spec (hts _ ac_int)
  obtain ⟨cZ, kZ, p2, b1, b2, b3⟩ := Cond.arrayClass_spec (hts _ ac_bool)
  refine ⟨cI, cZ, hK, fun k q hq => ?_⟩
  match k, hq with
  | 0, hq =>
    cases hq
    exact ⟨fun n z => ⟨fun k h => (by cases h), kI, a2, p1, a3⟩, a1⟩
  | 1, hq =>
    cases hq
    exact ⟨fun n z => ⟨fun k h => (by cases h), kZ, b2, p2, b3⟩, b1⟩
  | k + 2, hq => simp at hq
/-- the law's own bound -/
theorem lb_in {L i : Nat} (hL : L ≤ 1537) (hi : i ≤ L + 1) (h : ¬ nI L - 3 < nI i) : i + 3 ≤ L := by
  rw [Int32.lt_iff_toInt_lt, show nI L - 3 = nI L - nI 3 from rfl, pk_sub_toInt (by omega) (by omega), nI_toInt (by omega)] at h
  omega
end
section
set_option maxHeartbeats 4000000 in
set_option maxRecDepth 100000 in
theorem law_put {p : Program} {l : Launch} {e : Env} {s : State} {m : MethodId} {below : List Frame} {meth : Method} {c : Code} {b L : Nat} {xs : Nat → Int32} (hL : L ≤ 1537) (C0 : lw_At p s m meth c b L xs) (A : Nat → Prop) (hA : ∀ q, s.heap.size ≤ q → A q) (hA2 : ∀ q, A q → s.heap.size ≤ q) (D : va_G) (cI cZ : ClassId) (hK : va_K D classes [(cI, .int), (cZ, .boolean)] s) (ad am : Nat → Nat) (K : Nat) (h0 : 0 < K) (hK32 : K ≤ 32) (tb : Nat → Int32) (htb : ∀ d, 1 ≤ d → d ≤ K → tb d = nI (lc_tb K d)) (i : Nat) (hi3 : i + 3 ≤ L) (back : ∀ (n T cn : Nat) (cl stX stM h : Int32) (row se va t o le re wa qu waM kn to inn : Nat → Int32), n ≤ 60 → T ≤ 60 * (i + 1) → ab_Rest K n (fun m => lc_sm K (se m)) h cn → x_Rest n (fun m => lc_sm K (se m)) va h t le re wa → m_Kn K h t kn to → (∀ m, m < n → waM m = 0) → ∀ (H : Heap) (locs : List Loc) (ls : Array Slot), va_P D classes (Xw cI cZ ad (nI K, nI n, nI 0, nI 0, h, nI cn, cl, stX, row, tb, le, re, wa, qu, t, o) ++ Mw cI cZ am (nI K, nI n, nI T, nI cn, cl, stM, row, se, va, waM, kn, to, o, inn)) H → va_D A (Xw cI cZ ad (nI K, nI n, nI 0, nI 0, h, nI cn, cl, stX, row, tb, le, re, wa, qu, t, o) ++ Mw cI cZ am (nI K, nI n, nI T, nI cn, cl, stM, row, se, va, waM, kn, to, o, inn)) → va_S A s.heap H locs → lv_has ls 4 [(3, .int (nI i)), (2, .ref (am 0)), (1, .ref (ad 0)), (0, .ref b)] → W p l e room_1 s m #[Value.ref b] below meth c H locs 18 743 (lw_Z below #[Value.ref b] s) (F0 m 387 ls [])) : ∀ (n T cn : Nat) (cl stX stM h : Int32) (row se va t o le re wa qu waM kn to inn : Nat → Int32), n ≤ 60 → T ≤ 60 * i → ab_Rest K n (fun m => lc_sm K (se m)) h cn → x_Rest n (fun m => lc_sm K (se m)) va h t le re wa → m_Kn K h t kn to → (∀ m, m < n → waM m = 0) → ∀ (H : Heap) (locs : List Loc) (ls : Array Slot), va_P D classes (Xw cI cZ ad (nI K, nI n, nI 0, nI 0, h, nI cn, cl, stX, row, tb, le, re, wa, qu, t, o) ++ Mw cI cZ am (nI K, nI n, nI T, nI cn, cl, stM, row, se, va, waM, kn, to, o, inn)) H → va_D A (Xw cI cZ ad (nI K, nI n, nI 0, nI 0, h, nI cn, cl, stX, row, tb, le, re, wa, qu, t, o) ++ Mw cI cZ am (nI K, nI n, nI T, nI cn, cl, stM, row, se, va, waM, kn, to, o, inn)) → va_S A s.heap H locs → lv_has ls 4 [(3, .int (nI i)), (2, .ref (am 0)), (1, .ref (ad 0)), (0, .ref b)] → W p l e room_1 s m #[Value.ref b] below meth c H locs 18 743 (lw_Z below #[Value.ref b] s) (F0 m 108 ls []) := by
  obtain ⟨hx, hb, hr, hml, hown, hts, hX, hbl, hlocks, hgv⟩ := C0
  have S : CallFix p m c code 4 s #[Value.ref b] gw_tbl R_law := ⟨hx, hb, hml, hown, fun w hw => hts w (List.mem_filter.mp hw).1⟩
  have hbA : ¬ A b := fun q => absurd (hA2 b q) (Nat.not_le.mpr hbl)
  intro n T cn cl stX stM h row se va t o le re wa qu waM kn to inn hn60 hT R0 R1 Mk hwaM H locs ls hP hD hS hl
  refine lv_aload_n hx hb d_law_108 rfl (lv_at hl 2 rfl) ?_
  refine lv_aload_n hx hb d_law_109 rfl (lv_at hl 3 rfl) ?_
  refine lv_iload_n hx hb d_law_110 rfl (lv_at hl 0 rfl) ?_
  refine lv_iconst (v := 1) hx hb d_law_111 (by decide) ?_
  refine lv_iadd hx hb d_law_112 ?_
  refine dc_nrm (y := nI (i + 1)) (nI_add i 1) ?_
  refine dc_sld S hX hbl hbA hS (j := i + 1) rfl (by omega) (by omega) d_law_113 ?_
  refine lv_aload_n hx hb d_law_114 rfl (lv_at hl 3 rfl) ?_
  refine lv_iload_n hx hb d_law_115 rfl (lv_at hl 0 rfl) ?_
  refine lv_iconst (v := 2) hx hb d_law_116 (by decide) ?_
  refine lv_iadd hx hb d_law_117 ?_
  refine dc_nrm (y := nI (i + 2)) (nI_add i 2) ?_
  refine dc_sld S hX hbl hbA hS (j := i + 2) rfl (by omega) (by omega) d_law_118 ?_
  refine dc_callI S ok_X_put ml_L_21 (c_X_put l D cI cZ ad (nI n) (nI 0) (nI 0) h (nI cn) cl stX row tb le re wa qu t o (xs (i + 1)) (xs (i + 2)) K h0 hK32) (As := [.int (xs (i + 1)), .int (xs (i + 2))]) (rest := []) (wr := (Mw cI cZ am (nI K, nI n, nI T, nI cn, cl, stM, row, se, va, waM, kn, to, o, inn))) ⟨Nat.le_of_ble_eq_true rfl, Nat.le_of_ble_eq_true rfl⟩ ⟨Nat.le_of_ble_eq_true rfl, Nat.le_of_ble_eq_true rfl⟩ hK hP hD hS hA [0, 1, 2, 3, 4, 5, 6, 7, 8] [9, 10, 11, 12, 13, 14, 15, 16, 17] rfl rfl (by decide) (by decide) (by decide) rfl rfl rfl hl rfl (Nat.le_of_ble_eq_true rfl) d_law_119 (fun r1 u1 H locs hw1 hP hD hS => ?_)
  obtain ⟨e1, e2⟩ := hw1
  subst e1
  subst e2
  have hP : va_P D classes (Mw cI cZ am (nI K, nI n, nI T, nI cn, cl, stM, row, se, va, waM, kn, to, o, inn) ++ Xw cI cZ ad (nI K, nI n, nI 0, nI 0, h, nI cn, cl, stX, (if ¬ xs (i + 1) < 0 ∧ xs (i + 1) < nI K then upd row (xs (i + 1)).toNatClampNeg (xs (i + 2)) else row), tb, le, re, wa, qu, t, o)) H := hP
  have hD : va_D A (Mw cI cZ am (nI K, nI n, nI T, nI cn, cl, stM, row, se, va, waM, kn, to, o, inn) ++ Xw cI cZ ad (nI K, nI n, nI 0, nI 0, h, nI cn, cl, stX, (if ¬ xs (i + 1) < 0 ∧ xs (i + 1) < nI K then upd row (xs (i + 1)).toNatClampNeg (xs (i + 2)) else row), tb, le, re, wa, qu, t, o)) := hD
  refine lv_aload_n hx hb d_law_122 rfl (lv_at hl 1 rfl) ?_
  refine lv_aload_n hx hb d_law_123 rfl (lv_at hl 3 rfl) ?_
  refine lv_iload_n hx hb d_law_124 rfl (lv_at hl 0 rfl) ?_
  refine lv_iconst (v := 1) hx hb d_law_125 (by decide) ?_
  refine lv_iadd hx hb d_law_126 ?_
  refine dc_nrm (y := nI (i + 1)) (nI_add i 1) ?_
  refine dc_sld S hX hbl hbA hS (j := i + 1) rfl (by omega) (by omega) d_law_127 ?_
  refine lv_aload_n hx hb d_law_128 rfl (lv_at hl 3 rfl) ?_
  refine lv_iload_n hx hb d_law_129 rfl (lv_at hl 0 rfl) ?_
  refine lv_iconst (v := 2) hx hb d_law_130 (by decide) ?_
  refine lv_iadd hx hb d_law_131 ?_
  refine dc_nrm (y := nI (i + 2)) (nI_add i 2) ?_
  refine dc_sld S hX hbl hbA hS (j := i + 2) rfl (by omega) (by omega) d_law_132 ?_
  refine dc_callI S ok_M_put ml_L_25 (c_M_put l D cI cZ am (nI n) (nI T) (nI cn) cl stM row se va waM kn to o inn (xs (i + 1)) (xs (i + 2)) K h0 hK32) (As := [.int (xs (i + 1)), .int (xs (i + 2))]) (rest := [.int (if ¬ xs (i + 1) < 0 ∧ xs (i + 1) < nI K then 1 else -1)]) (wr := (Xw cI cZ ad (nI K, nI n, nI 0, nI 0, h, nI cn, cl, stX, (if ¬ xs (i + 1) < 0 ∧ xs (i + 1) < nI K then upd row (xs (i + 1)).toNatClampNeg (xs (i + 2)) else row), tb, le, re, wa, qu, t, o))) ⟨Nat.le_of_ble_eq_true rfl, Nat.le_of_ble_eq_true rfl⟩ ⟨Nat.le_of_ble_eq_true rfl, Nat.le_of_ble_eq_true rfl⟩ hK hP hD hS hA [0, 1, 2, 3, 4, 5, 6, 7, 8] [9, 10, 11, 12, 13, 14, 15, 16, 17] rfl rfl (by decide) (by decide) (by decide) rfl rfl rfl hl rfl (Nat.le_of_ble_eq_true rfl) d_law_133 (fun r2 u2 H locs hw2 hP hD hS => ?_)
  obtain ⟨e3, e4⟩ := hw2
  subst e3
  subst e4
  have hP : va_P D classes (Xw cI cZ ad (nI K, nI n, nI 0, nI 0, h, nI cn, cl, stX, (if ¬ xs (i + 1) < 0 ∧ xs (i + 1) < nI K then upd row (xs (i + 1)).toNatClampNeg (xs (i + 2)) else row), tb, le, re, wa, qu, t, o) ++ Mw cI cZ am (nI K, nI n, nI T, nI cn, cl, stM, (if ¬ xs (i + 1) < 0 ∧ xs (i + 1) < nI K then upd row (xs (i + 1)).toNatClampNeg (xs (i + 2)) else row), se, va, waM, kn, to, o, inn)) H := hP
  have hD : va_D A (Xw cI cZ ad (nI K, nI n, nI 0, nI 0, h, nI cn, cl, stX, (if ¬ xs (i + 1) < 0 ∧ xs (i + 1) < nI K then upd row (xs (i + 1)).toNatClampNeg (xs (i + 2)) else row), tb, le, re, wa, qu, t, o) ++ Mw cI cZ am (nI K, nI n, nI T, nI cn, cl, stM, (if ¬ xs (i + 1) < 0 ∧ xs (i + 1) < nI K then upd row (xs (i + 1)).toNatClampNeg (xs (i + 2)) else row), se, va, waM, kn, to, o, inn)) := hD
  refine lv_icmp_eq (tgt := 387) hx hb d_law_136 (by decide) (fun hc => ?_) (fun hc => ?_)
  · exact back n T cn cl stX stM h (if ¬ xs (i + 1) < 0 ∧ xs (i + 1) < nI K then upd row (xs (i + 1)).toNatClampNeg (xs (i + 2)) else row) se va t o le re wa qu waM kn to inn hn60 (by omega) R0 R1 Mk hwaM _ _ ls hP hD hS hl
  · exact absurd (rfl) hc
set_option maxHeartbeats 4000000 in
set_option maxRecDepth 100000 in
theorem law_drop {p : Program} {l : Launch} {e : Env} {s : State} {m : MethodId} {below : List Frame} {meth : Method} {c : Code} {b L : Nat} {xs : Nat → Int32} (hL : L ≤ 1537) (C0 : lw_At p s m meth c b L xs) (A : Nat → Prop) (hA : ∀ q, s.heap.size ≤ q → A q) (hA2 : ∀ q, A q → s.heap.size ≤ q) (D : va_G) (cI cZ : ClassId) (hK : va_K D classes [(cI, .int), (cZ, .boolean)] s) (ad am : Nat → Nat) (K : Nat) (h0 : 0 < K) (hK32 : K ≤ 32) (tb : Nat → Int32) (htb : ∀ d, 1 ≤ d → d ≤ K → tb d = nI (lc_tb K d)) (i : Nat) (hi3 : i + 3 ≤ L) (back : ∀ (n T cn : Nat) (cl stX stM h : Int32) (row se va t o le re wa qu waM kn to inn : Nat → Int32), n ≤ 60 → T ≤ 60 * (i + 1) → ab_Rest K n (fun m => lc_sm K (se m)) h cn → x_Rest n (fun m => lc_sm K (se m)) va h t le re wa → m_Kn K h t kn to → (∀ m, m < n → waM m = 0) → ∀ (H : Heap) (locs : List Loc) (ls : Array Slot), va_P D classes (Xw cI cZ ad (nI K, nI n, nI 0, nI 0, h, nI cn, cl, stX, row, tb, le, re, wa, qu, t, o) ++ Mw cI cZ am (nI K, nI n, nI T, nI cn, cl, stM, row, se, va, waM, kn, to, o, inn)) H → va_D A (Xw cI cZ ad (nI K, nI n, nI 0, nI 0, h, nI cn, cl, stX, row, tb, le, re, wa, qu, t, o) ++ Mw cI cZ am (nI K, nI n, nI T, nI cn, cl, stM, row, se, va, waM, kn, to, o, inn)) → va_S A s.heap H locs → lv_has ls 4 [(3, .int (nI i)), (2, .ref (am 0)), (1, .ref (ad 0)), (0, .ref b)] → W p l e room_1 s m #[Value.ref b] below meth c H locs 18 743 (lw_Z below #[Value.ref b] s) (F0 m 387 ls [])) : ∀ (n T cn : Nat) (cl stX stM h : Int32) (row se va t o le re wa qu waM kn to inn : Nat → Int32), n ≤ 60 → T ≤ 60 * i → ab_Rest K n (fun m => lc_sm K (se m)) h cn → x_Rest n (fun m => lc_sm K (se m)) va h t le re wa → m_Kn K h t kn to → (∀ m, m < n → waM m = 0) → ∀ (H : Heap) (locs : List Loc) (ls : Array Slot), va_P D classes (Xw cI cZ ad (nI K, nI n, nI 0, nI 0, h, nI cn, cl, stX, row, tb, le, re, wa, qu, t, o) ++ Mw cI cZ am (nI K, nI n, nI T, nI cn, cl, stM, row, se, va, waM, kn, to, o, inn)) H → va_D A (Xw cI cZ ad (nI K, nI n, nI 0, nI 0, h, nI cn, cl, stX, row, tb, le, re, wa, qu, t, o) ++ Mw cI cZ am (nI K, nI n, nI T, nI cn, cl, stM, row, se, va, waM, kn, to, o, inn)) → va_S A s.heap H locs → lv_has ls 4 [(3, .int (nI i)), (2, .ref (am 0)), (1, .ref (ad 0)), (0, .ref b)] → W p l e room_1 s m #[Value.ref b] below meth c H locs 18 743 (lw_Z below #[Value.ref b] s) (F0 m 141 ls []) := by
  obtain ⟨hx, hb, hr, hml, hown, hts, hX, hbl, hlocks, hgv⟩ := C0
  have S : CallFix p m c code 4 s #[Value.ref b] gw_tbl R_law := ⟨hx, hb, hml, hown, fun w hw => hts w (List.mem_filter.mp hw).1⟩
  have hbA : ¬ A b := fun q => absurd (hA2 b q) (Nat.not_le.mpr hbl)
  intro n T cn cl stX stM h row se va t o le re wa qu waM kn to inn hn60 hT R0 R1 Mk hwaM H locs ls hP hD hS hl
  refine lv_aload_n hx hb d_law_141 rfl (lv_at hl 2 rfl) ?_
  refine lv_aload_n hx hb d_law_142 rfl (lv_at hl 3 rfl) ?_
  refine lv_iload_n hx hb d_law_143 rfl (lv_at hl 0 rfl) ?_
  refine lv_iconst (v := 1) hx hb d_law_144 (by decide) ?_
  refine lv_iadd hx hb d_law_145 ?_
  refine dc_nrm (y := nI (i + 1)) (nI_add i 1) ?_
  refine dc_sld S hX hbl hbA hS (j := i + 1) rfl (by omega) (by omega) d_law_146 ?_
  refine dc_callI S ok_X_drop ml_L_26 (c_X_drop l D cI cZ ad (nI n) (nI 0) (nI 0) h (nI cn) cl stX row tb le re wa qu t o (xs (i + 1)) K h0 hK32 htb) (As := [.int (xs (i + 1))]) (rest := []) (wr := (Mw cI cZ am (nI K, nI n, nI T, nI cn, cl, stM, row, se, va, waM, kn, to, o, inn))) ⟨Nat.le_of_ble_eq_true rfl, Nat.le_of_ble_eq_true rfl⟩ ⟨Nat.le_of_ble_eq_true rfl, Nat.le_of_ble_eq_true rfl⟩ hK hP hD hS hA [0, 1, 2, 3, 4, 5, 6, 7, 8] [9, 10, 11, 12, 13, 14, 15, 16, 17] rfl rfl (by decide) (by decide) (by decide) rfl rfl rfl hl rfl (Nat.le_of_ble_eq_true rfl) d_law_147 (fun r1 u1 H locs hw1 hP hD hS => ?_)
  subst hw1
  have hP : va_P D classes (Mw cI cZ am (nI K, nI n, nI T, nI cn, cl, stM, row, se, va, waM, kn, to, o, inn) ++ Xw cI cZ ad (nI K, nI n, nI 0, nI 0, h, nI cn, cl, u1, row, tb, le, re, wa, qu, t, o)) H := hP
  have hD : va_D A (Mw cI cZ am (nI K, nI n, nI T, nI cn, cl, stM, row, se, va, waM, kn, to, o, inn) ++ Xw cI cZ ad (nI K, nI n, nI 0, nI 0, h, nI cn, cl, u1, row, tb, le, re, wa, qu, t, o)) := hD
  refine lv_aload_n hx hb d_law_150 rfl (lv_at hl 1 rfl) ?_
  refine lv_aload_n hx hb d_law_151 rfl (lv_at hl 3 rfl) ?_
  refine lv_iload_n hx hb d_law_152 rfl (lv_at hl 0 rfl) ?_
  refine lv_iconst (v := 1) hx hb d_law_153 (by decide) ?_
  refine lv_iadd hx hb d_law_154 ?_
  refine dc_nrm (y := nI (i + 1)) (nI_add i 1) ?_
  refine dc_sld S hX hbl hbA hS (j := i + 1) rfl (by omega) (by omega) d_law_155 ?_
  refine dc_callI S ok_M_drop ml_L_30 (c_M_drop l D cI cZ am (nI n) (nI T) (nI cn) cl stM row se va waM kn to o inn (xs (i + 1)) K h0 hK32) (As := [.int (xs (i + 1))]) (rest := [.int (pb_xr (bt (lc_sm K (xs (i + 1)))) row 32)]) (wr := (Xw cI cZ ad (nI K, nI n, nI 0, nI 0, h, nI cn, cl, u1, row, tb, le, re, wa, qu, t, o))) ⟨Nat.le_of_ble_eq_true rfl, Nat.le_of_ble_eq_true rfl⟩ ⟨Nat.le_of_ble_eq_true rfl, Nat.le_of_ble_eq_true rfl⟩ hK hP hD hS hA [0, 1, 2, 3, 4, 5, 6, 7, 8] [9, 10, 11, 12, 13, 14, 15, 16, 17] rfl rfl (by decide) (by decide) (by decide) rfl rfl rfl hl rfl (Nat.le_of_ble_eq_true rfl) d_law_156 (fun r2 u2 H locs hw2 hP hD hS => ?_)
  subst hw2
  obtain ⟨in2, st2⟩ := u2
  have hP : va_P D classes (Xw cI cZ ad (nI K, nI n, nI 0, nI 0, h, nI cn, cl, u1, row, tb, le, re, wa, qu, t, o) ++ Mw cI cZ am (nI K, nI n, nI T, nI cn, cl, st2, row, se, va, waM, kn, to, o, in2)) H := hP
  have hD : va_D A (Xw cI cZ ad (nI K, nI n, nI 0, nI 0, h, nI cn, cl, u1, row, tb, le, re, wa, qu, t, o) ++ Mw cI cZ am (nI K, nI n, nI T, nI cn, cl, st2, row, se, va, waM, kn, to, o, in2)) := hD
  refine lv_icmp_eq (tgt := 387) hx hb d_law_159 (by decide) (fun hc => ?_) (fun hc => ?_)
  · exact back n T cn cl u1 st2 h row se va t o le re wa qu waM kn to in2 hn60 (by omega) R0 R1 Mk hwaM _ _ ls hP hD hS hl
  · exact absurd (rfl) hc
set_option maxHeartbeats 4000000 in
set_option maxRecDepth 100000 in
theorem law_degree {p : Program} {l : Launch} {e : Env} {s : State} {m : MethodId} {below : List Frame} {meth : Method} {c : Code} {b L : Nat} {xs : Nat → Int32} (hL : L ≤ 1537) (C0 : lw_At p s m meth c b L xs) (A : Nat → Prop) (hA : ∀ q, s.heap.size ≤ q → A q) (hA2 : ∀ q, A q → s.heap.size ≤ q) (D : va_G) (cI cZ : ClassId) (hK : va_K D classes [(cI, .int), (cZ, .boolean)] s) (ad am : Nat → Nat) (K : Nat) (h0 : 0 < K) (hK32 : K ≤ 32) (tb : Nat → Int32) (htb : ∀ d, 1 ≤ d → d ≤ K → tb d = nI (lc_tb K d)) (i : Nat) (hi3 : i + 3 ≤ L) (back : ∀ (n T cn : Nat) (cl stX stM h : Int32) (row se va t o le re wa qu waM kn to inn : Nat → Int32), n ≤ 60 → T ≤ 60 * (i + 1) → ab_Rest K n (fun m => lc_sm K (se m)) h cn → x_Rest n (fun m => lc_sm K (se m)) va h t le re wa → m_Kn K h t kn to → (∀ m, m < n → waM m = 0) → ∀ (H : Heap) (locs : List Loc) (ls : Array Slot), va_P D classes (Xw cI cZ ad (nI K, nI n, nI 0, nI 0, h, nI cn, cl, stX, row, tb, le, re, wa, qu, t, o) ++ Mw cI cZ am (nI K, nI n, nI T, nI cn, cl, stM, row, se, va, waM, kn, to, o, inn)) H → va_D A (Xw cI cZ ad (nI K, nI n, nI 0, nI 0, h, nI cn, cl, stX, row, tb, le, re, wa, qu, t, o) ++ Mw cI cZ am (nI K, nI n, nI T, nI cn, cl, stM, row, se, va, waM, kn, to, o, inn)) → va_S A s.heap H locs → lv_has ls 4 [(3, .int (nI i)), (2, .ref (am 0)), (1, .ref (ad 0)), (0, .ref b)] → W p l e room_1 s m #[Value.ref b] below meth c H locs 18 743 (lw_Z below #[Value.ref b] s) (F0 m 387 ls [])) : ∀ (n T cn : Nat) (cl stX stM h : Int32) (row se va t o le re wa qu waM kn to inn : Nat → Int32), n ≤ 60 → T ≤ 60 * i → ab_Rest K n (fun m => lc_sm K (se m)) h cn → x_Rest n (fun m => lc_sm K (se m)) va h t le re wa → m_Kn K h t kn to → (∀ m, m < n → waM m = 0) → ∀ (H : Heap) (locs : List Loc) (ls : Array Slot), va_P D classes (Xw cI cZ ad (nI K, nI n, nI 0, nI 0, h, nI cn, cl, stX, row, tb, le, re, wa, qu, t, o) ++ Mw cI cZ am (nI K, nI n, nI T, nI cn, cl, stM, row, se, va, waM, kn, to, o, inn)) H → va_D A (Xw cI cZ ad (nI K, nI n, nI 0, nI 0, h, nI cn, cl, stX, row, tb, le, re, wa, qu, t, o) ++ Mw cI cZ am (nI K, nI n, nI T, nI cn, cl, stM, row, se, va, waM, kn, to, o, inn)) → va_S A s.heap H locs → lv_has ls 4 [(3, .int (nI i)), (2, .ref (am 0)), (1, .ref (ad 0)), (0, .ref b)] → W p l e room_1 s m #[Value.ref b] below meth c H locs 18 743 (lw_Z below #[Value.ref b] s) (F0 m 164 ls []) := by
  obtain ⟨hx, hb, hr, hml, hown, hts, hX, hbl, hlocks, hgv⟩ := C0
  have S : CallFix p m c code 4 s #[Value.ref b] gw_tbl R_law := ⟨hx, hb, hml, hown, fun w hw => hts w (List.mem_filter.mp hw).1⟩
  have hbA : ¬ A b := fun q => absurd (hA2 b q) (Nat.not_le.mpr hbl)
  intro n T cn cl stX stM h row se va t o le re wa qu waM kn to inn hn60 hT R0 R1 Mk hwaM H locs ls hP hD hS hl
  refine lv_aload_n hx hb d_law_164 rfl (lv_at hl 2 rfl) ?_
  refine lv_aload_n hx hb d_law_165 rfl (lv_at hl 3 rfl) ?_
  refine lv_iload_n hx hb d_law_166 rfl (lv_at hl 0 rfl) ?_
  refine lv_iconst (v := 1) hx hb d_law_167 (by decide) ?_
  refine lv_iadd hx hb d_law_168 ?_
  refine dc_nrm (y := nI (i + 1)) (nI_add i 1) ?_
  refine dc_sld S hX hbl hbA hS (j := i + 1) rfl (by omega) (by omega) d_law_169 ?_
  refine dc_callI S ok_X_degree ml_L_31 (c_X_degree l D cI cZ ad (nI n) (nI 0) (nI 0) h (nI cn) cl stX row tb le re wa qu t o (xs (i + 1)) K h0 hK32 htb) (As := [.int (xs (i + 1))]) (rest := []) (wr := (Mw cI cZ am (nI K, nI n, nI T, nI cn, cl, stM, row, se, va, waM, kn, to, o, inn))) ⟨Nat.le_of_ble_eq_true rfl, Nat.le_of_ble_eq_true rfl⟩ ⟨Nat.le_of_ble_eq_true rfl, Nat.le_of_ble_eq_true rfl⟩ hK hP hD hS hA [0, 1, 2, 3, 4, 5, 6, 7, 8] [9, 10, 11, 12, 13, 14, 15, 16, 17] rfl rfl (by decide) (by decide) (by decide) rfl rfl rfl hl rfl (Nat.le_of_ble_eq_true rfl) d_law_170 (fun r1 u1 H locs hw1 hP hD hS => ?_)
  subst hw1
  have hP : va_P D classes (Mw cI cZ am (nI K, nI n, nI T, nI cn, cl, stM, row, se, va, waM, kn, to, o, inn) ++ Xw cI cZ ad (nI K, nI n, nI 0, nI 0, h, nI cn, cl, u1, row, tb, le, re, wa, qu, t, o)) H := hP
  have hD : va_D A (Mw cI cZ am (nI K, nI n, nI T, nI cn, cl, stM, row, se, va, waM, kn, to, o, inn) ++ Xw cI cZ ad (nI K, nI n, nI 0, nI 0, h, nI cn, cl, u1, row, tb, le, re, wa, qu, t, o)) := hD
  refine lv_aload_n hx hb d_law_173 rfl (lv_at hl 1 rfl) ?_
  refine lv_aload_n hx hb d_law_174 rfl (lv_at hl 3 rfl) ?_
  refine lv_iload_n hx hb d_law_175 rfl (lv_at hl 0 rfl) ?_
  refine lv_iconst (v := 1) hx hb d_law_176 (by decide) ?_
  refine lv_iadd hx hb d_law_177 ?_
  refine dc_nrm (y := nI (i + 1)) (nI_add i 1) ?_
  refine dc_sld S hX hbl hbA hS (j := i + 1) rfl (by omega) (by omega) d_law_178 ?_
  refine dc_callI S ok_M_degree ml_L_34 (c_M_degree l D cI cZ am (nI n) (nI T) (nI cn) cl stM row se va waM kn to o inn (xs (i + 1)) K h0 hK32) (As := [.int (xs (i + 1))]) (rest := [.int (nI (lc_dg K (lc_hi (lc_nx (xs (i + 1))))))]) (wr := (Xw cI cZ ad (nI K, nI n, nI 0, nI 0, h, nI cn, cl, u1, row, tb, le, re, wa, qu, t, o))) ⟨Nat.le_of_ble_eq_true rfl, Nat.le_of_ble_eq_true rfl⟩ ⟨Nat.le_of_ble_eq_true rfl, Nat.le_of_ble_eq_true rfl⟩ hK hP hD hS hA [0, 1, 2, 3, 4, 5, 6, 7, 8] [9, 10, 11, 12, 13, 14, 15, 16, 17] rfl rfl (by decide) (by decide) (by decide) rfl rfl rfl hl rfl (Nat.le_of_ble_eq_true rfl) d_law_179 (fun r2 u2 H locs hw2 hP hD hS => ?_)
  subst hw2
  obtain ⟨in2, st2⟩ := u2
  have hP : va_P D classes (Xw cI cZ ad (nI K, nI n, nI 0, nI 0, h, nI cn, cl, u1, row, tb, le, re, wa, qu, t, o) ++ Mw cI cZ am (nI K, nI n, nI T, nI cn, cl, st2, row, se, va, waM, kn, to, o, in2)) H := hP
  have hD : va_D A (Xw cI cZ ad (nI K, nI n, nI 0, nI 0, h, nI cn, cl, u1, row, tb, le, re, wa, qu, t, o) ++ Mw cI cZ am (nI K, nI n, nI T, nI cn, cl, st2, row, se, va, waM, kn, to, o, in2)) := hD
  refine lv_icmp_eq (tgt := 387) hx hb d_law_182 (by decide) (fun hc => ?_) (fun hc => ?_)
  · exact back n T cn cl u1 st2 h row se va t o le re wa qu waM kn to in2 hn60 (by omega) R0 R1 Mk hwaM _ _ ls hP hD hS hl
  · exact absurd (rfl) hc
set_option maxHeartbeats 4000000 in
set_option maxRecDepth 100000 in
theorem law_set {p : Program} {l : Launch} {e : Env} {s : State} {m : MethodId} {below : List Frame} {meth : Method} {c : Code} {b L : Nat} {xs : Nat → Int32} (hL : L ≤ 1537) (C0 : lw_At p s m meth c b L xs) (A : Nat → Prop) (hA : ∀ q, s.heap.size ≤ q → A q) (hA2 : ∀ q, A q → s.heap.size ≤ q) (D : va_G) (cI cZ : ClassId) (hK : va_K D classes [(cI, .int), (cZ, .boolean)] s) (ad am : Nat → Nat) (K : Nat) (h0 : 0 < K) (hK32 : K ≤ 32) (tb : Nat → Int32) (htb : ∀ d, 1 ≤ d → d ≤ K → tb d = nI (lc_tb K d)) (i : Nat) (hi3 : i + 3 ≤ L) (back : ∀ (n T cn : Nat) (cl stX stM h : Int32) (row se va t o le re wa qu waM kn to inn : Nat → Int32), n ≤ 60 → T ≤ 60 * (i + 1) → ab_Rest K n (fun m => lc_sm K (se m)) h cn → x_Rest n (fun m => lc_sm K (se m)) va h t le re wa → m_Kn K h t kn to → (∀ m, m < n → waM m = 0) → ∀ (H : Heap) (locs : List Loc) (ls : Array Slot), va_P D classes (Xw cI cZ ad (nI K, nI n, nI 0, nI 0, h, nI cn, cl, stX, row, tb, le, re, wa, qu, t, o) ++ Mw cI cZ am (nI K, nI n, nI T, nI cn, cl, stM, row, se, va, waM, kn, to, o, inn)) H → va_D A (Xw cI cZ ad (nI K, nI n, nI 0, nI 0, h, nI cn, cl, stX, row, tb, le, re, wa, qu, t, o) ++ Mw cI cZ am (nI K, nI n, nI T, nI cn, cl, stM, row, se, va, waM, kn, to, o, inn)) → va_S A s.heap H locs → lv_has ls 4 [(3, .int (nI i)), (2, .ref (am 0)), (1, .ref (ad 0)), (0, .ref b)] → W p l e room_1 s m #[Value.ref b] below meth c H locs 18 743 (lw_Z below #[Value.ref b] s) (F0 m 387 ls [])) : ∀ (n T cn : Nat) (cl stX stM h : Int32) (row se va t o le re wa qu waM kn to inn : Nat → Int32), n ≤ 60 → T ≤ 60 * i → ab_Rest K n (fun m => lc_sm K (se m)) h cn → x_Rest n (fun m => lc_sm K (se m)) va h t le re wa → m_Kn K h t kn to → (∀ m, m < n → waM m = 0) → ∀ (H : Heap) (locs : List Loc) (ls : Array Slot), va_P D classes (Xw cI cZ ad (nI K, nI n, nI 0, nI 0, h, nI cn, cl, stX, row, tb, le, re, wa, qu, t, o) ++ Mw cI cZ am (nI K, nI n, nI T, nI cn, cl, stM, row, se, va, waM, kn, to, o, inn)) H → va_D A (Xw cI cZ ad (nI K, nI n, nI 0, nI 0, h, nI cn, cl, stX, row, tb, le, re, wa, qu, t, o) ++ Mw cI cZ am (nI K, nI n, nI T, nI cn, cl, stM, row, se, va, waM, kn, to, o, inn)) → va_S A s.heap H locs → lv_has ls 4 [(3, .int (nI i)), (2, .ref (am 0)), (1, .ref (ad 0)), (0, .ref b)] → W p l e room_1 s m #[Value.ref b] below meth c H locs 18 743 (lw_Z below #[Value.ref b] s) (F0 m 187 ls []) := by
  obtain ⟨hx, hb, hr, hml, hown, hts, hX, hbl, hlocks, hgv⟩ := C0
  have S : CallFix p m c code 4 s #[Value.ref b] gw_tbl R_law := ⟨hx, hb, hml, hown, fun w hw => hts w (List.mem_filter.mp hw).1⟩
  have hbA : ¬ A b := fun q => absurd (hA2 b q) (Nat.not_le.mpr hbl)
  intro n T cn cl stX stM h row se va t o le re wa qu waM kn to inn hn60 hT R0 R1 Mk hwaM H locs ls hP hD hS hl
  refine lv_aload_n hx hb d_law_187 rfl (lv_at hl 2 rfl) ?_
  refine lv_aload_n hx hb d_law_188 rfl (lv_at hl 3 rfl) ?_
  refine lv_iload_n hx hb d_law_189 rfl (lv_at hl 0 rfl) ?_
  refine lv_iconst (v := 1) hx hb d_law_190 (by decide) ?_
  refine lv_iadd hx hb d_law_191 ?_
  refine dc_nrm (y := nI (i + 1)) (nI_add i 1) ?_
  refine dc_sld S hX hbl hbA hS (j := i + 1) rfl (by omega) (by omega) d_law_192 ?_
  refine dc_callI S ok_X_set ml_L_35 (c_X_set l D cI cZ ad (nI n) (nI 0) (nI 0) h (nI cn) cl stX row tb le re wa qu t o (xs (i + 1)) K h0 hK32 htb) (As := [.int (xs (i + 1))]) (rest := []) (wr := (Mw cI cZ am (nI K, nI n, nI T, nI cn, cl, stM, row, se, va, waM, kn, to, o, inn))) ⟨Nat.le_of_ble_eq_true rfl, Nat.le_of_ble_eq_true rfl⟩ ⟨Nat.le_of_ble_eq_true rfl, Nat.le_of_ble_eq_true rfl⟩ hK hP hD hS hA [0, 1, 2, 3, 4, 5, 6, 7, 8] [9, 10, 11, 12, 13, 14, 15, 16, 17] rfl rfl (by decide) (by decide) (by decide) rfl rfl rfl hl rfl (Nat.le_of_ble_eq_true rfl) d_law_193 (fun r1 u1 H locs hw1 hP hD hS => ?_)
  subst hw1
  have hP : va_P D classes (Mw cI cZ am (nI K, nI n, nI T, nI cn, cl, stM, row, se, va, waM, kn, to, o, inn) ++ Xw cI cZ ad (nI K, nI n, nI 0, nI 0, h, nI cn, cl, u1, row, tb, le, re, wa, qu, t, o)) H := hP
  have hD : va_D A (Mw cI cZ am (nI K, nI n, nI T, nI cn, cl, stM, row, se, va, waM, kn, to, o, inn) ++ Xw cI cZ ad (nI K, nI n, nI 0, nI 0, h, nI cn, cl, u1, row, tb, le, re, wa, qu, t, o)) := hD
  refine lv_aload_n hx hb d_law_196 rfl (lv_at hl 1 rfl) ?_
  refine lv_aload_n hx hb d_law_197 rfl (lv_at hl 3 rfl) ?_
  refine lv_iload_n hx hb d_law_198 rfl (lv_at hl 0 rfl) ?_
  refine lv_iconst (v := 1) hx hb d_law_199 (by decide) ?_
  refine lv_iadd hx hb d_law_200 ?_
  refine dc_nrm (y := nI (i + 1)) (nI_add i 1) ?_
  refine dc_sld S hX hbl hbA hS (j := i + 1) rfl (by omega) (by omega) d_law_201 ?_
  refine dc_callI S ok_M_set ml_L_38 (c_M_set l D cI cZ am (nI n) (nI T) (nI cn) cl stM row se va waM kn to o inn (xs (i + 1)) K h0 hK32) (As := [.int (xs (i + 1))]) (rest := [.int (lc_sm K (xs (i + 1)))]) (wr := (Xw cI cZ ad (nI K, nI n, nI 0, nI 0, h, nI cn, cl, u1, row, tb, le, re, wa, qu, t, o))) ⟨Nat.le_of_ble_eq_true rfl, Nat.le_of_ble_eq_true rfl⟩ ⟨Nat.le_of_ble_eq_true rfl, Nat.le_of_ble_eq_true rfl⟩ hK hP hD hS hA [0, 1, 2, 3, 4, 5, 6, 7, 8] [9, 10, 11, 12, 13, 14, 15, 16, 17] rfl rfl (by decide) (by decide) (by decide) rfl rfl rfl hl rfl (Nat.le_of_ble_eq_true rfl) d_law_202 (fun r2 u2 H locs hw2 hP hD hS => ?_)
  subst hw2
  obtain ⟨in2, st2⟩ := u2
  have hP : va_P D classes (Xw cI cZ ad (nI K, nI n, nI 0, nI 0, h, nI cn, cl, u1, row, tb, le, re, wa, qu, t, o) ++ Mw cI cZ am (nI K, nI n, nI T, nI cn, cl, st2, row, se, va, waM, kn, to, o, in2)) H := hP
  have hD : va_D A (Xw cI cZ ad (nI K, nI n, nI 0, nI 0, h, nI cn, cl, u1, row, tb, le, re, wa, qu, t, o) ++ Mw cI cZ am (nI K, nI n, nI T, nI cn, cl, st2, row, se, va, waM, kn, to, o, in2)) := hD
  refine lv_icmp_eq (tgt := 387) hx hb d_law_205 (by decide) (fun hc => ?_) (fun hc => ?_)
  · exact back n T cn cl u1 st2 h row se va t o le re wa qu waM kn to in2 hn60 (by omega) R0 R1 Mk hwaM _ _ ls hP hD hS hl
  · exact absurd (rfl) hc
set_option maxHeartbeats 4000000 in
set_option maxRecDepth 100000 in
theorem law_receive {p : Program} {l : Launch} {e : Env} {s : State} {m : MethodId} {below : List Frame} {meth : Method} {c : Code} {b L : Nat} {xs : Nat → Int32} (hL : L ≤ 1537) (C0 : lw_At p s m meth c b L xs) (A : Nat → Prop) (hA : ∀ q, s.heap.size ≤ q → A q) (hA2 : ∀ q, A q → s.heap.size ≤ q) (D : va_G) (cI cZ : ClassId) (hK : va_K D classes [(cI, .int), (cZ, .boolean)] s) (ad am : Nat → Nat) (K : Nat) (h0 : 0 < K) (hK32 : K ≤ 32) (tb : Nat → Int32) (htb : ∀ d, 1 ≤ d → d ≤ K → tb d = nI (lc_tb K d)) (i : Nat) (hi3 : i + 3 ≤ L) (back : ∀ (n T cn : Nat) (cl stX stM h : Int32) (row se va t o le re wa qu waM kn to inn : Nat → Int32), n ≤ 60 → T ≤ 60 * (i + 1) → ab_Rest K n (fun m => lc_sm K (se m)) h cn → x_Rest n (fun m => lc_sm K (se m)) va h t le re wa → m_Kn K h t kn to → (∀ m, m < n → waM m = 0) → ∀ (H : Heap) (locs : List Loc) (ls : Array Slot), va_P D classes (Xw cI cZ ad (nI K, nI n, nI 0, nI 0, h, nI cn, cl, stX, row, tb, le, re, wa, qu, t, o) ++ Mw cI cZ am (nI K, nI n, nI T, nI cn, cl, stM, row, se, va, waM, kn, to, o, inn)) H → va_D A (Xw cI cZ ad (nI K, nI n, nI 0, nI 0, h, nI cn, cl, stX, row, tb, le, re, wa, qu, t, o) ++ Mw cI cZ am (nI K, nI n, nI T, nI cn, cl, stM, row, se, va, waM, kn, to, o, inn)) → va_S A s.heap H locs → lv_has ls 4 [(3, .int (nI i)), (2, .ref (am 0)), (1, .ref (ad 0)), (0, .ref b)] → W p l e room_1 s m #[Value.ref b] below meth c H locs 18 743 (lw_Z below #[Value.ref b] s) (F0 m 387 ls [])) : ∀ (n T cn : Nat) (cl stX stM h : Int32) (row se va t o le re wa qu waM kn to inn : Nat → Int32), n ≤ 60 → T ≤ 60 * i → ab_Rest K n (fun m => lc_sm K (se m)) h cn → x_Rest n (fun m => lc_sm K (se m)) va h t le re wa → m_Kn K h t kn to → (∀ m, m < n → waM m = 0) → ∀ (H : Heap) (locs : List Loc) (ls : Array Slot), va_P D classes (Xw cI cZ ad (nI K, nI n, nI 0, nI 0, h, nI cn, cl, stX, row, tb, le, re, wa, qu, t, o) ++ Mw cI cZ am (nI K, nI n, nI T, nI cn, cl, stM, row, se, va, waM, kn, to, o, inn)) H → va_D A (Xw cI cZ ad (nI K, nI n, nI 0, nI 0, h, nI cn, cl, stX, row, tb, le, re, wa, qu, t, o) ++ Mw cI cZ am (nI K, nI n, nI T, nI cn, cl, stM, row, se, va, waM, kn, to, o, inn)) → va_S A s.heap H locs → lv_has ls 4 [(3, .int (nI i)), (2, .ref (am 0)), (1, .ref (ad 0)), (0, .ref b)] → W p l e room_1 s m #[Value.ref b] below meth c H locs 18 743 (lw_Z below #[Value.ref b] s) (F0 m 210 ls []) := by
  obtain ⟨hx, hb, hr, hml, hown, hts, hX, hbl, hlocks, hgv⟩ := C0
  have S : CallFix p m c code 4 s #[Value.ref b] gw_tbl R_law := ⟨hx, hb, hml, hown, fun w hw => hts w (List.mem_filter.mp hw).1⟩
  have hbA : ¬ A b := fun q => absurd (hA2 b q) (Nat.not_le.mpr hbl)
  intro n T cn cl stX stM h row se va t o le re wa qu waM kn to inn hn60 hT R0 R1 Mk hwaM H locs ls hP hD hS hl
  rcases Nat.lt_or_ge n 60 with hn | hn
  · refine lv_aload_n hx hb d_law_210 rfl (lv_at hl 2 rfl) ?_
    refine lv_aload_n hx hb d_law_211 rfl (lv_at hl 3 rfl) ?_
    refine lv_iload_n hx hb d_law_212 rfl (lv_at hl 0 rfl) ?_
    refine lv_iconst (v := 1) hx hb d_law_213 (by decide) ?_
    refine lv_iadd hx hb d_law_214 ?_
    refine dc_nrm (y := nI (i + 1)) (nI_add i 1) ?_
    refine dc_sld S hX hbl hbA hS (j := i + 1) rfl (by omega) (by omega) d_law_215 ?_
    refine lv_aload_n hx hb d_law_216 rfl (lv_at hl 3 rfl) ?_
    refine lv_iload_n hx hb d_law_217 rfl (lv_at hl 0 rfl) ?_
    refine lv_iconst (v := 2) hx hb d_law_218 (by decide) ?_
    refine lv_iadd hx hb d_law_219 ?_
    refine dc_nrm (y := nI (i + 2)) (nI_add i 2) ?_
    refine dc_sld S hX hbl hbA hS (j := i + 2) rfl (by omega) (by omega) d_law_220 ?_
    refine dc_callI S ok_X_receive ml_L_39 (c_X_receive l D cI cZ ad cl stX row tb le re wa qu K h0 hK32 htb n (fun m => lc_sm K (se m)) va h t o cn (xs (i + 1)) (xs (i + 2)) hn (fun m _ i hi => lc_sm_in h0 hK32 _ hi) R0 R1) (As := [.int (xs (i + 1)), .int (xs (i + 2))]) (rest := []) (wr := (Mw cI cZ am (nI K, nI n, nI T, nI cn, cl, stM, row, se, va, waM, kn, to, o, inn))) ⟨Nat.le_of_ble_eq_true rfl, Nat.le_of_ble_eq_true rfl⟩ ⟨Nat.le_of_ble_eq_true rfl, Nat.le_of_ble_eq_true rfl⟩ hK hP hD hS hA [0, 1, 2, 3, 4, 5, 6, 7, 8] [9, 10, 11, 12, 13, 14, 15, 16, 17] rfl rfl (by decide) (by decide) (by decide) rfl rfl rfl hl rfl (Nat.le_of_ble_eq_true rfl) d_law_221 (fun r1 u1 H locs hw1 hP hD hS => ?_)
    obtain ⟨a1, st1, le1, re1, wa1, qu1⟩ := u1
    obtain ⟨e1, e2, e3, e4⟩ := hw1
    dsimp only at e1 e2 e3 e4
    subst e2
    have hP : va_P D classes (Mw cI cZ am (nI K, nI n, nI T, nI cn, cl, stM, row, se, va, waM, kn, to, o, inn) ++ Xw cI cZ ad (nI K, nI (n + 1), nI 0, nI 0, a_h a1, nI (a_cn a1), a_cl a1, st1, row, tb, le1, re1, wa1, qu1, a_t a1, a_o a1)) H := hP
    have hD : va_D A (Mw cI cZ am (nI K, nI n, nI T, nI cn, cl, stM, row, se, va, waM, kn, to, o, inn) ++ Xw cI cZ ad (nI K, nI (n + 1), nI 0, nI 0, a_h a1, nI (a_cn a1), a_cl a1, st1, row, tb, le1, re1, wa1, qu1, a_t a1, a_o a1)) := hD
    refine lv_aload_n hx hb d_law_224 rfl (lv_at hl 1 rfl) ?_
    refine lv_aload_n hx hb d_law_225 rfl (lv_at hl 3 rfl) ?_
    refine lv_iload_n hx hb d_law_226 rfl (lv_at hl 0 rfl) ?_
    refine lv_iconst (v := 1) hx hb d_law_227 (by decide) ?_
    refine lv_iadd hx hb d_law_228 ?_
    refine dc_nrm (y := nI (i + 1)) (nI_add i 1) ?_
    refine dc_sld S hX hbl hbA hS (j := i + 1) rfl (by omega) (by omega) d_law_229 ?_
    refine lv_aload_n hx hb d_law_230 rfl (lv_at hl 3 rfl) ?_
    refine lv_iload_n hx hb d_law_231 rfl (lv_at hl 0 rfl) ?_
    refine lv_iconst (v := 2) hx hb d_law_232 (by decide) ?_
    refine lv_iadd hx hb d_law_233 ?_
    refine dc_nrm (y := nI (i + 2)) (nI_add i 2) ?_
    refine dc_sld S hX hbl hbA hS (j := i + 2) rfl (by omega) (by omega) d_law_234 ?_
    refine dc_callI S ok_M_receive ml_L_42 (c_M_receive l D cI cZ am cl stM row se va waM kn to inn K h0 hK32 n T (fun m => lc_sm K (se m)) h t o cn (xs (i + 1)) (xs (i + 2)) hn (by omega) (fun _ => rfl) R0 Mk hwaM) (As := [.int (xs (i + 1)), .int (xs (i + 2))]) (rest := [.int (nI (a_cn a1))]) (wr := (Xw cI cZ ad (nI K, nI (n + 1), nI 0, nI 0, a_h a1, nI (a_cn a1), a_cl a1, st1, row, tb, le1, re1, wa1, qu1, a_t a1, a_o a1))) ⟨Nat.le_of_ble_eq_true rfl, Nat.le_of_ble_eq_true rfl⟩ ⟨Nat.le_of_ble_eq_true rfl, Nat.le_of_ble_eq_true rfl⟩ hK hP hD hS hA [0, 1, 2, 3, 4, 5, 6, 7, 8] [9, 10, 11, 12, 13, 14, 15, 16, 17] rfl rfl (by decide) (by decide) (by decide) rfl rfl rfl hl rfl (Nat.le_of_ble_eq_true rfl) d_law_235 (fun r2 u2 H locs hw2 hP hD hS => ?_)
    obtain ⟨a2, T2, st2, waM2, kn2, to2, in2⟩ := u2
    obtain ⟨f1, f2, f3, f4, f5⟩ := hw2
    dsimp only at f1 f2 f3 f4 f5
    have ea : a2 = a1 := f1.trans e1.symm
    subst ea
    subst f2
    have eS : upd (fun m => lc_sm K (se m)) n (lc_sm K (xs (i + 1))) = fun m => lc_sm K (upd se n (xs (i + 1)) m) := by
      funext m
      by_cases e : m = n
      · rw [e, pk_us, pk_us]
      · rw [pk_un e, pk_un e]
    rw [eS] at e3 e4
    have hP : va_P D classes (Xw cI cZ ad (nI K, nI (n + 1), nI 0, nI 0, a_h a2, nI (a_cn a2), a_cl a2, st1, row, tb, le1, re1, wa1, qu1, a_t a2, a_o a2) ++ Mw cI cZ am (nI K, nI (n + 1), nI T2, nI (a_cn a2), a_cl a2, st2, row, upd se n (xs (i + 1)), upd va n (xs (i + 2)), waM2, kn2, to2, a_o a2, in2)) H := hP
    have hD : va_D A (Xw cI cZ ad (nI K, nI (n + 1), nI 0, nI 0, a_h a2, nI (a_cn a2), a_cl a2, st1, row, tb, le1, re1, wa1, qu1, a_t a2, a_o a2) ++ Mw cI cZ am (nI K, nI (n + 1), nI T2, nI (a_cn a2), a_cl a2, st2, row, upd se n (xs (i + 1)), upd va n (xs (i + 2)), waM2, kn2, to2, a_o a2, in2)) := hD
    refine lv_icmp_eq (tgt := 387) hx hb d_law_238 (by decide) (fun hc => ?_) (fun hc => ?_)
    · exact back (n + 1) T2 (a_cn a2) (a_cl a2) st1 st2 (a_h a2) row (upd se n (xs (i + 1))) (upd va n (xs (i + 2))) (a_t a2) (a_o a2) le1 re1 wa1 qu1 waM2 kn2 to2 in2 hn (by omega) e4 e3 f4 f5 _ _ ls hP hD hS hl
    · exact absurd (rfl) hc
  · have e60 : n = 60 := by omega
    subst e60
    refine lv_aload_n hx hb d_law_210 rfl (lv_at hl 2 rfl) ?_
    refine lv_aload_n hx hb d_law_211 rfl (lv_at hl 3 rfl) ?_
    refine lv_iload_n hx hb d_law_212 rfl (lv_at hl 0 rfl) ?_
    refine lv_iconst (v := 1) hx hb d_law_213 (by decide) ?_
    refine lv_iadd hx hb d_law_214 ?_
    refine dc_nrm (y := nI (i + 1)) (nI_add i 1) ?_
    refine dc_sld S hX hbl hbA hS (j := i + 1) rfl (by omega) (by omega) d_law_215 ?_
    refine lv_aload_n hx hb d_law_216 rfl (lv_at hl 3 rfl) ?_
    refine lv_iload_n hx hb d_law_217 rfl (lv_at hl 0 rfl) ?_
    refine lv_iconst (v := 2) hx hb d_law_218 (by decide) ?_
    refine lv_iadd hx hb d_law_219 ?_
    refine dc_nrm (y := nI (i + 2)) (nI_add i 2) ?_
    refine dc_sld S hX hbl hbA hS (j := i + 2) rfl (by omega) (by omega) d_law_220 ?_
    refine dc_callI S ok_X_receive ml_L_39 (c_X_receive_full l D cI cZ ad (nI K) (nI 0) (nI 0) h (nI cn) cl stX row tb le re wa qu t o (xs (i + 1)) (xs (i + 2))) (As := [.int (xs (i + 1)), .int (xs (i + 2))]) (rest := []) (wr := (Mw cI cZ am (nI K, nI 60, nI T, nI cn, cl, stM, row, se, va, waM, kn, to, o, inn))) ⟨Nat.le_of_ble_eq_true rfl, Nat.le_of_ble_eq_true rfl⟩ ⟨Nat.le_of_ble_eq_true rfl, Nat.le_of_ble_eq_true rfl⟩ hK hP hD hS hA [0, 1, 2, 3, 4, 5, 6, 7, 8] [9, 10, 11, 12, 13, 14, 15, 16, 17] rfl rfl (by decide) (by decide) (by decide) rfl rfl rfl hl rfl (Nat.le_of_ble_eq_true rfl) d_law_221 (fun r1 u1 H locs hw1 hP hD hS => ?_)
    subst hw1
    have hP : va_P D classes (Mw cI cZ am (nI K, nI 60, nI T, nI cn, cl, stM, row, se, va, waM, kn, to, o, inn) ++ Xw cI cZ ad (nI K, nI 60, nI 0, nI 0, h, nI cn, cl, stX, row, tb, le, re, wa, qu, t, o)) H := hP
    have hD : va_D A (Mw cI cZ am (nI K, nI 60, nI T, nI cn, cl, stM, row, se, va, waM, kn, to, o, inn) ++ Xw cI cZ ad (nI K, nI 60, nI 0, nI 0, h, nI cn, cl, stX, row, tb, le, re, wa, qu, t, o)) := hD
    refine lv_aload_n hx hb d_law_224 rfl (lv_at hl 1 rfl) ?_
    refine lv_aload_n hx hb d_law_225 rfl (lv_at hl 3 rfl) ?_
    refine lv_iload_n hx hb d_law_226 rfl (lv_at hl 0 rfl) ?_
    refine lv_iconst (v := 1) hx hb d_law_227 (by decide) ?_
    refine lv_iadd hx hb d_law_228 ?_
    refine dc_nrm (y := nI (i + 1)) (nI_add i 1) ?_
    refine dc_sld S hX hbl hbA hS (j := i + 1) rfl (by omega) (by omega) d_law_229 ?_
    refine lv_aload_n hx hb d_law_230 rfl (lv_at hl 3 rfl) ?_
    refine lv_iload_n hx hb d_law_231 rfl (lv_at hl 0 rfl) ?_
    refine lv_iconst (v := 2) hx hb d_law_232 (by decide) ?_
    refine lv_iadd hx hb d_law_233 ?_
    refine dc_nrm (y := nI (i + 2)) (nI_add i 2) ?_
    refine dc_sld S hX hbl hbA hS (j := i + 2) rfl (by omega) (by omega) d_law_234 ?_
    refine dc_callI S ok_M_receive ml_L_42 (c_M_receive_full l D cI cZ am (nI K) (nI T) (nI cn) cl stM row se va waM kn to o inn (xs (i + 1)) (xs (i + 2))) (As := [.int (xs (i + 1)), .int (xs (i + 2))]) (rest := [.int (-2)]) (wr := (Xw cI cZ ad (nI K, nI 60, nI 0, nI 0, h, nI cn, cl, stX, row, tb, le, re, wa, qu, t, o))) ⟨Nat.le_of_ble_eq_true rfl, Nat.le_of_ble_eq_true rfl⟩ ⟨Nat.le_of_ble_eq_true rfl, Nat.le_of_ble_eq_true rfl⟩ hK hP hD hS hA [0, 1, 2, 3, 4, 5, 6, 7, 8] [9, 10, 11, 12, 13, 14, 15, 16, 17] rfl rfl (by decide) (by decide) (by decide) rfl rfl rfl hl rfl (Nat.le_of_ble_eq_true rfl) d_law_235 (fun r2 u2 H locs hw2 hP hD hS => ?_)
    subst hw2
    have hP : va_P D classes (Xw cI cZ ad (nI K, nI 60, nI 0, nI 0, h, nI cn, cl, stX, row, tb, le, re, wa, qu, t, o) ++ Mw cI cZ am (nI K, nI 60, nI T, nI cn, cl, stM, row, se, va, waM, kn, to, o, inn)) H := hP
    have hD : va_D A (Xw cI cZ ad (nI K, nI 60, nI 0, nI 0, h, nI cn, cl, stX, row, tb, le, re, wa, qu, t, o) ++ Mw cI cZ am (nI K, nI 60, nI T, nI cn, cl, stM, row, se, va, waM, kn, to, o, inn)) := hD
    refine lv_icmp_eq (tgt := 387) hx hb d_law_238 (by decide) (fun hc => ?_) (fun hc => ?_)
    · exact back 60 T cn cl stX stM h row se va t o le re wa qu waM kn to inn hn60 (by omega) R0 R1 Mk hwaM _ _ ls hP hD hS hl
    · exact absurd (rfl) hc
end
section
set_option maxHeartbeats 4000000 in
set_option maxRecDepth 100000 in
theorem law_known {p : Program} {l : Launch} {e : Env} {s : State} {m : MethodId} {below : List Frame} {meth : Method} {c : Code} {b L : Nat} {xs : Nat → Int32} (hL : L ≤ 1537) (C0 : lw_At p s m meth c b L xs) (A : Nat → Prop) (hA : ∀ q, s.heap.size ≤ q → A q) (hA2 : ∀ q, A q → s.heap.size ≤ q) (D : va_G) (cI cZ : ClassId) (hK : va_K D classes [(cI, .int), (cZ, .boolean)] s) (ad am : Nat → Nat) (K : Nat) (h0 : 0 < K) (hK32 : K ≤ 32) (tb : Nat → Int32) (htb : ∀ d, 1 ≤ d → d ≤ K → tb d = nI (lc_tb K d)) (i : Nat) (hi3 : i + 3 ≤ L) (back : ∀ (n T cn : Nat) (cl stX stM h : Int32) (row se va t o le re wa qu waM kn to inn : Nat → Int32), n ≤ 60 → T ≤ 60 * (i + 1) → ab_Rest K n (fun m => lc_sm K (se m)) h cn → x_Rest n (fun m => lc_sm K (se m)) va h t le re wa → m_Kn K h t kn to → (∀ m, m < n → waM m = 0) → ∀ (H : Heap) (locs : List Loc) (ls : Array Slot), va_P D classes (Xw cI cZ ad (nI K, nI n, nI 0, nI 0, h, nI cn, cl, stX, row, tb, le, re, wa, qu, t, o) ++ Mw cI cZ am (nI K, nI n, nI T, nI cn, cl, stM, row, se, va, waM, kn, to, o, inn)) H → va_D A (Xw cI cZ ad (nI K, nI n, nI 0, nI 0, h, nI cn, cl, stX, row, tb, le, re, wa, qu, t, o) ++ Mw cI cZ am (nI K, nI n, nI T, nI cn, cl, stM, row, se, va, waM, kn, to, o, inn)) → va_S A s.heap H locs → lv_has ls 4 [(3, .int (nI i)), (2, .ref (am 0)), (1, .ref (ad 0)), (0, .ref b)] → W p l e room_1 s m #[Value.ref b] below meth c H locs 18 743 (lw_Z below #[Value.ref b] s) (F0 m 387 ls [])) : ∀ (n T cn : Nat) (cl stX stM h : Int32) (row se va t o le re wa qu waM kn to inn : Nat → Int32), n ≤ 60 → T ≤ 60 * i → ab_Rest K n (fun m => lc_sm K (se m)) h cn → x_Rest n (fun m => lc_sm K (se m)) va h t le re wa → m_Kn K h t kn to → (∀ m, m < n → waM m = 0) → ∀ (H : Heap) (locs : List Loc) (ls : Array Slot), va_P D classes (Xw cI cZ ad (nI K, nI n, nI 0, nI 0, h, nI cn, cl, stX, row, tb, le, re, wa, qu, t, o) ++ Mw cI cZ am (nI K, nI n, nI T, nI cn, cl, stM, row, se, va, waM, kn, to, o, inn)) H → va_D A (Xw cI cZ ad (nI K, nI n, nI 0, nI 0, h, nI cn, cl, stX, row, tb, le, re, wa, qu, t, o) ++ Mw cI cZ am (nI K, nI n, nI T, nI cn, cl, stM, row, se, va, waM, kn, to, o, inn)) → va_S A s.heap H locs → lv_has ls 4 [(3, .int (nI i)), (2, .ref (am 0)), (1, .ref (ad 0)), (0, .ref b)] → W p l e room_1 s m #[Value.ref b] below meth c H locs 18 743 (lw_Z below #[Value.ref b] s) (F0 m 243 ls []) := by
  obtain ⟨hx, hb, hr, hml, hown, hts, hX, hbl, hlocks, hgv⟩ := C0
  have S : CallFix p m c code 4 s #[Value.ref b] gw_tbl R_law := ⟨hx, hb, hml, hown, fun w hw => hts w (List.mem_filter.mp hw).1⟩
  have hbA : ¬ A b := fun q => absurd (hA2 b q) (Nat.not_le.mpr hbl)
  intro n T cn cl stX stM h row se va t o le re wa qu waM kn to inn hn60 hT R0 R1 Mk hwaM H locs ls hP hD hS hl
  refine lv_aload_n hx hb d_law_243 rfl (lv_at hl 2 rfl) ?_
  refine lv_aload_n hx hb d_law_244 rfl (lv_at hl 3 rfl) ?_
  refine lv_iload_n hx hb d_law_245 rfl (lv_at hl 0 rfl) ?_
  refine lv_iconst (v := 1) hx hb d_law_246 (by decide) ?_
  refine lv_iadd hx hb d_law_247 ?_
  refine dc_nrm (y := nI (i + 1)) (nI_add i 1) ?_
  refine dc_sld S hX hbl hbA hS (j := i + 1) rfl (by omega) (by omega) d_law_248 ?_
  refine dc_callI S ok_X_known ml_L_43 (c_X_known l D cI cZ ad (nI n) (nI 0) (nI 0) h (nI cn) cl stX row tb le re wa qu t o (xs (i + 1)) K h0 hK32) (As := [.int (xs (i + 1))]) (rest := []) (wr := (Mw cI cZ am (nI K, nI n, nI T, nI cn, cl, stM, row, se, va, waM, kn, to, o, inn))) ⟨Nat.le_of_ble_eq_true rfl, Nat.le_of_ble_eq_true rfl⟩ ⟨Nat.le_of_ble_eq_true rfl, Nat.le_of_ble_eq_true rfl⟩ hK hP hD hS hA [0, 1, 2, 3, 4, 5, 6, 7, 8] [9, 10, 11, 12, 13, 14, 15, 16, 17] rfl rfl (by decide) (by decide) (by decide) rfl rfl rfl hl rfl (Nat.le_of_ble_eq_true rfl) d_law_249 (fun r1 u1 H locs hw1 hP hD hS => ?_)
  subst hw1
  have hP : va_P D classes (Mw cI cZ am (nI K, nI n, nI T, nI cn, cl, stM, row, se, va, waM, kn, to, o, inn) ++ Xw cI cZ ad (nI K, nI n, nI 0, nI 0, h, nI cn, cl, stX, row, tb, le, re, wa, qu, t, o)) H := hP
  have hD : va_D A (Mw cI cZ am (nI K, nI n, nI T, nI cn, cl, stM, row, se, va, waM, kn, to, o, inn) ++ Xw cI cZ ad (nI K, nI n, nI 0, nI 0, h, nI cn, cl, stX, row, tb, le, re, wa, qu, t, o)) := hD
  refine lv_aload_n hx hb d_law_252 rfl (lv_at hl 1 rfl) ?_
  refine lv_aload_n hx hb d_law_253 rfl (lv_at hl 3 rfl) ?_
  refine lv_iload_n hx hb d_law_254 rfl (lv_at hl 0 rfl) ?_
  refine lv_iconst (v := 1) hx hb d_law_255 (by decide) ?_
  refine lv_iadd hx hb d_law_256 ?_
  refine dc_nrm (y := nI (i + 1)) (nI_add i 1) ?_
  refine dc_sld S hX hbl hbA hS (j := i + 1) rfl (by omega) (by omega) d_law_257 ?_
  refine dc_callI S ok_M_known ml_L_46 (c_M_known l D cI cZ am (nI n) (nI T) (nI cn) cl stM row se va waM kn to o inn (xs (i + 1)) h t K h0 hK32 Mk) (As := [.int (xs (i + 1))]) (rest := [.int (if ¬ xs (i + 1) < 0 ∧ xs (i + 1) < nI K then (if bt h (xs (i + 1)).toNatClampNeg = true then 1 else 0) else -1)]) (wr := (Xw cI cZ ad (nI K, nI n, nI 0, nI 0, h, nI cn, cl, stX, row, tb, le, re, wa, qu, t, o))) ⟨Nat.le_of_ble_eq_true rfl, Nat.le_of_ble_eq_true rfl⟩ ⟨Nat.le_of_ble_eq_true rfl, Nat.le_of_ble_eq_true rfl⟩ hK hP hD hS hA [0, 1, 2, 3, 4, 5, 6, 7, 8] [9, 10, 11, 12, 13, 14, 15, 16, 17] rfl rfl (by decide) (by decide) (by decide) rfl rfl rfl hl rfl (Nat.le_of_ble_eq_true rfl) d_law_258 (fun r2 u2 H locs hw2 hP hD hS => ?_)
  subst hw2
  have hP : va_P D classes (Xw cI cZ ad (nI K, nI n, nI 0, nI 0, h, nI cn, cl, stX, row, tb, le, re, wa, qu, t, o) ++ Mw cI cZ am (nI K, nI n, nI T, nI cn, cl, stM, row, se, va, waM, kn, to, o, inn)) H := hP
  have hD : va_D A (Xw cI cZ ad (nI K, nI n, nI 0, nI 0, h, nI cn, cl, stX, row, tb, le, re, wa, qu, t, o) ++ Mw cI cZ am (nI K, nI n, nI T, nI cn, cl, stM, row, se, va, waM, kn, to, o, inn)) := hD
  refine lv_icmp_eq (tgt := 387) hx hb d_law_261 (by decide) (fun hc => ?_) (fun hc => ?_)
  · exact back n T cn cl stX stM h row se va t o le re wa qu waM kn to inn hn60 (by omega) R0 R1 Mk hwaM _ _ ls hP hD hS hl
  · exact absurd (rfl) hc
set_option maxHeartbeats 4000000 in
set_option maxRecDepth 100000 in
theorem law_word {p : Program} {l : Launch} {e : Env} {s : State} {m : MethodId} {below : List Frame} {meth : Method} {c : Code} {b L : Nat} {xs : Nat → Int32} (hL : L ≤ 1537) (C0 : lw_At p s m meth c b L xs) (A : Nat → Prop) (hA : ∀ q, s.heap.size ≤ q → A q) (hA2 : ∀ q, A q → s.heap.size ≤ q) (D : va_G) (cI cZ : ClassId) (hK : va_K D classes [(cI, .int), (cZ, .boolean)] s) (ad am : Nat → Nat) (K : Nat) (h0 : 0 < K) (hK32 : K ≤ 32) (tb : Nat → Int32) (htb : ∀ d, 1 ≤ d → d ≤ K → tb d = nI (lc_tb K d)) (i : Nat) (hi3 : i + 3 ≤ L) (back : ∀ (n T cn : Nat) (cl stX stM h : Int32) (row se va t o le re wa qu waM kn to inn : Nat → Int32), n ≤ 60 → T ≤ 60 * (i + 1) → ab_Rest K n (fun m => lc_sm K (se m)) h cn → x_Rest n (fun m => lc_sm K (se m)) va h t le re wa → m_Kn K h t kn to → (∀ m, m < n → waM m = 0) → ∀ (H : Heap) (locs : List Loc) (ls : Array Slot), va_P D classes (Xw cI cZ ad (nI K, nI n, nI 0, nI 0, h, nI cn, cl, stX, row, tb, le, re, wa, qu, t, o) ++ Mw cI cZ am (nI K, nI n, nI T, nI cn, cl, stM, row, se, va, waM, kn, to, o, inn)) H → va_D A (Xw cI cZ ad (nI K, nI n, nI 0, nI 0, h, nI cn, cl, stX, row, tb, le, re, wa, qu, t, o) ++ Mw cI cZ am (nI K, nI n, nI T, nI cn, cl, stM, row, se, va, waM, kn, to, o, inn)) → va_S A s.heap H locs → lv_has ls 4 [(3, .int (nI i)), (2, .ref (am 0)), (1, .ref (ad 0)), (0, .ref b)] → W p l e room_1 s m #[Value.ref b] below meth c H locs 18 743 (lw_Z below #[Value.ref b] s) (F0 m 387 ls [])) : ∀ (n T cn : Nat) (cl stX stM h : Int32) (row se va t o le re wa qu waM kn to inn : Nat → Int32), n ≤ 60 → T ≤ 60 * i → ab_Rest K n (fun m => lc_sm K (se m)) h cn → x_Rest n (fun m => lc_sm K (se m)) va h t le re wa → m_Kn K h t kn to → (∀ m, m < n → waM m = 0) → ∀ (H : Heap) (locs : List Loc) (ls : Array Slot), va_P D classes (Xw cI cZ ad (nI K, nI n, nI 0, nI 0, h, nI cn, cl, stX, row, tb, le, re, wa, qu, t, o) ++ Mw cI cZ am (nI K, nI n, nI T, nI cn, cl, stM, row, se, va, waM, kn, to, o, inn)) H → va_D A (Xw cI cZ ad (nI K, nI n, nI 0, nI 0, h, nI cn, cl, stX, row, tb, le, re, wa, qu, t, o) ++ Mw cI cZ am (nI K, nI n, nI T, nI cn, cl, stM, row, se, va, waM, kn, to, o, inn)) → va_S A s.heap H locs → lv_has ls 4 [(3, .int (nI i)), (2, .ref (am 0)), (1, .ref (ad 0)), (0, .ref b)] → W p l e room_1 s m #[Value.ref b] below meth c H locs 18 743 (lw_Z below #[Value.ref b] s) (F0 m 266 ls []) := by
  obtain ⟨hx, hb, hr, hml, hown, hts, hX, hbl, hlocks, hgv⟩ := C0
  have S : CallFix p m c code 4 s #[Value.ref b] gw_tbl R_law := ⟨hx, hb, hml, hown, fun w hw => hts w (List.mem_filter.mp hw).1⟩
  have hbA : ¬ A b := fun q => absurd (hA2 b q) (Nat.not_le.mpr hbl)
  intro n T cn cl stX stM h row se va t o le re wa qu waM kn to inn hn60 hT R0 R1 Mk hwaM H locs ls hP hD hS hl
  refine lv_aload_n hx hb d_law_266 rfl (lv_at hl 2 rfl) ?_
  refine lv_aload_n hx hb d_law_267 rfl (lv_at hl 3 rfl) ?_
  refine lv_iload_n hx hb d_law_268 rfl (lv_at hl 0 rfl) ?_
  refine lv_iconst (v := 1) hx hb d_law_269 (by decide) ?_
  refine lv_iadd hx hb d_law_270 ?_
  refine dc_nrm (y := nI (i + 1)) (nI_add i 1) ?_
  refine dc_sld S hX hbl hbA hS (j := i + 1) rfl (by omega) (by omega) d_law_271 ?_
  refine dc_callI S ok_X_word ml_L_47 (c_X_word l D cI cZ ad (nI n) (nI 0) (nI 0) h (nI cn) cl stX row tb le re wa qu t o (xs (i + 1)) K h0 hK32) (As := [.int (xs (i + 1))]) (rest := []) (wr := (Mw cI cZ am (nI K, nI n, nI T, nI cn, cl, stM, row, se, va, waM, kn, to, o, inn))) ⟨Nat.le_of_ble_eq_true rfl, Nat.le_of_ble_eq_true rfl⟩ ⟨Nat.le_of_ble_eq_true rfl, Nat.le_of_ble_eq_true rfl⟩ hK hP hD hS hA [0, 1, 2, 3, 4, 5, 6, 7, 8] [9, 10, 11, 12, 13, 14, 15, 16, 17] rfl rfl (by decide) (by decide) (by decide) rfl rfl rfl hl rfl (Nat.le_of_ble_eq_true rfl) d_law_272 (fun r1 u1 H locs hw1 hP hD hS => ?_)
  subst hw1
  have hP : va_P D classes (Mw cI cZ am (nI K, nI n, nI T, nI cn, cl, stM, row, se, va, waM, kn, to, o, inn) ++ Xw cI cZ ad (nI K, nI n, nI 0, nI 0, h, nI cn, cl, stX, row, tb, le, re, wa, qu, t, o)) H := hP
  have hD : va_D A (Mw cI cZ am (nI K, nI n, nI T, nI cn, cl, stM, row, se, va, waM, kn, to, o, inn) ++ Xw cI cZ ad (nI K, nI n, nI 0, nI 0, h, nI cn, cl, stX, row, tb, le, re, wa, qu, t, o)) := hD
  refine lv_aload_n hx hb d_law_275 rfl (lv_at hl 1 rfl) ?_
  refine lv_aload_n hx hb d_law_276 rfl (lv_at hl 3 rfl) ?_
  refine lv_iload_n hx hb d_law_277 rfl (lv_at hl 0 rfl) ?_
  refine lv_iconst (v := 1) hx hb d_law_278 (by decide) ?_
  refine lv_iadd hx hb d_law_279 ?_
  refine dc_nrm (y := nI (i + 1)) (nI_add i 1) ?_
  refine dc_sld S hX hbl hbA hS (j := i + 1) rfl (by omega) (by omega) d_law_280 ?_
  refine dc_callI S ok_M_word ml_L_50 (c_M_word l D cI cZ am (nI n) (nI T) (nI cn) cl stM row se va waM kn to o inn (xs (i + 1)) h t K h0 hK32 Mk) (As := [.int (xs (i + 1))]) (rest := [.int (if (¬ xs (i + 1) < 0 ∧ xs (i + 1) < nI K) ∧ bt h (xs (i + 1)).toNatClampNeg = true then t (xs (i + 1)).toNatClampNeg else 0)]) (wr := (Xw cI cZ ad (nI K, nI n, nI 0, nI 0, h, nI cn, cl, stX, row, tb, le, re, wa, qu, t, o))) ⟨Nat.le_of_ble_eq_true rfl, Nat.le_of_ble_eq_true rfl⟩ ⟨Nat.le_of_ble_eq_true rfl, Nat.le_of_ble_eq_true rfl⟩ hK hP hD hS hA [0, 1, 2, 3, 4, 5, 6, 7, 8] [9, 10, 11, 12, 13, 14, 15, 16, 17] rfl rfl (by decide) (by decide) (by decide) rfl rfl rfl hl rfl (Nat.le_of_ble_eq_true rfl) d_law_281 (fun r2 u2 H locs hw2 hP hD hS => ?_)
  subst hw2
  have hP : va_P D classes (Xw cI cZ ad (nI K, nI n, nI 0, nI 0, h, nI cn, cl, stX, row, tb, le, re, wa, qu, t, o) ++ Mw cI cZ am (nI K, nI n, nI T, nI cn, cl, stM, row, se, va, waM, kn, to, o, inn)) H := hP
  have hD : va_D A (Xw cI cZ ad (nI K, nI n, nI 0, nI 0, h, nI cn, cl, stX, row, tb, le, re, wa, qu, t, o) ++ Mw cI cZ am (nI K, nI n, nI T, nI cn, cl, stM, row, se, va, waM, kn, to, o, inn)) := hD
  refine lv_icmp_eq (tgt := 387) hx hb d_law_284 (by decide) (fun hc => ?_) (fun hc => ?_)
  · exact back n T cn cl stX stM h row se va t o le re wa qu waM kn to inn hn60 (by omega) R0 R1 Mk hwaM _ _ ls hP hD hS hl
  · exact absurd (rfl) hc
set_option maxHeartbeats 4000000 in
set_option maxRecDepth 100000 in
theorem law_order {p : Program} {l : Launch} {e : Env} {s : State} {m : MethodId} {below : List Frame} {meth : Method} {c : Code} {b L : Nat} {xs : Nat → Int32} (hL : L ≤ 1537) (C0 : lw_At p s m meth c b L xs) (A : Nat → Prop) (hA : ∀ q, s.heap.size ≤ q → A q) (hA2 : ∀ q, A q → s.heap.size ≤ q) (D : va_G) (cI cZ : ClassId) (hK : va_K D classes [(cI, .int), (cZ, .boolean)] s) (ad am : Nat → Nat) (K : Nat) (h0 : 0 < K) (hK32 : K ≤ 32) (tb : Nat → Int32) (htb : ∀ d, 1 ≤ d → d ≤ K → tb d = nI (lc_tb K d)) (i : Nat) (hi3 : i + 3 ≤ L) (back : ∀ (n T cn : Nat) (cl stX stM h : Int32) (row se va t o le re wa qu waM kn to inn : Nat → Int32), n ≤ 60 → T ≤ 60 * (i + 1) → ab_Rest K n (fun m => lc_sm K (se m)) h cn → x_Rest n (fun m => lc_sm K (se m)) va h t le re wa → m_Kn K h t kn to → (∀ m, m < n → waM m = 0) → ∀ (H : Heap) (locs : List Loc) (ls : Array Slot), va_P D classes (Xw cI cZ ad (nI K, nI n, nI 0, nI 0, h, nI cn, cl, stX, row, tb, le, re, wa, qu, t, o) ++ Mw cI cZ am (nI K, nI n, nI T, nI cn, cl, stM, row, se, va, waM, kn, to, o, inn)) H → va_D A (Xw cI cZ ad (nI K, nI n, nI 0, nI 0, h, nI cn, cl, stX, row, tb, le, re, wa, qu, t, o) ++ Mw cI cZ am (nI K, nI n, nI T, nI cn, cl, stM, row, se, va, waM, kn, to, o, inn)) → va_S A s.heap H locs → lv_has ls 4 [(3, .int (nI i)), (2, .ref (am 0)), (1, .ref (ad 0)), (0, .ref b)] → W p l e room_1 s m #[Value.ref b] below meth c H locs 18 743 (lw_Z below #[Value.ref b] s) (F0 m 387 ls [])) : ∀ (n T cn : Nat) (cl stX stM h : Int32) (row se va t o le re wa qu waM kn to inn : Nat → Int32), n ≤ 60 → T ≤ 60 * i → ab_Rest K n (fun m => lc_sm K (se m)) h cn → x_Rest n (fun m => lc_sm K (se m)) va h t le re wa → m_Kn K h t kn to → (∀ m, m < n → waM m = 0) → ∀ (H : Heap) (locs : List Loc) (ls : Array Slot), va_P D classes (Xw cI cZ ad (nI K, nI n, nI 0, nI 0, h, nI cn, cl, stX, row, tb, le, re, wa, qu, t, o) ++ Mw cI cZ am (nI K, nI n, nI T, nI cn, cl, stM, row, se, va, waM, kn, to, o, inn)) H → va_D A (Xw cI cZ ad (nI K, nI n, nI 0, nI 0, h, nI cn, cl, stX, row, tb, le, re, wa, qu, t, o) ++ Mw cI cZ am (nI K, nI n, nI T, nI cn, cl, stM, row, se, va, waM, kn, to, o, inn)) → va_S A s.heap H locs → lv_has ls 4 [(3, .int (nI i)), (2, .ref (am 0)), (1, .ref (ad 0)), (0, .ref b)] → W p l e room_1 s m #[Value.ref b] below meth c H locs 18 743 (lw_Z below #[Value.ref b] s) (F0 m 289 ls []) := by
  obtain ⟨hx, hb, hr, hml, hown, hts, hX, hbl, hlocks, hgv⟩ := C0
  have S : CallFix p m c code 4 s #[Value.ref b] gw_tbl R_law := ⟨hx, hb, hml, hown, fun w hw => hts w (List.mem_filter.mp hw).1⟩
  have hbA : ¬ A b := fun q => absurd (hA2 b q) (Nat.not_le.mpr hbl)
  intro n T cn cl stX stM h row se va t o le re wa qu waM kn to inn hn60 hT R0 R1 Mk hwaM H locs ls hP hD hS hl
  have hcn : cn ≤ 32 := by rw [R0.2.1]; exact pb_pop_le _
  refine lv_aload_n hx hb d_law_289 rfl (lv_at hl 2 rfl) ?_
  refine lv_aload_n hx hb d_law_290 rfl (lv_at hl 3 rfl) ?_
  refine lv_iload_n hx hb d_law_291 rfl (lv_at hl 0 rfl) ?_
  refine lv_iconst (v := 1) hx hb d_law_292 (by decide) ?_
  refine lv_iadd hx hb d_law_293 ?_
  refine dc_nrm (y := nI (i + 1)) (nI_add i 1) ?_
  refine dc_sld S hX hbl hbA hS (j := i + 1) rfl (by omega) (by omega) d_law_294 ?_
  refine dc_callI S ok_X_order ml_L_51 (c_X_order l D cI cZ ad (nI K) (nI n) (nI 0) (nI 0) h cl stX row tb le re wa qu t o (xs (i + 1)) cn hcn) (As := [.int (xs (i + 1))]) (rest := []) (wr := (Mw cI cZ am (nI K, nI n, nI T, nI cn, cl, stM, row, se, va, waM, kn, to, o, inn))) ⟨Nat.le_of_ble_eq_true rfl, Nat.le_of_ble_eq_true rfl⟩ ⟨Nat.le_of_ble_eq_true rfl, Nat.le_of_ble_eq_true rfl⟩ hK hP hD hS hA [0, 1, 2, 3, 4, 5, 6, 7, 8] [9, 10, 11, 12, 13, 14, 15, 16, 17] rfl rfl (by decide) (by decide) (by decide) rfl rfl rfl hl rfl (Nat.le_of_ble_eq_true rfl) d_law_295 (fun r1 u1 H locs hw1 hP hD hS => ?_)
  subst hw1
  have hP : va_P D classes (Mw cI cZ am (nI K, nI n, nI T, nI cn, cl, stM, row, se, va, waM, kn, to, o, inn) ++ Xw cI cZ ad (nI K, nI n, nI 0, nI 0, h, nI cn, cl, stX, row, tb, le, re, wa, qu, t, o)) H := hP
  have hD : va_D A (Mw cI cZ am (nI K, nI n, nI T, nI cn, cl, stM, row, se, va, waM, kn, to, o, inn) ++ Xw cI cZ ad (nI K, nI n, nI 0, nI 0, h, nI cn, cl, stX, row, tb, le, re, wa, qu, t, o)) := hD
  refine lv_aload_n hx hb d_law_298 rfl (lv_at hl 1 rfl) ?_
  refine lv_aload_n hx hb d_law_299 rfl (lv_at hl 3 rfl) ?_
  refine lv_iload_n hx hb d_law_300 rfl (lv_at hl 0 rfl) ?_
  refine lv_iconst (v := 1) hx hb d_law_301 (by decide) ?_
  refine lv_iadd hx hb d_law_302 ?_
  refine dc_nrm (y := nI (i + 1)) (nI_add i 1) ?_
  refine dc_sld S hX hbl hbA hS (j := i + 1) rfl (by omega) (by omega) d_law_303 ?_
  refine dc_callI S ok_M_order ml_L_54 (c_M_order l D cI cZ am (nI K) (nI n) (nI T) cl stM row se va waM kn to o inn (xs (i + 1)) cn hcn) (As := [.int (xs (i + 1))]) (rest := [.int (if ¬ xs (i + 1) < 0 ∧ xs (i + 1) < nI cn then o (xs (i + 1)).toNatClampNeg else -1)]) (wr := (Xw cI cZ ad (nI K, nI n, nI 0, nI 0, h, nI cn, cl, stX, row, tb, le, re, wa, qu, t, o))) ⟨Nat.le_of_ble_eq_true rfl, Nat.le_of_ble_eq_true rfl⟩ ⟨Nat.le_of_ble_eq_true rfl, Nat.le_of_ble_eq_true rfl⟩ hK hP hD hS hA [0, 1, 2, 3, 4, 5, 6, 7, 8] [9, 10, 11, 12, 13, 14, 15, 16, 17] rfl rfl (by decide) (by decide) (by decide) rfl rfl rfl hl rfl (Nat.le_of_ble_eq_true rfl) d_law_304 (fun r2 u2 H locs hw2 hP hD hS => ?_)
  subst hw2
  have hP : va_P D classes (Xw cI cZ ad (nI K, nI n, nI 0, nI 0, h, nI cn, cl, stX, row, tb, le, re, wa, qu, t, o) ++ Mw cI cZ am (nI K, nI n, nI T, nI cn, cl, stM, row, se, va, waM, kn, to, o, inn)) H := hP
  have hD : va_D A (Xw cI cZ ad (nI K, nI n, nI 0, nI 0, h, nI cn, cl, stX, row, tb, le, re, wa, qu, t, o) ++ Mw cI cZ am (nI K, nI n, nI T, nI cn, cl, stM, row, se, va, waM, kn, to, o, inn)) := hD
  refine lv_icmp_eq (tgt := 387) hx hb d_law_307 (by decide) (fun hc => ?_) (fun hc => ?_)
  · exact back n T cn cl stX stM h row se va t o le re wa qu waM kn to inn hn60 (by omega) R0 R1 Mk hwaM _ _ ls hP hD hS hl
  · exact absurd (rfl) hc
set_option maxHeartbeats 4000000 in
set_option maxRecDepth 100000 in
theorem law_open {p : Program} {l : Launch} {e : Env} {s : State} {m : MethodId} {below : List Frame} {meth : Method} {c : Code} {b L : Nat} {xs : Nat → Int32} (hL : L ≤ 1537) (C0 : lw_At p s m meth c b L xs) (A : Nat → Prop) (hA : ∀ q, s.heap.size ≤ q → A q) (hA2 : ∀ q, A q → s.heap.size ≤ q) (D : va_G) (cI cZ : ClassId) (hK : va_K D classes [(cI, .int), (cZ, .boolean)] s) (ad am : Nat → Nat) (K : Nat) (h0 : 0 < K) (hK32 : K ≤ 32) (tb : Nat → Int32) (htb : ∀ d, 1 ≤ d → d ≤ K → tb d = nI (lc_tb K d)) (i : Nat) (hi3 : i + 3 ≤ L) (back : ∀ (n T cn : Nat) (cl stX stM h : Int32) (row se va t o le re wa qu waM kn to inn : Nat → Int32), n ≤ 60 → T ≤ 60 * (i + 1) → ab_Rest K n (fun m => lc_sm K (se m)) h cn → x_Rest n (fun m => lc_sm K (se m)) va h t le re wa → m_Kn K h t kn to → (∀ m, m < n → waM m = 0) → ∀ (H : Heap) (locs : List Loc) (ls : Array Slot), va_P D classes (Xw cI cZ ad (nI K, nI n, nI 0, nI 0, h, nI cn, cl, stX, row, tb, le, re, wa, qu, t, o) ++ Mw cI cZ am (nI K, nI n, nI T, nI cn, cl, stM, row, se, va, waM, kn, to, o, inn)) H → va_D A (Xw cI cZ ad (nI K, nI n, nI 0, nI 0, h, nI cn, cl, stX, row, tb, le, re, wa, qu, t, o) ++ Mw cI cZ am (nI K, nI n, nI T, nI cn, cl, stM, row, se, va, waM, kn, to, o, inn)) → va_S A s.heap H locs → lv_has ls 4 [(3, .int (nI i)), (2, .ref (am 0)), (1, .ref (ad 0)), (0, .ref b)] → W p l e room_1 s m #[Value.ref b] below meth c H locs 18 743 (lw_Z below #[Value.ref b] s) (F0 m 387 ls [])) : ∀ (n T cn : Nat) (cl stX stM h : Int32) (row se va t o le re wa qu waM kn to inn : Nat → Int32), n ≤ 60 → T ≤ 60 * i → ab_Rest K n (fun m => lc_sm K (se m)) h cn → x_Rest n (fun m => lc_sm K (se m)) va h t le re wa → m_Kn K h t kn to → (∀ m, m < n → waM m = 0) → ∀ (H : Heap) (locs : List Loc) (ls : Array Slot), va_P D classes (Xw cI cZ ad (nI K, nI n, nI 0, nI 0, h, nI cn, cl, stX, row, tb, le, re, wa, qu, t, o) ++ Mw cI cZ am (nI K, nI n, nI T, nI cn, cl, stM, row, se, va, waM, kn, to, o, inn)) H → va_D A (Xw cI cZ ad (nI K, nI n, nI 0, nI 0, h, nI cn, cl, stX, row, tb, le, re, wa, qu, t, o) ++ Mw cI cZ am (nI K, nI n, nI T, nI cn, cl, stM, row, se, va, waM, kn, to, o, inn)) → va_S A s.heap H locs → lv_has ls 4 [(3, .int (nI i)), (2, .ref (am 0)), (1, .ref (ad 0)), (0, .ref b)] → W p l e room_1 s m #[Value.ref b] below meth c H locs 18 743 (lw_Z below #[Value.ref b] s) (F0 m 312 ls []) := by
  obtain ⟨hx, hb, hr, hml, hown, hts, hX, hbl, hlocks, hgv⟩ := C0
  have S : CallFix p m c code 4 s #[Value.ref b] gw_tbl R_law := ⟨hx, hb, hml, hown, fun w hw => hts w (List.mem_filter.mp hw).1⟩
  have hbA : ¬ A b := fun q => absurd (hA2 b q) (Nat.not_le.mpr hbl)
  intro n T cn cl stX stM h row se va t o le re wa qu waM kn to inn hn60 hT R0 R1 Mk hwaM H locs ls hP hD hS hl
  refine lv_aload_n hx hb d_law_312 rfl (lv_at hl 2 rfl) ?_
  refine lv_aload_n hx hb d_law_313 rfl (lv_at hl 3 rfl) ?_
  refine lv_iload_n hx hb d_law_314 rfl (lv_at hl 0 rfl) ?_
  refine lv_iconst (v := 1) hx hb d_law_315 (by decide) ?_
  refine lv_iadd hx hb d_law_316 ?_
  refine dc_nrm (y := nI (i + 1)) (nI_add i 1) ?_
  refine dc_sld S hX hbl hbA hS (j := i + 1) rfl (by omega) (by omega) d_law_317 ?_
  refine dc_callI S ok_X_open ml_L_55 (c_X_open l D cI cZ ad (nI K) (nI 0) (nI 0) h (nI cn) cl stX row tb le re wa qu t o (xs (i + 1)) n hn60) (As := [.int (xs (i + 1))]) (rest := []) (wr := (Mw cI cZ am (nI K, nI n, nI T, nI cn, cl, stM, row, se, va, waM, kn, to, o, inn))) ⟨Nat.le_of_ble_eq_true rfl, Nat.le_of_ble_eq_true rfl⟩ ⟨Nat.le_of_ble_eq_true rfl, Nat.le_of_ble_eq_true rfl⟩ hK hP hD hS hA [0, 1, 2, 3, 4, 5, 6, 7, 8] [9, 10, 11, 12, 13, 14, 15, 16, 17] rfl rfl (by decide) (by decide) (by decide) rfl rfl rfl hl rfl (Nat.le_of_ble_eq_true rfl) d_law_318 (fun r1 u1 H locs hw1 hP hD hS => ?_)
  subst hw1
  have hP : va_P D classes (Mw cI cZ am (nI K, nI n, nI T, nI cn, cl, stM, row, se, va, waM, kn, to, o, inn) ++ Xw cI cZ ad (nI K, nI n, nI 0, nI 0, h, nI cn, cl, stX, row, tb, le, re, wa, qu, t, o)) H := hP
  have hD : va_D A (Mw cI cZ am (nI K, nI n, nI T, nI cn, cl, stM, row, se, va, waM, kn, to, o, inn) ++ Xw cI cZ ad (nI K, nI n, nI 0, nI 0, h, nI cn, cl, stX, row, tb, le, re, wa, qu, t, o)) := hD
  refine lv_aload_n hx hb d_law_321 rfl (lv_at hl 1 rfl) ?_
  refine lv_aload_n hx hb d_law_322 rfl (lv_at hl 3 rfl) ?_
  refine lv_iload_n hx hb d_law_323 rfl (lv_at hl 0 rfl) ?_
  refine lv_iconst (v := 1) hx hb d_law_324 (by decide) ?_
  refine lv_iadd hx hb d_law_325 ?_
  refine dc_nrm (y := nI (i + 1)) (nI_add i 1) ?_
  refine dc_sld S hX hbl hbA hS (j := i + 1) rfl (by omega) (by omega) d_law_326 ?_
  refine dc_callI S ok_M_open ml_L_58 (c_M_open l D cI cZ am (nI T) (nI cn) cl stM row se va waM kn to o inn (xs (i + 1)) n h t K h0 hK32 hn60 Mk) (As := [.int (xs (i + 1))]) (rest := [.int (if ¬ xs (i + 1) < 0 ∧ xs (i + 1) < nI n then nI (pb_pop (le (xs (i + 1)).toNatClampNeg)) else -1)]) (wr := (Xw cI cZ ad (nI K, nI n, nI 0, nI 0, h, nI cn, cl, stX, row, tb, le, re, wa, qu, t, o))) ⟨Nat.le_of_ble_eq_true rfl, Nat.le_of_ble_eq_true rfl⟩ ⟨Nat.le_of_ble_eq_true rfl, Nat.le_of_ble_eq_true rfl⟩ hK hP hD hS hA [0, 1, 2, 3, 4, 5, 6, 7, 8] [9, 10, 11, 12, 13, 14, 15, 16, 17] rfl rfl (by decide) (by decide) (by decide) rfl rfl rfl hl rfl (Nat.le_of_ble_eq_true rfl) d_law_327 (fun r2 u2 H locs hw2 hP hD hS => ?_)
  obtain ⟨in2, st2⟩ := u2
  have hP : va_P D classes (Xw cI cZ ad (nI K, nI n, nI 0, nI 0, h, nI cn, cl, stX, row, tb, le, re, wa, qu, t, o) ++ Mw cI cZ am (nI K, nI n, nI T, nI cn, cl, st2, row, se, va, waM, kn, to, o, in2)) H := hP
  have hD : va_D A (Xw cI cZ ad (nI K, nI n, nI 0, nI 0, h, nI cn, cl, stX, row, tb, le, re, wa, qu, t, o) ++ Mw cI cZ am (nI K, nI n, nI T, nI cn, cl, st2, row, se, va, waM, kn, to, o, in2)) := hD
  have er : (if ¬ xs (i + 1) < 0 ∧ xs (i + 1) < nI n then nI (pb_pop (le (xs (i + 1)).toNatClampNeg)) else -1) = r2 := by
    rw [hw2]
    by_cases q : ¬ xs (i + 1) < 0 ∧ xs (i + 1) < nI n
    · rw [if_pos q, if_pos q]
      rcases pk_ix (xs (i + 1)) (n := n) (by omega) with z | z | ⟨j, hj, z⟩
      · exact absurd z q.1
      · exact absurd q.2 (Int32.not_lt.mpr z)
      · rw [z, nI_clamp (by omega), R1.1 j hj]
    · rw [if_neg q, if_neg q]
  refine lv_icmp_eq (tgt := 387) hx hb d_law_330 (by decide) (fun hc => ?_) (fun hc => ?_)
  · exact back n T cn cl stX st2 h row se va t o le re wa qu waM kn to in2 hn60 (by omega) R0 R1 Mk hwaM _ _ ls hP hD hS hl
  · exact absurd (er) hc
set_option maxHeartbeats 4000000 in
set_option maxRecDepth 100000 in
theorem law_drops {p : Program} {l : Launch} {e : Env} {s : State} {m : MethodId} {below : List Frame} {meth : Method} {c : Code} {b L : Nat} {xs : Nat → Int32} (hL : L ≤ 1537) (C0 : lw_At p s m meth c b L xs) (A : Nat → Prop) (hA : ∀ q, s.heap.size ≤ q → A q) (hA2 : ∀ q, A q → s.heap.size ≤ q) (D : va_G) (cI cZ : ClassId) (hK : va_K D classes [(cI, .int), (cZ, .boolean)] s) (ad am : Nat → Nat) (K : Nat) (h0 : 0 < K) (hK32 : K ≤ 32) (tb : Nat → Int32) (htb : ∀ d, 1 ≤ d → d ≤ K → tb d = nI (lc_tb K d)) (i : Nat) (hi3 : i + 3 ≤ L) (back : ∀ (n T cn : Nat) (cl stX stM h : Int32) (row se va t o le re wa qu waM kn to inn : Nat → Int32), n ≤ 60 → T ≤ 60 * (i + 1) → ab_Rest K n (fun m => lc_sm K (se m)) h cn → x_Rest n (fun m => lc_sm K (se m)) va h t le re wa → m_Kn K h t kn to → (∀ m, m < n → waM m = 0) → ∀ (H : Heap) (locs : List Loc) (ls : Array Slot), va_P D classes (Xw cI cZ ad (nI K, nI n, nI 0, nI 0, h, nI cn, cl, stX, row, tb, le, re, wa, qu, t, o) ++ Mw cI cZ am (nI K, nI n, nI T, nI cn, cl, stM, row, se, va, waM, kn, to, o, inn)) H → va_D A (Xw cI cZ ad (nI K, nI n, nI 0, nI 0, h, nI cn, cl, stX, row, tb, le, re, wa, qu, t, o) ++ Mw cI cZ am (nI K, nI n, nI T, nI cn, cl, stM, row, se, va, waM, kn, to, o, inn)) → va_S A s.heap H locs → lv_has ls 4 [(3, .int (nI i)), (2, .ref (am 0)), (1, .ref (ad 0)), (0, .ref b)] → W p l e room_1 s m #[Value.ref b] below meth c H locs 18 743 (lw_Z below #[Value.ref b] s) (F0 m 387 ls [])) : ∀ (n T cn : Nat) (cl stX stM h : Int32) (row se va t o le re wa qu waM kn to inn : Nat → Int32), n ≤ 60 → T ≤ 60 * i → ab_Rest K n (fun m => lc_sm K (se m)) h cn → x_Rest n (fun m => lc_sm K (se m)) va h t le re wa → m_Kn K h t kn to → (∀ m, m < n → waM m = 0) → ∀ (H : Heap) (locs : List Loc) (ls : Array Slot), va_P D classes (Xw cI cZ ad (nI K, nI n, nI 0, nI 0, h, nI cn, cl, stX, row, tb, le, re, wa, qu, t, o) ++ Mw cI cZ am (nI K, nI n, nI T, nI cn, cl, stM, row, se, va, waM, kn, to, o, inn)) H → va_D A (Xw cI cZ ad (nI K, nI n, nI 0, nI 0, h, nI cn, cl, stX, row, tb, le, re, wa, qu, t, o) ++ Mw cI cZ am (nI K, nI n, nI T, nI cn, cl, stM, row, se, va, waM, kn, to, o, inn)) → va_S A s.heap H locs → lv_has ls 4 [(3, .int (nI i)), (2, .ref (am 0)), (1, .ref (ad 0)), (0, .ref b)] → W p l e room_1 s m #[Value.ref b] below meth c H locs 18 743 (lw_Z below #[Value.ref b] s) (F0 m 335 ls []) := by
  obtain ⟨hx, hb, hr, hml, hown, hts, hX, hbl, hlocks, hgv⟩ := C0
  have S : CallFix p m c code 4 s #[Value.ref b] gw_tbl R_law := ⟨hx, hb, hml, hown, fun w hw => hts w (List.mem_filter.mp hw).1⟩
  have hbA : ¬ A b := fun q => absurd (hA2 b q) (Nat.not_le.mpr hbl)
  intro n T cn cl stX stM h row se va t o le re wa qu waM kn to inn hn60 hT R0 R1 Mk hwaM H locs ls hP hD hS hl
  refine lv_aload_n hx hb d_law_335 rfl (lv_at hl 2 rfl) ?_
  refine dc_callI S ok_X_drops ml_L_59 (c_X_drops l D cI cZ ad (nI K) (nI n) (nI 0) (nI 0) h (nI cn) cl stX row tb le re wa qu t o) (As := []) (rest := []) (wr := (Mw cI cZ am (nI K, nI n, nI T, nI cn, cl, stM, row, se, va, waM, kn, to, o, inn))) ⟨Nat.le_of_ble_eq_true rfl, Nat.le_of_ble_eq_true rfl⟩ ⟨Nat.le_of_ble_eq_true rfl, Nat.le_of_ble_eq_true rfl⟩ hK hP hD hS hA [0, 1, 2, 3, 4, 5, 6, 7, 8] [9, 10, 11, 12, 13, 14, 15, 16, 17] rfl rfl (by decide) (by decide) (by decide) rfl rfl rfl hl rfl (Nat.le_of_ble_eq_true rfl) d_law_336 (fun r1 u1 H locs hw1 hP hD hS => ?_)
  have hP : va_P D classes (Mw cI cZ am (nI K, nI n, nI T, nI cn, cl, stM, row, se, va, waM, kn, to, o, inn) ++ Xw cI cZ ad (nI K, nI n, nI 0, nI 0, h, nI cn, cl, stX, row, tb, le, re, wa, qu, t, o)) H := hP
  have hD : va_D A (Mw cI cZ am (nI K, nI n, nI T, nI cn, cl, stM, row, se, va, waM, kn, to, o, inn) ++ Xw cI cZ ad (nI K, nI n, nI 0, nI 0, h, nI cn, cl, stX, row, tb, le, re, wa, qu, t, o)) := hD
  refine lv_aload_n hx hb d_law_339 rfl (lv_at hl 1 rfl) ?_
  refine dc_callI S ok_M_drops ml_L_63 (c_M_drops l D cI cZ am (nI K) (nI n) (nI T) (nI cn) cl stM row se va waM kn to o inn) (As := []) (rest := [.int r1]) (wr := (Xw cI cZ ad (nI K, nI n, nI 0, nI 0, h, nI cn, cl, stX, row, tb, le, re, wa, qu, t, o))) ⟨Nat.le_of_ble_eq_true rfl, Nat.le_of_ble_eq_true rfl⟩ ⟨Nat.le_of_ble_eq_true rfl, Nat.le_of_ble_eq_true rfl⟩ hK hP hD hS hA [0, 1, 2, 3, 4, 5, 6, 7, 8] [9, 10, 11, 12, 13, 14, 15, 16, 17] rfl rfl (by decide) (by decide) (by decide) rfl rfl rfl hl rfl (Nat.le_of_ble_eq_true rfl) d_law_340 (fun r2 u2 H locs hw2 hP hD hS => ?_)
  have hP : va_P D classes (Xw cI cZ ad (nI K, nI n, nI 0, nI 0, h, nI cn, cl, stX, row, tb, le, re, wa, qu, t, o) ++ Mw cI cZ am (nI K, nI n, nI T, nI cn, cl, stM, row, se, va, waM, kn, to, o, inn)) H := hP
  have hD : va_D A (Xw cI cZ ad (nI K, nI n, nI 0, nI 0, h, nI cn, cl, stX, row, tb, le, re, wa, qu, t, o) ++ Mw cI cZ am (nI K, nI n, nI T, nI cn, cl, stM, row, se, va, waM, kn, to, o, inn)) := hD
  refine lv_icmp_eq (tgt := 387) hx hb d_law_343 (by decide) (fun hc => ?_) (fun hc => ?_)
  · exact back n T cn cl stX stM h row se va t o le re wa qu waM kn to inn hn60 (by omega) R0 R1 Mk hwaM _ _ ls hP hD hS hl
  · exact absurd (hw1.trans hw2.symm) hc
set_option maxHeartbeats 4000000 in
set_option maxRecDepth 100000 in
theorem law_count {p : Program} {l : Launch} {e : Env} {s : State} {m : MethodId} {below : List Frame} {meth : Method} {c : Code} {b L : Nat} {xs : Nat → Int32} (hL : L ≤ 1537) (C0 : lw_At p s m meth c b L xs) (A : Nat → Prop) (hA : ∀ q, s.heap.size ≤ q → A q) (hA2 : ∀ q, A q → s.heap.size ≤ q) (D : va_G) (cI cZ : ClassId) (hK : va_K D classes [(cI, .int), (cZ, .boolean)] s) (ad am : Nat → Nat) (K : Nat) (h0 : 0 < K) (hK32 : K ≤ 32) (tb : Nat → Int32) (htb : ∀ d, 1 ≤ d → d ≤ K → tb d = nI (lc_tb K d)) (i : Nat) (hi3 : i + 3 ≤ L) (back : ∀ (n T cn : Nat) (cl stX stM h : Int32) (row se va t o le re wa qu waM kn to inn : Nat → Int32), n ≤ 60 → T ≤ 60 * (i + 1) → ab_Rest K n (fun m => lc_sm K (se m)) h cn → x_Rest n (fun m => lc_sm K (se m)) va h t le re wa → m_Kn K h t kn to → (∀ m, m < n → waM m = 0) → ∀ (H : Heap) (locs : List Loc) (ls : Array Slot), va_P D classes (Xw cI cZ ad (nI K, nI n, nI 0, nI 0, h, nI cn, cl, stX, row, tb, le, re, wa, qu, t, o) ++ Mw cI cZ am (nI K, nI n, nI T, nI cn, cl, stM, row, se, va, waM, kn, to, o, inn)) H → va_D A (Xw cI cZ ad (nI K, nI n, nI 0, nI 0, h, nI cn, cl, stX, row, tb, le, re, wa, qu, t, o) ++ Mw cI cZ am (nI K, nI n, nI T, nI cn, cl, stM, row, se, va, waM, kn, to, o, inn)) → va_S A s.heap H locs → lv_has ls 4 [(3, .int (nI i)), (2, .ref (am 0)), (1, .ref (ad 0)), (0, .ref b)] → W p l e room_1 s m #[Value.ref b] below meth c H locs 18 743 (lw_Z below #[Value.ref b] s) (F0 m 387 ls [])) : ∀ (n T cn : Nat) (cl stX stM h : Int32) (row se va t o le re wa qu waM kn to inn : Nat → Int32), n ≤ 60 → T ≤ 60 * i → ab_Rest K n (fun m => lc_sm K (se m)) h cn → x_Rest n (fun m => lc_sm K (se m)) va h t le re wa → m_Kn K h t kn to → (∀ m, m < n → waM m = 0) → ∀ (H : Heap) (locs : List Loc) (ls : Array Slot), va_P D classes (Xw cI cZ ad (nI K, nI n, nI 0, nI 0, h, nI cn, cl, stX, row, tb, le, re, wa, qu, t, o) ++ Mw cI cZ am (nI K, nI n, nI T, nI cn, cl, stM, row, se, va, waM, kn, to, o, inn)) H → va_D A (Xw cI cZ ad (nI K, nI n, nI 0, nI 0, h, nI cn, cl, stX, row, tb, le, re, wa, qu, t, o) ++ Mw cI cZ am (nI K, nI n, nI T, nI cn, cl, stM, row, se, va, waM, kn, to, o, inn)) → va_S A s.heap H locs → lv_has ls 4 [(3, .int (nI i)), (2, .ref (am 0)), (1, .ref (ad 0)), (0, .ref b)] → W p l e room_1 s m #[Value.ref b] below meth c H locs 18 743 (lw_Z below #[Value.ref b] s) (F0 m 348 ls []) := by
  obtain ⟨hx, hb, hr, hml, hown, hts, hX, hbl, hlocks, hgv⟩ := C0
  have S : CallFix p m c code 4 s #[Value.ref b] gw_tbl R_law := ⟨hx, hb, hml, hown, fun w hw => hts w (List.mem_filter.mp hw).1⟩
  have hbA : ¬ A b := fun q => absurd (hA2 b q) (Nat.not_le.mpr hbl)
  intro n T cn cl stX stM h row se va t o le re wa qu waM kn to inn hn60 hT R0 R1 Mk hwaM H locs ls hP hD hS hl
  refine lv_aload_n hx hb d_law_348 rfl (lv_at hl 2 rfl) ?_
  refine dc_callI S ok_X_count ml_L_64 (c_X_count l D cI cZ ad (nI K) (nI n) (nI 0) (nI 0) h (nI cn) cl stX row tb le re wa qu t o) (As := []) (rest := []) (wr := (Mw cI cZ am (nI K, nI n, nI T, nI cn, cl, stM, row, se, va, waM, kn, to, o, inn))) ⟨Nat.le_of_ble_eq_true rfl, Nat.le_of_ble_eq_true rfl⟩ ⟨Nat.le_of_ble_eq_true rfl, Nat.le_of_ble_eq_true rfl⟩ hK hP hD hS hA [0, 1, 2, 3, 4, 5, 6, 7, 8] [9, 10, 11, 12, 13, 14, 15, 16, 17] rfl rfl (by decide) (by decide) (by decide) rfl rfl rfl hl rfl (Nat.le_of_ble_eq_true rfl) d_law_349 (fun r1 u1 H locs hw1 hP hD hS => ?_)
  have hP : va_P D classes (Mw cI cZ am (nI K, nI n, nI T, nI cn, cl, stM, row, se, va, waM, kn, to, o, inn) ++ Xw cI cZ ad (nI K, nI n, nI 0, nI 0, h, nI cn, cl, stX, row, tb, le, re, wa, qu, t, o)) H := hP
  have hD : va_D A (Mw cI cZ am (nI K, nI n, nI T, nI cn, cl, stM, row, se, va, waM, kn, to, o, inn) ++ Xw cI cZ ad (nI K, nI n, nI 0, nI 0, h, nI cn, cl, stX, row, tb, le, re, wa, qu, t, o)) := hD
  refine lv_aload_n hx hb d_law_352 rfl (lv_at hl 1 rfl) ?_
  refine dc_callI S ok_M_count ml_L_67 (c_M_count l D cI cZ am (nI K) (nI n) (nI T) (nI cn) cl stM row se va waM kn to o inn) (As := []) (rest := [.int r1]) (wr := (Xw cI cZ ad (nI K, nI n, nI 0, nI 0, h, nI cn, cl, stX, row, tb, le, re, wa, qu, t, o))) ⟨Nat.le_of_ble_eq_true rfl, Nat.le_of_ble_eq_true rfl⟩ ⟨Nat.le_of_ble_eq_true rfl, Nat.le_of_ble_eq_true rfl⟩ hK hP hD hS hA [0, 1, 2, 3, 4, 5, 6, 7, 8] [9, 10, 11, 12, 13, 14, 15, 16, 17] rfl rfl (by decide) (by decide) (by decide) rfl rfl rfl hl rfl (Nat.le_of_ble_eq_true rfl) d_law_353 (fun r2 u2 H locs hw2 hP hD hS => ?_)
  have hP : va_P D classes (Xw cI cZ ad (nI K, nI n, nI 0, nI 0, h, nI cn, cl, stX, row, tb, le, re, wa, qu, t, o) ++ Mw cI cZ am (nI K, nI n, nI T, nI cn, cl, stM, row, se, va, waM, kn, to, o, inn)) H := hP
  have hD : va_D A (Xw cI cZ ad (nI K, nI n, nI 0, nI 0, h, nI cn, cl, stX, row, tb, le, re, wa, qu, t, o) ++ Mw cI cZ am (nI K, nI n, nI T, nI cn, cl, stM, row, se, va, waM, kn, to, o, inn)) := hD
  refine lv_icmp_eq (tgt := 387) hx hb d_law_356 (by decide) (fun hc => ?_) (fun hc => ?_)
  · exact back n T cn cl stX stM h row se va t o le re wa qu waM kn to inn hn60 (by omega) R0 R1 Mk hwaM _ _ ls hP hD hS hl
  · exact absurd (hw1.trans hw2.symm) hc
set_option maxHeartbeats 4000000 in
set_option maxRecDepth 100000 in
theorem law_clashes {p : Program} {l : Launch} {e : Env} {s : State} {m : MethodId} {below : List Frame} {meth : Method} {c : Code} {b L : Nat} {xs : Nat → Int32} (hL : L ≤ 1537) (C0 : lw_At p s m meth c b L xs) (A : Nat → Prop) (hA : ∀ q, s.heap.size ≤ q → A q) (hA2 : ∀ q, A q → s.heap.size ≤ q) (D : va_G) (cI cZ : ClassId) (hK : va_K D classes [(cI, .int), (cZ, .boolean)] s) (ad am : Nat → Nat) (K : Nat) (h0 : 0 < K) (hK32 : K ≤ 32) (tb : Nat → Int32) (htb : ∀ d, 1 ≤ d → d ≤ K → tb d = nI (lc_tb K d)) (i : Nat) (hi3 : i + 3 ≤ L) (back : ∀ (n T cn : Nat) (cl stX stM h : Int32) (row se va t o le re wa qu waM kn to inn : Nat → Int32), n ≤ 60 → T ≤ 60 * (i + 1) → ab_Rest K n (fun m => lc_sm K (se m)) h cn → x_Rest n (fun m => lc_sm K (se m)) va h t le re wa → m_Kn K h t kn to → (∀ m, m < n → waM m = 0) → ∀ (H : Heap) (locs : List Loc) (ls : Array Slot), va_P D classes (Xw cI cZ ad (nI K, nI n, nI 0, nI 0, h, nI cn, cl, stX, row, tb, le, re, wa, qu, t, o) ++ Mw cI cZ am (nI K, nI n, nI T, nI cn, cl, stM, row, se, va, waM, kn, to, o, inn)) H → va_D A (Xw cI cZ ad (nI K, nI n, nI 0, nI 0, h, nI cn, cl, stX, row, tb, le, re, wa, qu, t, o) ++ Mw cI cZ am (nI K, nI n, nI T, nI cn, cl, stM, row, se, va, waM, kn, to, o, inn)) → va_S A s.heap H locs → lv_has ls 4 [(3, .int (nI i)), (2, .ref (am 0)), (1, .ref (ad 0)), (0, .ref b)] → W p l e room_1 s m #[Value.ref b] below meth c H locs 18 743 (lw_Z below #[Value.ref b] s) (F0 m 387 ls [])) : ∀ (n T cn : Nat) (cl stX stM h : Int32) (row se va t o le re wa qu waM kn to inn : Nat → Int32), n ≤ 60 → T ≤ 60 * i → ab_Rest K n (fun m => lc_sm K (se m)) h cn → x_Rest n (fun m => lc_sm K (se m)) va h t le re wa → m_Kn K h t kn to → (∀ m, m < n → waM m = 0) → ∀ (H : Heap) (locs : List Loc) (ls : Array Slot), va_P D classes (Xw cI cZ ad (nI K, nI n, nI 0, nI 0, h, nI cn, cl, stX, row, tb, le, re, wa, qu, t, o) ++ Mw cI cZ am (nI K, nI n, nI T, nI cn, cl, stM, row, se, va, waM, kn, to, o, inn)) H → va_D A (Xw cI cZ ad (nI K, nI n, nI 0, nI 0, h, nI cn, cl, stX, row, tb, le, re, wa, qu, t, o) ++ Mw cI cZ am (nI K, nI n, nI T, nI cn, cl, stM, row, se, va, waM, kn, to, o, inn)) → va_S A s.heap H locs → lv_has ls 4 [(3, .int (nI i)), (2, .ref (am 0)), (1, .ref (ad 0)), (0, .ref b)] → W p l e room_1 s m #[Value.ref b] below meth c H locs 18 743 (lw_Z below #[Value.ref b] s) (F0 m 361 ls []) := by
  obtain ⟨hx, hb, hr, hml, hown, hts, hX, hbl, hlocks, hgv⟩ := C0
  have S : CallFix p m c code 4 s #[Value.ref b] gw_tbl R_law := ⟨hx, hb, hml, hown, fun w hw => hts w (List.mem_filter.mp hw).1⟩
  have hbA : ¬ A b := fun q => absurd (hA2 b q) (Nat.not_le.mpr hbl)
  intro n T cn cl stX stM h row se va t o le re wa qu waM kn to inn hn60 hT R0 R1 Mk hwaM H locs ls hP hD hS hl
  refine lv_aload_n hx hb d_law_361 rfl (lv_at hl 2 rfl) ?_
  refine dc_callI S ok_X_clashes ml_L_68 (c_X_clashes l D cI cZ ad (nI K) (nI n) (nI 0) (nI 0) h (nI cn) cl stX row tb le re wa qu t o) (As := []) (rest := []) (wr := (Mw cI cZ am (nI K, nI n, nI T, nI cn, cl, stM, row, se, va, waM, kn, to, o, inn))) ⟨Nat.le_of_ble_eq_true rfl, Nat.le_of_ble_eq_true rfl⟩ ⟨Nat.le_of_ble_eq_true rfl, Nat.le_of_ble_eq_true rfl⟩ hK hP hD hS hA [0, 1, 2, 3, 4, 5, 6, 7, 8] [9, 10, 11, 12, 13, 14, 15, 16, 17] rfl rfl (by decide) (by decide) (by decide) rfl rfl rfl hl rfl (Nat.le_of_ble_eq_true rfl) d_law_362 (fun r1 u1 H locs hw1 hP hD hS => ?_)
  have hP : va_P D classes (Mw cI cZ am (nI K, nI n, nI T, nI cn, cl, stM, row, se, va, waM, kn, to, o, inn) ++ Xw cI cZ ad (nI K, nI n, nI 0, nI 0, h, nI cn, cl, stX, row, tb, le, re, wa, qu, t, o)) H := hP
  have hD : va_D A (Mw cI cZ am (nI K, nI n, nI T, nI cn, cl, stM, row, se, va, waM, kn, to, o, inn) ++ Xw cI cZ ad (nI K, nI n, nI 0, nI 0, h, nI cn, cl, stX, row, tb, le, re, wa, qu, t, o)) := hD
  refine lv_aload_n hx hb d_law_365 rfl (lv_at hl 1 rfl) ?_
  refine dc_callI S ok_M_clashes ml_L_71 (c_M_clashes l D cI cZ am (nI K) (nI n) (nI T) (nI cn) cl stM row se va waM kn to o inn) (As := []) (rest := [.int r1]) (wr := (Xw cI cZ ad (nI K, nI n, nI 0, nI 0, h, nI cn, cl, stX, row, tb, le, re, wa, qu, t, o))) ⟨Nat.le_of_ble_eq_true rfl, Nat.le_of_ble_eq_true rfl⟩ ⟨Nat.le_of_ble_eq_true rfl, Nat.le_of_ble_eq_true rfl⟩ hK hP hD hS hA [0, 1, 2, 3, 4, 5, 6, 7, 8] [9, 10, 11, 12, 13, 14, 15, 16, 17] rfl rfl (by decide) (by decide) (by decide) rfl rfl rfl hl rfl (Nat.le_of_ble_eq_true rfl) d_law_366 (fun r2 u2 H locs hw2 hP hD hS => ?_)
  have hP : va_P D classes (Xw cI cZ ad (nI K, nI n, nI 0, nI 0, h, nI cn, cl, stX, row, tb, le, re, wa, qu, t, o) ++ Mw cI cZ am (nI K, nI n, nI T, nI cn, cl, stM, row, se, va, waM, kn, to, o, inn)) H := hP
  have hD : va_D A (Xw cI cZ ad (nI K, nI n, nI 0, nI 0, h, nI cn, cl, stX, row, tb, le, re, wa, qu, t, o) ++ Mw cI cZ am (nI K, nI n, nI T, nI cn, cl, stM, row, se, va, waM, kn, to, o, inn)) := hD
  refine lv_icmp_eq (tgt := 387) hx hb d_law_369 (by decide) (fun hc => ?_) (fun hc => ?_)
  · exact back n T cn cl stX stM h row se va t o le re wa qu waM kn to inn hn60 (by omega) R0 R1 Mk hwaM _ _ ls hP hD hS hl
  · exact absurd (hw1.trans hw2.symm) hc
set_option maxHeartbeats 4000000 in
set_option maxRecDepth 100000 in
theorem law_forget {p : Program} {l : Launch} {e : Env} {s : State} {m : MethodId} {below : List Frame} {meth : Method} {c : Code} {b L : Nat} {xs : Nat → Int32} (hL : L ≤ 1537) (C0 : lw_At p s m meth c b L xs) (A : Nat → Prop) (hA : ∀ q, s.heap.size ≤ q → A q) (hA2 : ∀ q, A q → s.heap.size ≤ q) (D : va_G) (cI cZ : ClassId) (hK : va_K D classes [(cI, .int), (cZ, .boolean)] s) (ad am : Nat → Nat) (K : Nat) (h0 : 0 < K) (hK32 : K ≤ 32) (tb : Nat → Int32) (htb : ∀ d, 1 ≤ d → d ≤ K → tb d = nI (lc_tb K d)) (i : Nat) (hi3 : i + 3 ≤ L) (back : ∀ (n T cn : Nat) (cl stX stM h : Int32) (row se va t o le re wa qu waM kn to inn : Nat → Int32), n ≤ 60 → T ≤ 60 * (i + 1) → ab_Rest K n (fun m => lc_sm K (se m)) h cn → x_Rest n (fun m => lc_sm K (se m)) va h t le re wa → m_Kn K h t kn to → (∀ m, m < n → waM m = 0) → ∀ (H : Heap) (locs : List Loc) (ls : Array Slot), va_P D classes (Xw cI cZ ad (nI K, nI n, nI 0, nI 0, h, nI cn, cl, stX, row, tb, le, re, wa, qu, t, o) ++ Mw cI cZ am (nI K, nI n, nI T, nI cn, cl, stM, row, se, va, waM, kn, to, o, inn)) H → va_D A (Xw cI cZ ad (nI K, nI n, nI 0, nI 0, h, nI cn, cl, stX, row, tb, le, re, wa, qu, t, o) ++ Mw cI cZ am (nI K, nI n, nI T, nI cn, cl, stM, row, se, va, waM, kn, to, o, inn)) → va_S A s.heap H locs → lv_has ls 4 [(3, .int (nI i)), (2, .ref (am 0)), (1, .ref (ad 0)), (0, .ref b)] → W p l e room_1 s m #[Value.ref b] below meth c H locs 18 743 (lw_Z below #[Value.ref b] s) (F0 m 387 ls [])) : ∀ (n T cn : Nat) (cl stX stM h : Int32) (row se va t o le re wa qu waM kn to inn : Nat → Int32), n ≤ 60 → T ≤ 60 * i → ab_Rest K n (fun m => lc_sm K (se m)) h cn → x_Rest n (fun m => lc_sm K (se m)) va h t le re wa → m_Kn K h t kn to → (∀ m, m < n → waM m = 0) → ∀ (H : Heap) (locs : List Loc) (ls : Array Slot), va_P D classes (Xw cI cZ ad (nI K, nI n, nI 0, nI 0, h, nI cn, cl, stX, row, tb, le, re, wa, qu, t, o) ++ Mw cI cZ am (nI K, nI n, nI T, nI cn, cl, stM, row, se, va, waM, kn, to, o, inn)) H → va_D A (Xw cI cZ ad (nI K, nI n, nI 0, nI 0, h, nI cn, cl, stX, row, tb, le, re, wa, qu, t, o) ++ Mw cI cZ am (nI K, nI n, nI T, nI cn, cl, stM, row, se, va, waM, kn, to, o, inn)) → va_S A s.heap H locs → lv_has ls 4 [(3, .int (nI i)), (2, .ref (am 0)), (1, .ref (ad 0)), (0, .ref b)] → W p l e room_1 s m #[Value.ref b] below meth c H locs 18 743 (lw_Z below #[Value.ref b] s) (F0 m 374 ls []) := by
  obtain ⟨hx, hb, hr, hml, hown, hts, hX, hbl, hlocks, hgv⟩ := C0
  have S : CallFix p m c code 4 s #[Value.ref b] gw_tbl R_law := ⟨hx, hb, hml, hown, fun w hw => hts w (List.mem_filter.mp hw).1⟩
  have hbA : ¬ A b := fun q => absurd (hA2 b q) (Nat.not_le.mpr hbl)
  intro n T cn cl stX stM h row se va t o le re wa qu waM kn to inn hn60 hT R0 R1 Mk hwaM H locs ls hP hD hS hl
  refine lv_aload_n hx hb d_law_374 rfl (lv_at hl 2 rfl) ?_
  refine dc_callI S ok_X_forget ml_L_72 (c_X_forget l D cI cZ ad (nI K) (nI n) (nI 0) (nI 0) h (nI cn) cl stX row tb le re wa qu t o) (As := []) (rest := []) (wr := (Mw cI cZ am (nI K, nI n, nI T, nI cn, cl, stM, row, se, va, waM, kn, to, o, inn))) ⟨Nat.le_of_ble_eq_true rfl, Nat.le_of_ble_eq_true rfl⟩ ⟨Nat.le_of_ble_eq_true rfl, Nat.le_of_ble_eq_true rfl⟩ hK hP hD hS hA [0, 1, 2, 3, 4, 5, 6, 7, 8] [9, 10, 11, 12, 13, 14, 15, 16, 17] rfl rfl (by decide) (by decide) (by decide) rfl rfl rfl hl rfl (Nat.le_of_ble_eq_true rfl) d_law_375 (fun r1 u1 H locs hw1 hP hD hS => ?_)
  subst hw1
  have hP : va_P D classes (Mw cI cZ am (nI K, nI n, nI T, nI cn, cl, stM, row, se, va, waM, kn, to, o, inn) ++ Xw cI cZ ad (nI K, nI 0, nI 0, nI 0, 0, nI 0, 0, stX, row, tb, le, re, wa, qu, u1, o)) H := hP
  have hD : va_D A (Mw cI cZ am (nI K, nI n, nI T, nI cn, cl, stM, row, se, va, waM, kn, to, o, inn) ++ Xw cI cZ ad (nI K, nI 0, nI 0, nI 0, 0, nI 0, 0, stX, row, tb, le, re, wa, qu, u1, o)) := hD
  refine lv_aload_n hx hb d_law_378 rfl (lv_at hl 1 rfl) ?_
  refine dc_callI S ok_M_forget ml_L_75 (c_M_forget l D cI cZ am (nI n) (nI T) (nI cn) cl stM row se va waM kn to o inn K h0 hK32) (As := []) (rest := [.int (nI n)]) (wr := (Xw cI cZ ad (nI K, nI 0, nI 0, nI 0, 0, nI 0, 0, stX, row, tb, le, re, wa, qu, u1, o))) ⟨Nat.le_of_ble_eq_true rfl, Nat.le_of_ble_eq_true rfl⟩ ⟨Nat.le_of_ble_eq_true rfl, Nat.le_of_ble_eq_true rfl⟩ hK hP hD hS hA [0, 1, 2, 3, 4, 5, 6, 7, 8] [9, 10, 11, 12, 13, 14, 15, 16, 17] rfl rfl (by decide) (by decide) (by decide) rfl rfl rfl hl rfl (Nat.le_of_ble_eq_true rfl) d_law_379 (fun r2 u2 H locs hw2 hP hD hS => ?_)
  obtain ⟨e1, e2⟩ := hw2
  subst e1
  have hP : va_P D classes (Xw cI cZ ad (nI K, nI 0, nI 0, nI 0, 0, nI 0, 0, stX, row, tb, le, re, wa, qu, u1, o) ++ Mw cI cZ am (nI K, nI 0, nI T, nI 0, 0, stM, row, se, va, waM, u2, to, o, inn)) H := hP
  have hD : va_D A (Xw cI cZ ad (nI K, nI 0, nI 0, nI 0, 0, nI 0, 0, stX, row, tb, le, re, wa, qu, u1, o) ++ Mw cI cZ am (nI K, nI 0, nI T, nI 0, 0, stM, row, se, va, waM, u2, to, o, inn)) := hD
  refine lv_icmp_eq (tgt := 387) hx hb d_law_382 (by decide) (fun hc => ?_) (fun hc => ?_)
  · exact back 0 T 0 0 stX stM 0 row se va u1 o le re wa qu waM u2 to inn (Nat.zero_le _) (by omega) ⟨fun j q => (by rw [b_0] at q; cases q), (pb_pop_zero.mpr rfl).symm, fun j q => absurd q (Nat.not_lt_zero j)⟩ ⟨fun j q => absurd q (Nat.not_lt_zero j), fun j q => absurd q (Nat.not_lt_zero j), fun j q => absurd q (Nat.not_lt_zero j)⟩ ⟨fun j q => (by rw [e2 j q, b_0]; rfl), fun j q => (by rw [b_0] at q; cases q)⟩ (fun j q => absurd q (Nat.not_lt_zero j)) _ _ ls hP hD hS hl
  · exact absurd (rfl) hc
end
section
set_option maxHeartbeats 4000000 in
set_option maxRecDepth 100000 in
/-- the law's loop -/
theorem law_loop {p : Program} {l : Launch} {e : Env} {s : State} {m : MethodId} {below : List Frame} {meth : Method} {c : Code} {b L : Nat} {xs : Nat → Int32} (hL : L ≤ 1537) (C0 : lw_At p s m meth c b L xs) (A : Nat → Prop) (hA : ∀ q, s.heap.size ≤ q → A q) (hA2 : ∀ q, A q → s.heap.size ≤ q) (D : va_G) (cI cZ : ClassId) (hK : va_K D classes [(cI, .int), (cZ, .boolean)] s) (ad am : Nat → Nat) (K : Nat) (h0 : 0 < K) (hK32 : K ≤ 32) (tb : Nat → Int32) (htb : ∀ d, 1 ≤ d → d ≤ K → tb d = nI (lc_tb K d)) : ∀ (g i : Nat) (n T cn : Nat) (cl stX stM h : Int32) (row se va t o le re wa qu waM kn to inn : Nat → Int32), L + 1 < i + g → 1 ≤ i → i ≤ L + 1 → n ≤ 60 → T ≤ 60 * i → ab_Rest K n (fun m => lc_sm K (se m)) h cn → x_Rest n (fun m => lc_sm K (se m)) va h t le re wa → m_Kn K h t kn to → (∀ m, m < n → waM m = 0) → ∀ (H : Heap) (locs : List Loc) (ls : Array Slot), va_P D classes (Xw cI cZ ad (nI K, nI n, nI 0, nI 0, h, nI cn, cl, stX, row, tb, le, re, wa, qu, t, o) ++ Mw cI cZ am (nI K, nI n, nI T, nI cn, cl, stM, row, se, va, waM, kn, to, o, inn)) H → va_D A (Xw cI cZ ad (nI K, nI n, nI 0, nI 0, h, nI cn, cl, stX, row, tb, le, re, wa, qu, t, o) ++ Mw cI cZ am (nI K, nI n, nI T, nI cn, cl, stM, row, se, va, waM, kn, to, o, inn)) → va_S A s.heap H locs → lv_has ls 4 [(3, .int (nI i)), (2, .ref (am 0)), (1, .ref (ad 0)), (0, .ref b)] → W p l e room_1 s m #[Value.ref b] below meth c H locs 18 743 (lw_Z below #[Value.ref b] s) (F0 m 28 ls []) := by
  have C1 := C0
  obtain ⟨hx, hb, hr, hml, hown, hts, hX, hbl, hlocks, hgv⟩ := C0
  have S : CallFix p m c code 4 s #[Value.ref b] gw_tbl R_law := ⟨hx, hb, hml, hown, fun w hw => hts w (List.mem_filter.mp hw).1⟩
  have hbA : ¬ A b := fun q => absurd (hA2 b q) (Nat.not_le.mpr hbl)
  intro g
  induction g with
  | zero =>
    intro i n T cn cl stX stM h row se va t o le re wa qu waM kn to inn h1 h2 h3
    exact absurd h1 (by omega)
  | succ g ih =>
    intro i n T cn cl stX stM h row se va t o le re wa qu waM kn to inn hg hi1 hiL hn60 hT R0 R1 Mk hwaM H locs ls hP hD hS hl
    refine lv_iload_n hx hb d_law_28 rfl (lv_at hl 0 rfl) ?_
    refine lv_aload_n hx hb d_law_29 rfl (lv_at hl 3 rfl) ?_
    refine va_slen hx hb hX hbl hbA hS d_law_30 ?_
    refine dc_nrm (y := nI L) rfl ?_
    refine lv_iconst (v := 3) hx hb d_law_31 (by decide) ?_
    refine lv_isub hx hb d_law_32 ?_
    refine lv_icmp_gt (tgt := 393) hx hb d_law_33 (by decide) (fun hc => ?_) (fun hc => ?_)
    · refine lv_iconst (v := 1) hx hb d_law_393 (by decide) ?_
      refine va_forget (fun q hq => hA2 _ (hS.2.2 q hq)) ?_
      exact lw_ret hx hb hr hlocks d_law_394
    · have hi3 := lb_in hL hiL hc
      refine lv_aload_n hx hb d_law_36 rfl (lv_at hl 3 rfl) ?_
      refine lv_iload_n hx hb d_law_37 rfl (lv_at hl 0 rfl) ?_
      refine dc_sld S hX hbl hbA hS (j := i) rfl (by omega) (by omega) d_law_38 ?_
      refine lv_bipush (v := 15) hx hb d_law_39 (by decide) ?_
      refine lv_iand hx hb d_law_41 ?_
      have back : ∀ (n T cn : Nat) (cl stX stM h : Int32) (row se va t o le re wa qu waM kn to inn : Nat → Int32), n ≤ 60 → T ≤ 60 * (i + 1) → ab_Rest K n (fun m => lc_sm K (se m)) h cn → x_Rest n (fun m => lc_sm K (se m)) va h t le re wa → m_Kn K h t kn to → (∀ m, m < n → waM m = 0) → ∀ (H : Heap) (locs : List Loc) (ls : Array Slot), va_P D classes (Xw cI cZ ad (nI K, nI n, nI 0, nI 0, h, nI cn, cl, stX, row, tb, le, re, wa, qu, t, o) ++ Mw cI cZ am (nI K, nI n, nI T, nI cn, cl, stM, row, se, va, waM, kn, to, o, inn)) H → va_D A (Xw cI cZ ad (nI K, nI n, nI 0, nI 0, h, nI cn, cl, stX, row, tb, le, re, wa, qu, t, o) ++ Mw cI cZ am (nI K, nI n, nI T, nI cn, cl, stM, row, se, va, waM, kn, to, o, inn)) → va_S A s.heap H locs → lv_has ls 4 [(3, .int (nI i)), (2, .ref (am 0)), (1, .ref (ad 0)), (0, .ref b)] → W p l e room_1 s m #[Value.ref b] below meth c H locs 18 743 (lw_Z below #[Value.ref b] s) (F0 m 387 ls []) := by
        intro n T cn cl stX stM h row se va t o le re wa qu waM kn to inn hn60 hT R0 R1 Mk hwaM H locs ls hP hD hS hl
        refine lv_iinc (v := nI (i + 3)) (lv' := [(3, .int (nI (i + 3))), (2, .ref (am 0)), (1, .ref (ad 0)), (0, .ref b)]) hx hb d_law_387 hl (k := 0) rfl (nI_add i 3) (by decide) rfl (fun ls hl => ?_)
        refine lv_goto (tgt := 28) hx hb d_law_390 (by decide) ?_
        exact ih (i + 3) n T cn cl stX stM h row se va t o le re wa qu waM kn to inn (by omega) (by omega) (by omega) hn60 (by omega) R0 R1 Mk hwaM _ _ ls hP hD hS hl
      obtain ⟨v, hv, hve⟩ := pk_andE (xs i) (m := 15) 4 (by decide)
      have hv : v < 16 := hv
      refine dc_nrm hve ?_
      rcases (show v = 0 ∨ v = 1 ∨ v = 2 ∨ v = 3 ∨ v = 4 ∨ v = 5 ∨ v = 6 ∨ v = 7 ∨ v = 8 ∨ v = 9 ∨ v = 10 ∨ v = 11 ∨ v = 12 ∨ 13 ≤ v by omega) with rfl | rfl | rfl | rfl | rfl | rfl | rfl | rfl | rfl | rfl | rfl | rfl | rfl | hv13
      · refine lv_tableIn (tgt := 108) (off := 66) hx hb d_law_42 (by decide) (by decide) (by decide) (by decide) ?_
        exact law_put hL C1 A hA hA2 D cI cZ hK ad am K h0 hK32 tb htb i hi3 back n T cn cl stX stM h row se va t o le re wa qu waM kn to inn hn60 hT R0 R1 Mk hwaM _ _ ls hP hD hS hl
      · refine lv_tableIn (tgt := 141) (off := 99) hx hb d_law_42 (by decide) (by decide) (by decide) (by decide) ?_
        exact law_drop hL C1 A hA hA2 D cI cZ hK ad am K h0 hK32 tb htb i hi3 back n T cn cl stX stM h row se va t o le re wa qu waM kn to inn hn60 hT R0 R1 Mk hwaM _ _ ls hP hD hS hl
      · refine lv_tableIn (tgt := 164) (off := 122) hx hb d_law_42 (by decide) (by decide) (by decide) (by decide) ?_
        exact law_degree hL C1 A hA hA2 D cI cZ hK ad am K h0 hK32 tb htb i hi3 back n T cn cl stX stM h row se va t o le re wa qu waM kn to inn hn60 hT R0 R1 Mk hwaM _ _ ls hP hD hS hl
      · refine lv_tableIn (tgt := 187) (off := 145) hx hb d_law_42 (by decide) (by decide) (by decide) (by decide) ?_
        exact law_set hL C1 A hA hA2 D cI cZ hK ad am K h0 hK32 tb htb i hi3 back n T cn cl stX stM h row se va t o le re wa qu waM kn to inn hn60 hT R0 R1 Mk hwaM _ _ ls hP hD hS hl
      · refine lv_tableIn (tgt := 210) (off := 168) hx hb d_law_42 (by decide) (by decide) (by decide) (by decide) ?_
        exact law_receive hL C1 A hA hA2 D cI cZ hK ad am K h0 hK32 tb htb i hi3 back n T cn cl stX stM h row se va t o le re wa qu waM kn to inn hn60 hT R0 R1 Mk hwaM _ _ ls hP hD hS hl
      · refine lv_tableIn (tgt := 243) (off := 201) hx hb d_law_42 (by decide) (by decide) (by decide) (by decide) ?_
        exact law_known hL C1 A hA hA2 D cI cZ hK ad am K h0 hK32 tb htb i hi3 back n T cn cl stX stM h row se va t o le re wa qu waM kn to inn hn60 hT R0 R1 Mk hwaM _ _ ls hP hD hS hl
      · refine lv_tableIn (tgt := 266) (off := 224) hx hb d_law_42 (by decide) (by decide) (by decide) (by decide) ?_
        exact law_word hL C1 A hA hA2 D cI cZ hK ad am K h0 hK32 tb htb i hi3 back n T cn cl stX stM h row se va t o le re wa qu waM kn to inn hn60 hT R0 R1 Mk hwaM _ _ ls hP hD hS hl
      · refine lv_tableIn (tgt := 289) (off := 247) hx hb d_law_42 (by decide) (by decide) (by decide) (by decide) ?_
        exact law_order hL C1 A hA hA2 D cI cZ hK ad am K h0 hK32 tb htb i hi3 back n T cn cl stX stM h row se va t o le re wa qu waM kn to inn hn60 hT R0 R1 Mk hwaM _ _ ls hP hD hS hl
      · refine lv_tableIn (tgt := 312) (off := 270) hx hb d_law_42 (by decide) (by decide) (by decide) (by decide) ?_
        exact law_open hL C1 A hA hA2 D cI cZ hK ad am K h0 hK32 tb htb i hi3 back n T cn cl stX stM h row se va t o le re wa qu waM kn to inn hn60 hT R0 R1 Mk hwaM _ _ ls hP hD hS hl
      · refine lv_tableIn (tgt := 335) (off := 293) hx hb d_law_42 (by decide) (by decide) (by decide) (by decide) ?_
        exact law_drops hL C1 A hA hA2 D cI cZ hK ad am K h0 hK32 tb htb i hi3 back n T cn cl stX stM h row se va t o le re wa qu waM kn to inn hn60 hT R0 R1 Mk hwaM _ _ ls hP hD hS hl
      · refine lv_tableIn (tgt := 348) (off := 306) hx hb d_law_42 (by decide) (by decide) (by decide) (by decide) ?_
        exact law_count hL C1 A hA hA2 D cI cZ hK ad am K h0 hK32 tb htb i hi3 back n T cn cl stX stM h row se va t o le re wa qu waM kn to inn hn60 hT R0 R1 Mk hwaM _ _ ls hP hD hS hl
      · refine lv_tableIn (tgt := 361) (off := 319) hx hb d_law_42 (by decide) (by decide) (by decide) (by decide) ?_
        exact law_clashes hL C1 A hA hA2 D cI cZ hK ad am K h0 hK32 tb htb i hi3 back n T cn cl stX stM h row se va t o le re wa qu waM kn to inn hn60 hT R0 R1 Mk hwaM _ _ ls hP hD hS hl
      · refine lv_tableIn (tgt := 374) (off := 332) hx hb d_law_42 (by decide) (by decide) (by decide) (by decide) ?_
        exact law_forget hL C1 A hA hA2 D cI cZ hK ad am K h0 hK32 tb htb i hi3 back n T cn cl stX stM h row se va t o le re wa qu waM kn to inn hn60 hT R0 R1 Mk hwaM _ _ ls hP hD hS hl
      · refine lv_tableOut (tgt := 387) hx hb d_law_42 (Or.inr (by rw [nI_toInt (by omega)]; omega)) (by decide) ?_
        exact back n T cn cl stX stM h row se va t o le re wa qu waM kn to inn hn60 (by omega) R0 R1 Mk hwaM _ _ ls hP hD hS hl
end
section
set_option maxHeartbeats 4000000 in
set_option maxRecDepth 100000 in
/-- the law from its entry -/
theorem whole_start {p : Program} {e : Env} {s : State} {m : MethodId} {below : List Frame} {meth : Method} {c : Code} (l : Launch) {b L : Nat} {xs : Nat → Int32} (hL : L ≤ 1537) (C0 : lw_At p s m meth c b L xs) : W p l e room_1 s m #[Value.ref b] below meth c s.heap [] 0 0 (lw_Z below #[Value.ref b] s) (entryFrame m ([Value.ref b] : List Value).toArray 4) := by
  obtain ⟨hx, hb, hr, hml, hown, hts, hX, hbl, hlocks, hgv⟩ := id C0
  have S : CallFix p m c code 4 s #[Value.ref b] gw_tbl R_law := ⟨hx, hb, hml, hown, fun w hw => hts w (List.mem_filter.mp hw).1⟩
  obtain ⟨A, hAe⟩ : ∃ A : Nat → Prop, A = (fun q : Nat => s.heap.size ≤ q) := ⟨_, rfl⟩
  have hA : ∀ q : Nat, s.heap.size ≤ q → A q := fun q h => by rw [hAe]; exact h
  have hA2 : ∀ q : Nat, A q → s.heap.size ≤ q := fun q h => by rw [hAe] at h; exact h
  have hbA : ¬ A b := fun q => absurd (hA2 b q) (Nat.not_le.mpr hbl)
  obtain ⟨c0, iS0, hKn0⟩ := u_known (C := R_X) (T := F_X) (N := 16) (n := 16) S.2.2.2.2 i_X (S.2.2.2.2 _ in_X)
  obtain ⟨c1, iS1, hKn1⟩ := u_known (C := R_M) (T := F_M) (N := 14) (n := 14) S.2.2.2.2 i_M (S.2.2.2.2 _ in_M)
  obtain ⟨D, hKc⟩ : ∃ D : va_G, ∀ (k : Nat) (q : vw_C), classes[k]? = some q → u_Kn s q.1 q.2.1 q.2.2 (D.1 k) (D.2 k) := by
    refine ⟨(fun k => if k = 0 then c0 else c1, fun k => if k = 0 then iS0 else iS1), ?_⟩
    intro k q hq
    match k, hq with
    | 0, hq => cases hq; exact hKn0
    | 1, hq => cases hq; exact hKn1
    | k + 2, hq => simp [classes] at hq
  obtain ⟨cI, cZ, hK⟩ := ka_known (D := D) S.2.2.2.2 hKc
  have hS : va_S A s.heap s.heap [] := va_S.rf
  have hP : va_P D classes [] s.heap := fun k q h => by simp at h
  have hD : va_D A [] := ⟨fun i j p q h => by simp at h, fun k q h => by simp at h⟩
  obtain ⟨K, hk⟩ := lk_spec (if 0 < L then xs 0 else 0)
  have h0 := hk.1
  have hK32 := hk.2.1
  have hl := lv_entry ([.ref b]) (n := 4) (Nat.le_of_ble_eq_true rfl)
  rw [lg_entry_eq]
  generalize (lg_sl ([.ref b]) ++ List.replicate (4 - (lg_sl ([.ref b])).length) Slot.unset).toArray = ls at hl ⊢
  have hl : lv_has ls 4 [(0, .ref b)] := hl
  refine va_new (ci := 0) (fs := [.null, .null, .int 0, .null, .null, .null, .int 0, .null, .int 0, .int 0, .null, .null, .int 0, .int 0, .int 0, .int 0]) (C := R_X) (T := F_X) (N := 16) hx hb S.2.2.2.2 i_X t_X t_X_ok hown (S.2.2.2.2 _ cl_X) (S.2.2.2.2 _ in_X) (S.2.2.2.2 _ iz_X) hK hP hD hS hA rfl (fun j hj => by rcases (show j = 0 ∨ j = 1 ∨ j = 2 ∨ j = 3 ∨ j = 4 ∨ j = 5 ∨ j = 6 ∨ j = 7 ∨ j = 8 ∨ j = 9 ∨ j = 10 ∨ j = 11 ∨ j = 12 ∨ j = 13 ∨ j = 14 ∨ j = 15 by omega) with rfl | rfl | rfl | rfl | rfl | rfl | rfl | rfl | rfl | rfl | rfl | rfl | rfl | rfl | rfl | rfl <;> rfl) (Nat.le_of_ble_eq_true rfl) (Nat.le_of_ble_eq_true rfl) d_law_0 (fun q0 H (hP : va_P D classes ([(q0, .inr (0, [.null, .null, .int 0, .null, .null, .null, .int 0, .null, .int 0, .int 0, .null, .null, .int 0, .int 0, .int 0, .int 0]))]) H) (hD : va_D A ([(q0, .inr (0, [.null, .null, .int 0, .null, .null, .null, .int 0, .null, .int 0, .int 0, .null, .null, .int 0, .int 0, .int 0, .int 0]))])) hS => ?_)
  refine W.widen (k := 1) (n := 16) (Nat.le_of_ble_eq_true rfl) (Nat.le_of_ble_eq_true rfl) ?_
  refine lv_dup hx hb d_law_3 rfl ?_
  refine lv_aload_n hx hb d_law_4 rfl (lv_at hl 0 rfl) ?_
  refine lv_iconst (v := 0) hx hb d_law_5 (by decide) ?_
  refine dc_cell S hL hX hbl hbA hP hS hA ⟨Nat.le_of_ble_eq_true rfl, Nat.le_of_ble_eq_true rfl⟩ ⟨Nat.le_of_ble_eq_true rfl, Nat.le_of_ble_eq_true rfl⟩ hl (Nat.le_of_ble_eq_true rfl) d_law_6 (fun H locs hP hS => ?_)
  refine dc_callN S ok_X_init ml_L_15 (c_X_init l D cI cZ q0 _ K hk) (As := [.int (if 0 < L then xs 0 else 0)]) (rest := [.ref q0]) (wr := []) ⟨Nat.le_of_ble_eq_true rfl, Nat.le_of_ble_eq_true rfl⟩ ⟨Nat.le_of_ble_eq_true rfl, Nat.le_of_ble_eq_true rfl⟩ hK hP hD hS hA [0] [] rfl rfl (by decide) (by decide) (by decide) rfl hl rfl (Nat.le_of_ble_eq_true rfl) d_law_9 (fun ux H locs hux hP1 hD1 hS => ?_)
  refine W.widen (k := 9) (n := 389) (Nat.le_of_ble_eq_true rfl) (Nat.le_of_ble_eq_true rfl) ?_
  obtain ⟨ad, tb⟩ := ux
  obtain ⟨e0, htb⟩ := hux
  dsimp only at e0 htb
  subst e0
  have hP : va_P D classes (Xw cI cZ ad (nI K, nI 0, nI 0, nI 0, 0, nI 0, 0, 0, fun _ => 0, tb, fun _ => 0, fun _ => 0, fun _ => 0, fun _ => 0, fun _ => 0, fun _ => 0)) H := hP1
  have hD : va_D A (Xw cI cZ ad (nI K, nI 0, nI 0, nI 0, 0, nI 0, 0, 0, fun _ => 0, tb, fun _ => 0, fun _ => 0, fun _ => 0, fun _ => 0, fun _ => 0, fun _ => 0)) := hD1
  refine lv_astore_n (lv' := [(1, .ref (ad 0)), (0, .ref b)]) hx hb d_law_12 rfl hl (by decide) rfl (fun ls hl => ?_)
  refine va_new (ci := 1) (fs := [.int 0, .null, .int 0, .null, .null, .null, .int 0, .null, .null, .null, .int 0, .int 0, .null, .int 0]) (C := R_M) (T := F_M) (N := 14) hx hb S.2.2.2.2 i_M t_M t_M_ok hown (S.2.2.2.2 _ cl_M) (S.2.2.2.2 _ in_M) (S.2.2.2.2 _ iz_M) hK hP hD hS hA rfl (fun j hj => by rcases (show j = 0 ∨ j = 1 ∨ j = 2 ∨ j = 3 ∨ j = 4 ∨ j = 5 ∨ j = 6 ∨ j = 7 ∨ j = 8 ∨ j = 9 ∨ j = 10 ∨ j = 11 ∨ j = 12 ∨ j = 13 by omega) with rfl | rfl | rfl | rfl | rfl | rfl | rfl | rfl | rfl | rfl | rfl | rfl | rfl | rfl <;> rfl) (Nat.le_of_ble_eq_true rfl) (Nat.le_of_ble_eq_true rfl) d_law_13 (fun q1 H (hP : va_P D classes (Xw cI cZ ad (nI K, nI 0, nI 0, nI 0, 0, nI 0, 0, 0, fun _ => 0, tb, fun _ => 0, fun _ => 0, fun _ => 0, fun _ => 0, fun _ => 0, fun _ => 0) ++ [(q1, .inr (1, [.int 0, .null, .int 0, .null, .null, .null, .int 0, .null, .null, .null, .int 0, .int 0, .null, .int 0]))]) H) (hD : va_D A (Xw cI cZ ad (nI K, nI 0, nI 0, nI 0, 0, nI 0, 0, 0, fun _ => 0, tb, fun _ => 0, fun _ => 0, fun _ => 0, fun _ => 0, fun _ => 0, fun _ => 0) ++ [(q1, .inr (1, [.int 0, .null, .int 0, .null, .null, .null, .int 0, .null, .null, .null, .int 0, .int 0, .null, .int 0]))])) hS => ?_)
  refine W.widen (k := 10) (n := 403) (Nat.le_of_ble_eq_true rfl) (Nat.le_of_ble_eq_true rfl) ?_
  refine lv_dup hx hb d_law_16 rfl ?_
  refine lv_aload_n hx hb d_law_17 rfl (lv_at hl 1 rfl) ?_
  refine lv_iconst (v := 0) hx hb d_law_18 (by decide) ?_
  refine dc_cell S hL hX hbl hbA hP hS hA ⟨Nat.le_of_ble_eq_true rfl, Nat.le_of_ble_eq_true rfl⟩ ⟨Nat.le_of_ble_eq_true rfl, Nat.le_of_ble_eq_true rfl⟩ hl (Nat.le_of_ble_eq_true rfl) d_law_19 (fun H locs hP hS => ?_)
  refine dc_callN S ok_M_init ml_L_20 (c_M_init l D cI cZ q1 _ K hk) (As := [.int (if 0 < L then xs 0 else 0)]) (rest := [.ref q1]) (wr := (Xw cI cZ ad (nI K, nI 0, nI 0, nI 0, 0, nI 0, 0, 0, fun _ => 0, tb, fun _ => 0, fun _ => 0, fun _ => 0, fun _ => 0, fun _ => 0, fun _ => 0))) ⟨Nat.le_of_ble_eq_true rfl, Nat.le_of_ble_eq_true rfl⟩ ⟨Nat.le_of_ble_eq_true rfl, Nat.le_of_ble_eq_true rfl⟩ hK hP hD hS hA [9] [0, 1, 2, 3, 4, 5, 6, 7, 8] rfl rfl (by decide) (by decide) (by decide) rfl hl rfl (Nat.le_of_ble_eq_true rfl) d_law_22 (fun um H locs hum hP1 hD1 hS => ?_)
  refine W.widen (k := 18) (n := 743) (Nat.le_of_ble_eq_true rfl) (Nat.le_of_ble_eq_true rfl) ?_
  obtain ⟨am, uu⟩ := um
  dsimp only at hum
  subst hum
  have hP : va_P D classes (Xw cI cZ ad (nI K, nI 0, nI 0, nI 0, 0, nI 0, 0, 0, fun _ => 0, tb, fun _ => 0, fun _ => 0, fun _ => 0, fun _ => 0, fun _ => 0, fun _ => 0) ++ Mw cI cZ am (nI K, nI 0, nI 0, nI 0, 0, 0, fun _ => 0, fun _ => 0, fun _ => 0, fun _ => 0, fun _ => 0, fun _ => 0, fun _ => 0, fun _ => 0)) H := hP1
  have hD : va_D A (Xw cI cZ ad (nI K, nI 0, nI 0, nI 0, 0, nI 0, 0, 0, fun _ => 0, tb, fun _ => 0, fun _ => 0, fun _ => 0, fun _ => 0, fun _ => 0, fun _ => 0) ++ Mw cI cZ am (nI K, nI 0, nI 0, nI 0, 0, 0, fun _ => 0, fun _ => 0, fun _ => 0, fun _ => 0, fun _ => 0, fun _ => 0, fun _ => 0, fun _ => 0)) := hD1
  refine lv_astore_n (lv' := [(2, .ref (am 0)), (1, .ref (ad 0)), (0, .ref b)]) hx hb d_law_25 rfl hl (by decide) rfl (fun ls hl => ?_)
  refine lv_iconst (v := 1) hx hb d_law_26 (by decide) ?_
  refine lv_istore_n (lv' := [(3, .int 1), (2, .ref (am 0)), (1, .ref (ad 0)), (0, .ref b)]) hx hb d_law_27 rfl hl (by decide) rfl (fun ls hl => ?_)
  exact law_loop hL C0 A hA hA2 D cI cZ hK ad am K h0 hK32 tb htb (L + 1) 1 0 0 0 0 0 0 0 (fun _ => 0) (fun _ => 0) (fun _ => 0) (fun _ => 0) (fun _ => 0) (fun _ => 0) (fun _ => 0) (fun _ => 0) (fun _ => 0) (fun _ => 0) (fun _ => 0) (fun _ => 0) (fun _ => 0) (by omega) (by omega) (by omega) (by omega) (by omega) ⟨fun j q => (by rw [b_0] at q; cases q), (pb_pop_zero.mpr rfl).symm, fun j q => absurd q (Nat.not_lt_zero j)⟩ ⟨fun j q => absurd q (Nat.not_lt_zero j), fun j q => absurd q (Nat.not_lt_zero j), fun j q => absurd q (Nat.not_lt_zero j)⟩ ⟨fun j q => (by rw [b_0]; rfl), fun j q => rfl⟩ (fun j q => absurd q (Nat.not_lt_zero j)) _ _ ls hP hD hS (lv_sub hl [0, 1, 2, 3] rfl)
set_option maxHeartbeats 4000000 in
theorem lw_walk (l : Launch) (b : Addr) (xs : List Int32) : MetFree l x (headSpec (Jvm.Cond.code x code maxLocals ret :: tables_1) room_1) (lw_P b xs) (fun _ _ _ _ _ => True) lw_Q := by
  refine MetFree.of_bodyS (code := code) (maxLocals := maxLocals) (ret := ret) (by decide) ?_ ?_
  · intro args s m h hn
    obtain ⟨meth, c, h1, h2, h3, h4, h5, h6, -, -⟩ := Cond.code_spec hn (atoms_spec (ws := Jvm.Cond.code x code maxLocals ret :: tables_1) h _ List.mem_cons_self)
    exact ⟨meth, c, h1, h2, h3, h4, h5, h6⟩
  · intro p e s m args below meth c s₁ B hml0 hP _
    obtain ⟨rfl, hx, hbd, hgv⟩ := hP
    obtain ⟨scr, harrAt, hlist, hof, hsmall⟩ := hx
    obtain ⟨hcb, hkn, -, -⟩ := State.arrayAt?_spec harrAt
    have hown : s.vm.findClass R_law = some m.cls := findClass_of_methodNamed B.named
    have hts0 : ∀ c ∈ (Jvm.Cond.code x code maxLocals ret :: tables_1), c.before #[Value.ref b] s = true := atoms_spec (ws := Jvm.Cond.code x code maxLocals ret :: tables_1) B.pre
    have hts : ∀ w ∈ lw_tbl, w.before #[Value.ref b] s = true := k2_hts_sels lw_privs (fun w hw => hts0 w (List.mem_cons_of_mem _ hw)) lw_privs_ok
    have hml : c.maxLocals = 4 := B.maxLocals_eq (hts0 _ List.mem_cons_self)
    have X₀ : Stand p l e room_1 s m #[Value.ref b] below meth c s₁ [] 0 0 := Stand.of_body B
    have hh0 : s₁.heap = s.heap := by rw [B.state]; rfl
    have hsz : scr.slots.size = xs.length := by rw [← Array.length_toList, hlist, List.length_map]
    have hval : ∀ j : Nat, j < xs.length → scr.slots[j]? = some (.int (xs.getD j 0)) := fun j hj => by
      rw [← Array.getElem?_toList, hlist]
      simp [hj]
    have hbl : b < s.heap.size := (Array.getElem?_eq_some_iff.mp hcb).1
    have hX : va_X b xs.length (fun j => xs.getD j 0) s s.heap := ⟨scr, hcb, hof, hkn, hsz, hval⟩
    have K : W p l e room_1 s m #[Value.ref b] below meth c s₁.heap [] 0 0 (lw_Z below #[Value.ref b] s) (entryFrame m ([Value.ref b] : List Value).toArray 4) := by
      rw [hh0]
      exact whole_start l hbd ⟨B.exec, B.bytes, B.returns, hml, hown, hts, hX, hbl, B.notSynchronized, hgv⟩
    obtain ⟨t, a1, o, b1, b2, b3⟩ := K s₁ rfl X₀
    exact ⟨t, o, a1, b1, b2, b3⟩
theorem lw_pre_spec {args : Array Value} {s : State} (h : (Jvm.Cond.and given_1 narrow_1).before args s = true) (hr : rest_1_c.before args s = true) : ∃ (b : Addr) (xs : List Int32), lw_P b xs args s := by
  have hs := flat_of_before _ h
  have hq := flat_of_before _ hr
  have hc : (Cond.count 1).before args s = true := hs _ (by decide +kernel)
  have harr : (Cond.arrayOf (.arg 0) .int).before args s = true := hs _ (by decide +kernel)
  have hle : (Cond.le (.length (.arg 0)) (.int 1537)).before args s = true := hs _ (by decide +kernel)
  have hlen : (Cond.isInt (.length (.arg 0))).before args s = true := hq _ (by decide +kernel)
  have hall : (Cond.all (.arg 0) (.isInt (.elem (.arg 0) (.index 0)))).before args s = true := hq _ (by decide +kernel)
  obtain ⟨b, xs, hb, hx⟩ := State.ints_of_pre rfl harr hlen hall
  have hsm : xs.length < 2 ^ 31 := hx.choose_spec.2.2.2
  have hev : (Term.length (.arg 0)).eval args s none [] s = some (.int xs.length.toInt32) := hx.length_eval hb
  have hv := Cond.le_ints hev (show (Term.int 1537).eval args s none [] s = some (.int 1537) from rfl)
  have hd : xs.length.toInt32 ≤ 1537 := by
    simpa [Cond.before, Cond.holds, hv] using hle
  have hN : xs.length ≤ 1537 := (Int32.ofNat_le_ofNat hsm (by decide)).mp (show Int32.ofNat xs.length ≤ Int32.ofNat 1537 from hd)
  exact ⟨b, xs, Cond.one_arg hc (show args[0]? = some (.ref b) from hb), hx, hN, h⟩
theorem lw_comes (l : Launch) : Comes l x (Jvm.Cond.code x code maxLocals ret :: tables_1) room_1 (fun tb e args s => Calls_1 tb e args s ∧ rest_1 tb e args s ∧ Pre_1 tb e args s)
    (fun _ _ args s o t => lw_Q args s o t) := by
  intro p e ha hc hk s m args below hf hfit hheap happ hpre
  obtain ⟨b, xs, hP⟩ := lw_pre_spec hpre.2.2 hpre.2.1
  obtain ⟨k, o, h1, h2, h3, hQ⟩ := lw_walk l b xs p e ha hc hk s m args below hf ((Spec.applies_iff_loose hf).mp happ).1 hP trivial
  exact ⟨k, o, h1, h2, h3, hQ⟩
theorem lw_frame {s t : State} {o : Outcome} {args : Array Value} (h : Framed s o t [] 18 743) :
    Framed s o t (fieldLocs frame_1_writes args s ++ arrayLocs frame_1_arrays args s ++ staticLocs frame_1_statics s) 18 743 := h
theorem lw_limb (L : Cond) (hL : ∀ (args : Array Value) (s t : State), L.after args s (.returned (some (.int 1))) t = true) :
    ArmFor flags0 classFile x code maxLocals ret World_1 tables_1 room_1 Calls_1 rest_1 Pre_1
      (fun tb e a s o t => postC L tb e a s o t ∧ Framed s o t (fieldLocs frame_1_writes a s ++ arrayLocs frame_1_arrays a s ++ staticLocs frame_1_statics s) 18 743) := by
  intro l _ _ _ p e ha hc hk s m args below hf hfit hheap happ hpre
  obtain ⟨k, o, h1, h2, h3, rfl, hF⟩ := lw_comes l p e ha hc hk s m args below hf hfit hheap happ hpre
  exact ⟨k, _, h1, h2, h3, hL args s _, lw_frame hF⟩
theorem i_vc : Claimed_1_1 ∧ Claimed_1_2 := ⟨lw_limb limb_1_1 (fun args s t => by simp [limb_1_1, Cond.after, Cond.holds, Cond.value]), lw_limb limb_1_2 (fun args s t => Cond.after_iff.mpr (by
  first | (rw [show limb_1_2 = Cond.eq .result (.int 1) from rfl, Cond.eq_ints (x := 1) (y := 1) rfl rfl]; simp; done) | (simp [limb_1_2, Cond.value, Term.eval]; done)))⟩
end
