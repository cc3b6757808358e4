section
-- ===== PART A: goes FIRST, ahead of the names: the tables' words, and 'selects' of the private methods out of them =====
/-- a private method of a class that the tables say can be made, by its rows of tables_1 -/
def lw_okq (q : MethodName × Nat) : Prop := (q.1.cls ≠ "java/lang/invoke/MethodHandle" ∧ q.1.cls ≠ "java/lang/invoke/VarHandle") ∧ Cond.instantiable q.1.cls q.2 ∈ tables_1 ∧ Cond.privateMethod q.1 ∈ tables_1 ∧ Cond.instanceMethod q.1 ∈ tables_1
theorem lw_p0 : lw_okq (⟨"GridDesk$Grid", "forget", "(II)V"⟩, 14) := ⟨⟨by decide +kernel, by decide +kernel⟩, List.mem_of_getElem? (i := 31) (by decide +kernel), List.mem_of_getElem? (i := 156) (by decide +kernel), List.mem_of_getElem? (i := 157) (by decide +kernel)⟩
theorem lw_p1 : lw_okq (⟨"GridDesk$Grid", "begin", "()V"⟩, 14) := ⟨⟨by decide +kernel, by decide +kernel⟩, List.mem_of_getElem? (i := 31) (by decide +kernel), List.mem_of_getElem? (i := 172) (by decide +kernel), List.mem_of_getElem? (i := 173) (by decide +kernel)⟩
theorem lw_p2 : lw_okq (⟨"GridDesk$Grid", "enter", "(I)V"⟩, 14) := ⟨⟨by decide +kernel, by decide +kernel⟩, List.mem_of_getElem? (i := 31) (by decide +kernel), List.mem_of_getElem? (i := 186) (by decide +kernel), List.mem_of_getElem? (i := 187) (by decide +kernel)⟩
theorem lw_p3 : lw_okq (⟨"GridDesk$Grid", "look", "(I)V"⟩, 14) := ⟨⟨by decide +kernel, by decide +kernel⟩, List.mem_of_getElem? (i := 31) (by decide +kernel), List.mem_of_getElem? (i := 190) (by decide +kernel), List.mem_of_getElem? (i := 191) (by decide +kernel)⟩
theorem lw_p4 : lw_okq (⟨"GridDesk$Grid", "dropAll", "()V"⟩, 14) := ⟨⟨by decide +kernel, by decide +kernel⟩, List.mem_of_getElem? (i := 31) (by decide +kernel), List.mem_of_getElem? (i := 215) (by decide +kernel), List.mem_of_getElem? (i := 216) (by decide +kernel)⟩
theorem lw_p5 : lw_okq (⟨"GridDesk$Grid", "drop", "(I)V"⟩, 14) := ⟨⟨by decide +kernel, by decide +kernel⟩, List.mem_of_getElem? (i := 31) (by decide +kernel), List.mem_of_getElem? (i := 219) (by decide +kernel), List.mem_of_getElem? (i := 220) (by decide +kernel)⟩
theorem lw_p6 : lw_okq (⟨"GridDesk$Grid", "leave", "(II)V"⟩, 14) := ⟨⟨by decide +kernel, by decide +kernel⟩, List.mem_of_getElem? (i := 31) (by decide +kernel), List.mem_of_getElem? (i := 223) (by decide +kernel), List.mem_of_getElem? (i := 224) (by decide +kernel)⟩
theorem lw_p7 : lw_okq (⟨"GridDeskModel", "isThere", "(I)Z"⟩, 8) := ⟨⟨by decide +kernel, by decide +kernel⟩, List.mem_of_getElem? (i := 247) (by decide +kernel), List.mem_of_getElem? (i := 298) (by decide +kernel), List.mem_of_getElem? (i := 299) (by decide +kernel)⟩
theorem lw_p8 : lw_okq (⟨"GridDeskModel", "netAt", "(II)J"⟩, 8) := ⟨⟨by decide +kernel, by decide +kernel⟩, List.mem_of_getElem? (i := 247) (by decide +kernel), List.mem_of_getElem? (i := 304) (by decide +kernel), List.mem_of_getElem? (i := 305) (by decide +kernel)⟩
theorem lw_p9 : lw_okq (⟨"GridDeskModel", "find", "(II)I"⟩, 8) := ⟨⟨by decide +kernel, by decide +kernel⟩, List.mem_of_getElem? (i := 247) (by decide +kernel), List.mem_of_getElem? (i := 308) (by decide +kernel), List.mem_of_getElem? (i := 309) (by decide +kernel)⟩
theorem lw_p10 : lw_okq (⟨"GridDeskModel", "total", "(I)J"⟩, 8) := ⟨⟨by decide +kernel, by decide +kernel⟩, List.mem_of_getElem? (i := 247) (by decide +kernel), List.mem_of_getElem? (i := 322) (by decide +kernel), List.mem_of_getElem? (i := 323) (by decide +kernel)⟩
theorem lw_p11 : lw_okq (⟨"GridDeskModel", "lastTaker", "(I)I"⟩, 8) := ⟨⟨by decide +kernel, by decide +kernel⟩, List.mem_of_getElem? (i := 247) (by decide +kernel), List.mem_of_getElem? (i := 326) (by decide +kernel), List.mem_of_getElem? (i := 327) (by decide +kernel)⟩
theorem lw_p12 : lw_okq (⟨"GridDeskModel", "lacks", "(I)Z"⟩, 8) := ⟨⟨by decide +kernel, by decide +kernel⟩, List.mem_of_getElem? (i := 247) (by decide +kernel), List.mem_of_getElem? (i := 330) (by decide +kernel), List.mem_of_getElem? (i := 331) (by decide +kernel)⟩
theorem lw_p13 : lw_okq (⟨"GridDeskModel", "meet", "(II)Z"⟩, 8) := ⟨⟨by decide +kernel, by decide +kernel⟩, List.mem_of_getElem? (i := 247) (by decide +kernel), List.mem_of_getElem? (i := 334) (by decide +kernel), List.mem_of_getElem? (i := 335) (by decide +kernel)⟩
def lw_privs_1 : List (MethodName × Nat) := [(⟨"GridDesk$Grid", "forget", "(II)V"⟩, 14), (⟨"GridDesk$Grid", "begin", "()V"⟩, 14), (⟨"GridDesk$Grid", "enter", "(I)V"⟩, 14), (⟨"GridDesk$Grid", "look", "(I)V"⟩, 14), (⟨"GridDesk$Grid", "dropAll", "()V"⟩, 14), (⟨"GridDesk$Grid", "drop", "(I)V"⟩, 14), (⟨"GridDesk$Grid", "leave", "(II)V"⟩, 14), (⟨"GridDeskModel", "isThere", "(I)Z"⟩, 8), (⟨"GridDeskModel", "netAt", "(II)J"⟩, 8), (⟨"GridDeskModel", "find", "(II)I"⟩, 8), (⟨"GridDeskModel", "total", "(I)J"⟩, 8), (⟨"GridDeskModel", "lastTaker", "(I)I"⟩, 8), (⟨"GridDeskModel", "lacks", "(I)Z"⟩, 8), (⟨"GridDeskModel", "meet", "(II)Z"⟩, 8)]
theorem lw_r1 : ∀ q ∈ lw_privs_1, lw_okq q := List.forall_mem_cons.mpr ⟨lw_p0, List.forall_mem_cons.mpr ⟨lw_p1, List.forall_mem_cons.mpr ⟨lw_p2, List.forall_mem_cons.mpr ⟨lw_p3, List.forall_mem_cons.mpr ⟨lw_p4, List.forall_mem_cons.mpr ⟨lw_p5, List.forall_mem_cons.mpr ⟨lw_p6, List.forall_mem_cons.mpr ⟨lw_p7, List.forall_mem_cons.mpr ⟨lw_p8, List.forall_mem_cons.mpr ⟨lw_p9, List.forall_mem_cons.mpr ⟨lw_p10, List.forall_mem_cons.mpr ⟨lw_p11, List.forall_mem_cons.mpr ⟨lw_p12, List.forall_mem_cons.mpr ⟨lw_p13, fun _ h => absurd h List.not_mem_nil⟩⟩⟩⟩⟩⟩⟩⟩⟩⟩⟩⟩⟩⟩
def lw_privs : List (MethodName × Nat) := lw_privs_1
def lw_tbl : List Cond := k2_sels lw_privs ++ tables_1
theorem lw_privs_ok : ∀ q ∈ lw_privs, lw_okq q := lw_r1
abbrev R_X : String := "GridDesk"
abbrev R_A : String := "GridDesk$Places"
abbrev R_G : String := "GridDesk$Grid"
abbrev R_P : String := "GridDesk$Pile"
abbrev R_M : String := "GridDeskModel"
abbrev R_I : String := "GridDesk$Accounts"
abbrev R_law : String := "GridDeskLaw"
def F_X : u_T := fun k => match k with
  | 0 => ("GridDesk", "places", "LGridDesk$Places;", true)
  | _ => ("GridDesk", "grid", "LGridDesk$Grid;", true)
def t_X : Nat → FieldType := fun k => match k with
  | 0 => .object "GridDesk$Places"
  | _ => .object "GridDesk$Grid"
abbrev w_X : List Cond := u_ws R_X F_X 2
def F_A : u_T := fun k => match k with
  | 0 => ("GridDesk$Places", "values", "[J", true)
  | _ => ("GridDesk$Places", "floors", "[J", true)
def t_A : Nat → FieldType := fun k => match k with
  | 0 => .array .long
  | _ => .array .long
abbrev w_A : List Cond := u_ws R_A F_A 2
def F_G : u_T := fun k => match k with
  | 0 => ("GridDesk$Grid", "accounts", "LGridDesk$Accounts;", true)
  | 1 => ("GridDesk$Grid", "most", "I", true)
  | 2 => ("GridDesk$Grid", "there", "[Z", true)
  | 3 => ("GridDesk$Grid", "in", "[Z", true)
  | 4 => ("GridDesk$Grid", "many", "[B", true)
  | 5 => ("GridDesk$Grid", "positions", "[S", true)
  | 6 => ("GridDesk$Grid", "amounts", "[J", true)
  | 7 => ("GridDesk$Grid", "ahead", "[I", true)
  | 8 => ("GridDesk$Grid", "after", "[I", true)
  | 9 => ("GridDesk$Grid", "last", "[I", true)
  | 10 => ("GridDesk$Grid", "sums", "[J", true)
  | 11 => ("GridDesk$Grid", "shorts", "LGridDesk$Pile;", true)
  | 12 => ("GridDesk$Grid", "dropped", "LGridDesk$Pile;", true)
  | _ => ("GridDesk$Grid", "size", "I", false)
def t_G : Nat → FieldType := fun k => match k with
  | 0 => .object "GridDesk$Accounts"
  | 1 => .int
  | 2 => .array .boolean
  | 3 => .array .boolean
  | 4 => .array .byte
  | 5 => .array .short
  | 6 => .array .long
  | 7 => .array .int
  | 8 => .array .int
  | 9 => .array .int
  | 10 => .array .long
  | 11 => .object "GridDesk$Pile"
  | 12 => .object "GridDesk$Pile"
  | _ => .int
abbrev w_G : List Cond := u_ws R_G F_G 14
def F_P : u_T := fun k => match k with
  | 0 => ("GridDesk$Pile", "row", "[S", true)
  | 1 => ("GridDesk$Pile", "has", "[Z", true)
  | _ => ("GridDesk$Pile", "size", "I", false)
def t_P : Nat → FieldType := fun k => match k with
  | 0 => .array .short
  | 1 => .array .boolean
  | _ => .int
abbrev w_P : List Cond := u_ws R_P F_P 3
def F_M : u_T := fun k => match k with
  | 0 => ("GridDeskModel", "values", "[J", true)
  | 1 => ("GridDeskModel", "floors", "[J", true)
  | 2 => ("GridDeskModel", "items", "I", false)
  | 3 => ("GridDeskModel", "there", "[Z", true)
  | 4 => ("GridDeskModel", "chosen", "[Z", true)
  | 5 => ("GridDeskModel", "many", "[I", true)
  | 6 => ("GridDeskModel", "positions", "[I", true)
  | _ => ("GridDeskModel", "amounts", "[J", true)
def t_M : Nat → FieldType := fun k => match k with
  | 0 => .array .long
  | 1 => .array .long
  | 2 => .int
  | 3 => .array .boolean
  | 4 => .array .boolean
  | 5 => .array .int
  | 6 => .array .int
  | _ => .array .long
abbrev w_M : List Cond := u_ws R_M F_M 8
abbrev b_X_init : ByteArray := prog_1_method_1_code
abbrev y_X_init : MethodName := ⟨R_X, "<init>", "()V"⟩
abbrev k_X_init : Cond := .code y_X_init b_X_init 1 none
abbrev b_X_isPosition : ByteArray := prog_1_method_2_code
abbrev y_X_isPosition : MethodName := ⟨R_X, "isPosition", "(I)Z"⟩
abbrev k_X_isPosition : Cond := .code y_X_isPosition b_X_isPosition 1 (some .boolean)
abbrev b_X_isWithin : ByteArray := prog_1_method_3_code
abbrev y_X_isWithin : MethodName := ⟨R_X, "isWithin", "(JJ)Z"⟩
abbrev k_X_isWithin : Cond := .code y_X_isWithin b_X_isWithin 4 (some .boolean)
abbrev b_X_place : ByteArray := prog_1_method_4_code
abbrev y_X_place : MethodName := ⟨R_X, "place", "(IJJ)Z"⟩
abbrev k_X_place : Cond := .code y_X_place b_X_place 6 (some .boolean)
abbrev b_X_item : ByteArray := prog_1_method_5_code
abbrev y_X_item : MethodName := ⟨R_X, "item", "()I"⟩
abbrev k_X_item : Cond := .code y_X_item b_X_item 1 (some .int)
abbrev b_X_net : ByteArray := prog_1_method_6_code
abbrev y_X_net : MethodName := ⟨R_X, "net", "(IIJ)Z"⟩
abbrev k_X_net : Cond := .code y_X_net b_X_net 5 (some .boolean)
abbrev b_X_go : ByteArray := prog_1_method_7_code
abbrev y_X_go : MethodName := ⟨R_X, "go", "(I)Z"⟩
abbrev k_X_go : Cond := .code y_X_go b_X_go 2 (some .boolean)
abbrev b_X_solve : ByteArray := prog_1_method_8_code
abbrev y_X_solve : MethodName := ⟨R_X, "solve", "()I"⟩
abbrev k_X_solve : Cond := .code y_X_solve b_X_solve 1 (some .int)
abbrev b_X_in : ByteArray := prog_1_method_9_code
abbrev y_X_in : MethodName := ⟨R_X, "in", "(I)Z"⟩
abbrev k_X_in : Cond := .code y_X_in b_X_in 2 (some .boolean)
abbrev b_X_perform : ByteArray := prog_1_method_10_code
abbrev y_X_perform : MethodName := ⟨R_X, "perform", "()I"⟩
abbrev k_X_perform : Cond := .code y_X_perform b_X_perform 7 (some .int)
abbrev b_X_value : ByteArray := prog_1_method_11_code
abbrev y_X_value : MethodName := ⟨R_X, "value", "(I)J"⟩
abbrev k_X_value : Cond := .code y_X_value b_X_value 2 (some .long)
abbrev b_X_netOf : ByteArray := prog_1_method_12_code
abbrev y_X_netOf : MethodName := ⟨R_X, "netOf", "(II)J"⟩
abbrev k_X_netOf : Cond := .code y_X_netOf b_X_netOf 3 (some .long)
abbrev b_X_count : ByteArray := prog_1_method_13_code
abbrev y_X_count : MethodName := ⟨R_X, "count", "(I)I"⟩
abbrev k_X_count : Cond := .code y_X_count b_X_count 5 (some .int)
abbrev b_M_init : ByteArray := prog_7_method_1_code
abbrev y_M_init : MethodName := ⟨R_M, "<init>", "()V"⟩
abbrev k_M_init : Cond := .code y_M_init b_M_init 1 none
abbrev b_M_isPosition : ByteArray := prog_7_method_2_code
abbrev y_M_isPosition : MethodName := ⟨R_M, "isPosition", "(I)Z"⟩
abbrev k_M_isPosition : Cond := .code y_M_isPosition b_M_isPosition 1 (some .boolean)
abbrev b_M_isValue : ByteArray := prog_7_method_3_code
abbrev y_M_isValue : MethodName := ⟨R_M, "isValue", "(J)Z"⟩
abbrev k_M_isValue : Cond := .code y_M_isValue b_M_isValue 2 (some .boolean)
abbrev b_M_place : ByteArray := prog_7_method_4_code
abbrev y_M_place : MethodName := ⟨R_M, "place", "(IJJ)Z"⟩
abbrev k_M_place : Cond := .code y_M_place b_M_place 6 (some .boolean)
abbrev b_M_item : ByteArray := prog_7_method_5_code
abbrev y_M_item : MethodName := ⟨R_M, "item", "()I"⟩
abbrev k_M_item : Cond := .code y_M_item b_M_item 1 (some .int)
abbrev b_M_isThere : ByteArray := prog_7_method_6_code
abbrev y_M_isThere : MethodName := ⟨R_M, "isThere", "(I)Z"⟩
abbrev k_M_isThere : Cond := .code y_M_isThere b_M_isThere 2 (some .boolean)
abbrev b_M_find : ByteArray := prog_7_method_7_code
abbrev y_M_find : MethodName := ⟨R_M, "find", "(II)I"⟩
abbrev k_M_find : Cond := .code y_M_find b_M_find 4 (some .int)
abbrev b_M_netAt : ByteArray := prog_7_method_8_code
abbrev y_M_netAt : MethodName := ⟨R_M, "netAt", "(II)J"⟩
abbrev k_M_netAt : Cond := .code y_M_netAt b_M_netAt 4 (some .long)
abbrev b_M_net : ByteArray := prog_7_method_9_code
abbrev y_M_net : MethodName := ⟨R_M, "net", "(IIJ)Z"⟩
abbrev k_M_net : Cond := .code y_M_net b_M_net 9 (some .boolean)
abbrev b_M_go : ByteArray := prog_7_method_10_code
abbrev y_M_go : MethodName := ⟨R_M, "go", "(I)Z"⟩
abbrev k_M_go : Cond := .code y_M_go b_M_go 2 (some .boolean)
abbrev b_M_total : ByteArray := prog_7_method_11_code
abbrev y_M_total : MethodName := ⟨R_M, "total", "(I)J"⟩
abbrev k_M_total : Cond := .code y_M_total b_M_total 5 (some .long)
abbrev b_M_lastTaker : ByteArray := prog_7_method_12_code
abbrev y_M_lastTaker : MethodName := ⟨R_M, "lastTaker", "(I)I"⟩
abbrev k_M_lastTaker : Cond := .code y_M_lastTaker b_M_lastTaker 4 (some .int)
abbrev b_M_meet : ByteArray := prog_7_method_13_code
abbrev y_M_meet : MethodName := ⟨R_M, "meet", "(II)Z"⟩
abbrev k_M_meet : Cond := .code y_M_meet b_M_meet 5 (some .boolean)
abbrev b_M_lacks : ByteArray := prog_7_method_14_code
abbrev y_M_lacks : MethodName := ⟨R_M, "lacks", "(I)Z"⟩
abbrev k_M_lacks : Cond := .code y_M_lacks b_M_lacks 4 (some .boolean)
abbrev b_M_solve : ByteArray := prog_7_method_15_code
abbrev y_M_solve : MethodName := ⟨R_M, "solve", "()I"⟩
abbrev k_M_solve : Cond := .code y_M_solve b_M_solve 3 (some .int)
abbrev b_M_in : ByteArray := prog_7_method_16_code
abbrev y_M_in : MethodName := ⟨R_M, "in", "(I)Z"⟩
abbrev k_M_in : Cond := .code y_M_in b_M_in 2 (some .boolean)
abbrev b_M_perform : ByteArray := prog_7_method_17_code
abbrev y_M_perform : MethodName := ⟨R_M, "perform", "()I"⟩
abbrev k_M_perform : Cond := .code y_M_perform b_M_perform 3 (some .int)
abbrev b_M_value : ByteArray := prog_7_method_18_code
abbrev y_M_value : MethodName := ⟨R_M, "value", "(I)J"⟩
abbrev k_M_value : Cond := .code y_M_value b_M_value 2 (some .long)
abbrev b_M_netOf : ByteArray := prog_7_method_19_code
abbrev y_M_netOf : MethodName := ⟨R_M, "netOf", "(II)J"⟩
abbrev k_M_netOf : Cond := .code y_M_netOf b_M_netOf 3 (some .long)
abbrev b_M_count : ByteArray := prog_7_method_20_code
abbrev y_M_count : MethodName := ⟨R_M, "count", "(I)I"⟩
abbrev k_M_count : Cond := .code y_M_count b_M_count 5 (some .int)
abbrev b_G_init : ByteArray := prog_3_method_1_code
abbrev y_G_init : MethodName := ⟨R_G, "<init>", "(LGridDesk$Accounts;II)V"⟩
abbrev k_G_init : Cond := .code y_G_init b_G_init 4 none
abbrev b_G_isFull : ByteArray := prog_3_method_3_code
abbrev y_G_isFull : MethodName := ⟨R_G, "isFull", "()Z"⟩
abbrev k_G_isFull : Cond := .code y_G_isFull b_G_isFull 1 (some .boolean)
abbrev b_G_add : ByteArray := prog_3_method_4_code
abbrev y_G_add : MethodName := ⟨R_G, "add", "()I"⟩
abbrev k_G_add : Cond := .code y_G_add b_G_add 1 (some .int)
abbrev b_G_isThere : ByteArray := prog_3_method_5_code
abbrev y_G_isThere : MethodName := ⟨R_G, "isThere", "(I)Z"⟩
abbrev k_G_isThere : Cond := .code y_G_isThere b_G_isThere 2 (some .boolean)
abbrev b_G_find : ByteArray := prog_3_method_6_code
abbrev y_G_find : MethodName := ⟨R_G, "find", "(II)I"⟩
abbrev k_G_find : Cond := .code y_G_find b_G_find 4 (some .int)
abbrev b_G_netOf : ByteArray := prog_3_method_7_code
abbrev y_G_netOf : MethodName := ⟨R_G, "netOf", "(II)J"⟩
abbrev k_G_netOf : Cond := .code y_G_netOf b_G_netOf 4 (some .long)
abbrev b_G_net : ByteArray := prog_3_method_8_code
abbrev y_G_net : MethodName := ⟨R_G, "net", "(IIJ)Z"⟩
abbrev k_G_net : Cond := .code y_G_net b_G_net 6 (some .boolean)
abbrev b_G_forget : ByteArray := prog_3_method_9_code
abbrev y_G_forget : MethodName := ⟨R_G, "forget", "(II)V"⟩
abbrev k_G_forget : Cond := .code y_G_forget b_G_forget 3 none
abbrev b_G_begin : ByteArray := prog_3_method_10_code
abbrev y_G_begin : MethodName := ⟨R_G, "begin", "()V"⟩
abbrev k_G_begin : Cond := .code y_G_begin b_G_begin 3 none
abbrev b_G_enter : ByteArray := prog_3_method_11_code
abbrev y_G_enter : MethodName := ⟨R_G, "enter", "(I)V"⟩
abbrev k_G_enter : Cond := .code y_G_enter b_G_enter 3 none
abbrev b_G_look : ByteArray := prog_3_method_12_code
abbrev y_G_look : MethodName := ⟨R_G, "look", "(I)V"⟩
abbrev k_G_look : Cond := .code y_G_look b_G_look 2 none
abbrev b_G_drop : ByteArray := prog_3_method_13_code
abbrev y_G_drop : MethodName := ⟨R_G, "drop", "(I)V"⟩
abbrev k_G_drop : Cond := .code y_G_drop b_G_drop 5 none
abbrev b_G_leave : ByteArray := prog_3_method_14_code
abbrev y_G_leave : MethodName := ⟨R_G, "leave", "(II)V"⟩
abbrev k_G_leave : Cond := .code y_G_leave b_G_leave 3 none
abbrev b_G_dropAll : ByteArray := prog_3_method_15_code
abbrev y_G_dropAll : MethodName := ⟨R_G, "dropAll", "()V"⟩
abbrev k_G_dropAll : Cond := .code y_G_dropAll b_G_dropAll 2 none
abbrev b_G_solve : ByteArray := prog_3_method_16_code
abbrev y_G_solve : MethodName := ⟨R_G, "solve", "()I"⟩
abbrev k_G_solve : Cond := .code y_G_solve b_G_solve 3 (some .int)
abbrev b_P_init : ByteArray := prog_4_method_1_code
abbrev y_P_init : MethodName := ⟨R_P, "<init>", "(I)V"⟩
abbrev k_P_init : Cond := .code y_P_init b_P_init 2 none
abbrev b_P_isEmpty : ByteArray := prog_4_method_2_code
abbrev y_P_isEmpty : MethodName := ⟨R_P, "isEmpty", "()Z"⟩
abbrev k_P_isEmpty : Cond := .code y_P_isEmpty b_P_isEmpty 1 (some .boolean)
abbrev b_P_push : ByteArray := prog_4_method_3_code
abbrev y_P_push : MethodName := ⟨R_P, "push", "(I)V"⟩
abbrev k_P_push : Cond := .code y_P_push b_P_push 2 none
abbrev b_P_pop : ByteArray := prog_4_method_4_code
abbrev y_P_pop : MethodName := ⟨R_P, "pop", "()I"⟩
abbrev k_P_pop : Cond := .code y_P_pop b_P_pop 1 (some .int)
abbrev b_A_init : ByteArray := prog_5_method_1_code
abbrev y_A_init : MethodName := ⟨R_A, "<init>", "()V"⟩
abbrev k_A_init : Cond := .code y_A_init b_A_init 1 none
abbrev b_A_value : ByteArray := prog_5_method_2_code
abbrev y_A_value : MethodName := ⟨R_A, "value", "(I)J"⟩
abbrev k_A_value : Cond := .code y_A_value b_A_value 2 (some .long)
abbrev b_A_floor : ByteArray := prog_5_method_3_code
abbrev y_A_floor : MethodName := ⟨R_A, "floor", "(I)J"⟩
abbrev k_A_floor : Cond := .code y_A_floor b_A_floor 2 (some .long)
abbrev y_I_value : MethodName := ⟨R_I, "value", "(I)J"⟩
abbrev y_I_floor : MethodName := ⟨R_I, "floor", "(I)J"⟩
/-- the words that every method carries: the steady ones of the tables -/
def gw : List Cond := lw_tbl.filter goodWord
theorem gw_of {w : Cond} (h : w ∈ tables_1) (g : goodWord w = true) : w ∈ gw := List.mem_filter.mpr ⟨List.mem_append_right _ h, g⟩
theorem gw_ofs {w : Cond} (h : w ∈ k2_sels lw_privs) (g : goodWord w = true) : w ∈ gw := List.mem_filter.mpr ⟨List.mem_append_left _ h, g⟩
theorem gw_good {w : Cond} (h : w ∈ gw) : (w.onTables && w.keeps) = true ∨ ∃ ty, w = .arrayClass ty := good_of_word (List.mem_filter.mp h).2
theorem gw_sub {w : Cond} (h : w ∈ gw) : w ∈ lw_tbl := (List.mem_filter.mp h).1
theorem tw_0 : (.initialized R_law : Cond) ∈ gw := gw_of (List.mem_of_getElem? (i := 0) (by decide +kernel)) (by decide +kernel)
theorem tw_1 : (.initialized R_X : Cond) ∈ gw := gw_of (List.mem_of_getElem? (i := 1) (by decide +kernel)) (by decide +kernel)
theorem tw_2 : (.initialized R_A : Cond) ∈ gw := gw_of (List.mem_of_getElem? (i := 2) (by decide +kernel)) (by decide +kernel)
theorem tw_3 : (.initialized R_G : Cond) ∈ gw := gw_of (List.mem_of_getElem? (i := 3) (by decide +kernel)) (by decide +kernel)
theorem tw_4 : (.initialized R_P : Cond) ∈ gw := gw_of (List.mem_of_getElem? (i := 4) (by decide +kernel)) (by decide +kernel)
theorem tw_5 : (.initialized R_M : Cond) ∈ gw := gw_of (List.mem_of_getElem? (i := 5) (by decide +kernel)) (by decide +kernel)
theorem tw_6 : (.classLink R_law 7 R_X : Cond) ∈ gw := gw_of (List.mem_of_getElem? (i := 6) (by decide +kernel)) (by decide +kernel)
theorem tw_7 : (.instantiable R_X 2 : Cond) ∈ gw := gw_of (List.mem_of_getElem? (i := 7) (by decide +kernel)) (by decide +kernel)
theorem tw_8 : (.methodLink R_law 9 y_X_init : Cond) ∈ gw := gw_of (List.mem_of_getElem? (i := 8) (by decide +kernel)) (by decide +kernel)
theorem tw_9 : (.instanceMethod y_X_init : Cond) ∈ gw := gw_of (List.mem_of_getElem? (i := 9) (by decide +kernel)) (by decide +kernel)
theorem tw_10 : (.code y_X_init prog_1_method_1_code 1 none : Cond) ∈ gw := gw_of (List.mem_of_getElem? (i := 10) (by decide +kernel)) (by decide +kernel)
theorem tw_11 : (.methodLink R_X 1 objectInit : Cond) ∈ gw := gw_of (List.mem_of_getElem? (i := 11) (by decide +kernel)) (by decide +kernel)
theorem tw_12 : (.instanceMethod objectInit : Cond) ∈ gw := gw_of (List.mem_of_getElem? (i := 12) (by decide +kernel)) (by decide +kernel)
theorem tw_13 : (.code objectInit ⟨#[0xb1]⟩ 1 none : Cond) ∈ gw := gw_of (List.mem_of_getElem? (i := 13) (by decide +kernel)) (by decide +kernel)
theorem tw_14 : (.classLink R_X 7 R_A : Cond) ∈ gw := gw_of (List.mem_of_getElem? (i := 14) (by decide +kernel)) (by decide +kernel)
theorem tw_15 : (.instantiable R_A 2 : Cond) ∈ gw := gw_of (List.mem_of_getElem? (i := 15) (by decide +kernel)) (by decide +kernel)
theorem tw_17 : (.instanceMethod y_A_init : Cond) ∈ gw := gw_of (List.mem_of_getElem? (i := 17) (by decide +kernel)) (by decide +kernel)
theorem tw_18 : (.code y_A_init prog_5_method_1_code 1 none : Cond) ∈ gw := gw_of (List.mem_of_getElem? (i := 18) (by decide +kernel)) (by decide +kernel)
theorem tw_19 : (.methodLink R_A 1 objectInit : Cond) ∈ gw := gw_of (List.mem_of_getElem? (i := 19) (by decide +kernel)) (by decide +kernel)
theorem tw_20 : (.fieldLink R_A 9 R_A "values" "[J" : Cond) ∈ gw := gw_of (List.mem_of_getElem? (i := 20) (by decide +kernel)) (by decide +kernel)
theorem tw_22 : (.fieldLink R_A 13 R_A "floors" "[J" : Cond) ∈ gw := gw_of (List.mem_of_getElem? (i := 22) (by decide +kernel)) (by decide +kernel)
theorem tw_24 : (.laysFinal R_A R_A "values" "[J" : Cond) ∈ gw := gw_of (List.mem_of_getElem? (i := 24) (by decide +kernel)) (by decide +kernel)
theorem tw_26 : (.laysFinal R_A R_A "floors" "[J" : Cond) ∈ gw := gw_of (List.mem_of_getElem? (i := 26) (by decide +kernel)) (by decide +kernel)
theorem tw_29 : (.arrayClass .long : Cond) ∈ gw := gw_of (List.mem_of_getElem? (i := 29) (by decide +kernel)) (by decide +kernel)
theorem tw_30 : (.classLink R_X 16 R_G : Cond) ∈ gw := gw_of (List.mem_of_getElem? (i := 30) (by decide +kernel)) (by decide +kernel)
theorem tw_31 : (.instantiable R_G 14 : Cond) ∈ gw := gw_of (List.mem_of_getElem? (i := 31) (by decide +kernel)) (by decide +kernel)
theorem tw_32 : (.methodLink R_X 18 y_G_init : Cond) ∈ gw := gw_of (List.mem_of_getElem? (i := 32) (by decide +kernel)) (by decide +kernel)
theorem tw_33 : (.instanceMethod y_G_init : Cond) ∈ gw := gw_of (List.mem_of_getElem? (i := 33) (by decide +kernel)) (by decide +kernel)
theorem tw_34 : (.code y_G_init prog_3_method_1_code 4 none : Cond) ∈ gw := gw_of (List.mem_of_getElem? (i := 34) (by decide +kernel)) (by decide +kernel)
theorem tw_35 : (.methodLink R_G 1 objectInit : Cond) ∈ gw := gw_of (List.mem_of_getElem? (i := 35) (by decide +kernel)) (by decide +kernel)
theorem tw_36 : (.classLink R_G 49 R_P : Cond) ∈ gw := gw_of (List.mem_of_getElem? (i := 36) (by decide +kernel)) (by decide +kernel)
theorem tw_37 : (.instantiable R_P 3 : Cond) ∈ gw := gw_of (List.mem_of_getElem? (i := 37) (by decide +kernel)) (by decide +kernel)
theorem tw_38 : (.methodLink R_G 51 y_P_init : Cond) ∈ gw := gw_of (List.mem_of_getElem? (i := 38) (by decide +kernel)) (by decide +kernel)
theorem tw_39 : (.instanceMethod y_P_init : Cond) ∈ gw := gw_of (List.mem_of_getElem? (i := 39) (by decide +kernel)) (by decide +kernel)
theorem tw_40 : (.code y_P_init prog_4_method_1_code 2 none : Cond) ∈ gw := gw_of (List.mem_of_getElem? (i := 40) (by decide +kernel)) (by decide +kernel)
theorem tw_41 : (.methodLink R_P 1 objectInit : Cond) ∈ gw := gw_of (List.mem_of_getElem? (i := 41) (by decide +kernel)) (by decide +kernel)
theorem tw_42 : (.fieldLink R_P 7 R_P "row" "[S" : Cond) ∈ gw := gw_of (List.mem_of_getElem? (i := 42) (by decide +kernel)) (by decide +kernel)
theorem tw_43 : (.fieldLink R_P 13 R_P "has" "[Z" : Cond) ∈ gw := gw_of (List.mem_of_getElem? (i := 43) (by decide +kernel)) (by decide +kernel)
theorem tw_44 : (.fieldLink R_P 17 R_P "size" "I" : Cond) ∈ gw := gw_of (List.mem_of_getElem? (i := 44) (by decide +kernel)) (by decide +kernel)
theorem tw_45 : (.laysFinal R_P R_P "row" "[S" : Cond) ∈ gw := gw_of (List.mem_of_getElem? (i := 45) (by decide +kernel)) (by decide +kernel)
theorem tw_47 : (.laysFinal R_P R_P "has" "[Z" : Cond) ∈ gw := gw_of (List.mem_of_getElem? (i := 47) (by decide +kernel)) (by decide +kernel)
theorem tw_49 : (.lays R_P R_P "size" "I" : Cond) ∈ gw := gw_of (List.mem_of_getElem? (i := 49) (by decide +kernel)) (by decide +kernel)
theorem tw_52 : (.arrayClass .boolean : Cond) ∈ gw := gw_of (List.mem_of_getElem? (i := 52) (by decide +kernel)) (by decide +kernel)
theorem tw_53 : (.arrayClass .byte : Cond) ∈ gw := gw_of (List.mem_of_getElem? (i := 53) (by decide +kernel)) (by decide +kernel)
theorem tw_54 : (.arrayClass .short : Cond) ∈ gw := gw_of (List.mem_of_getElem? (i := 54) (by decide +kernel)) (by decide +kernel)
theorem tw_55 : (.arrayClass .int : Cond) ∈ gw := gw_of (List.mem_of_getElem? (i := 55) (by decide +kernel)) (by decide +kernel)
theorem tw_56 : (.fieldLink R_G 7 R_G "accounts" "LGridDesk$Accounts;" : Cond) ∈ gw := gw_of (List.mem_of_getElem? (i := 56) (by decide +kernel)) (by decide +kernel)
theorem tw_57 : (.fieldLink R_G 13 R_G "most" "I" : Cond) ∈ gw := gw_of (List.mem_of_getElem? (i := 57) (by decide +kernel)) (by decide +kernel)
theorem tw_58 : (.fieldLink R_G 17 R_G "there" "[Z" : Cond) ∈ gw := gw_of (List.mem_of_getElem? (i := 58) (by decide +kernel)) (by decide +kernel)
theorem tw_60 : (.fieldLink R_G 21 R_G "in" "[Z" : Cond) ∈ gw := gw_of (List.mem_of_getElem? (i := 60) (by decide +kernel)) (by decide +kernel)
theorem tw_62 : (.fieldLink R_G 24 R_G "many" "[B" : Cond) ∈ gw := gw_of (List.mem_of_getElem? (i := 62) (by decide +kernel)) (by decide +kernel)
theorem tw_63 : (.fieldLink R_G 28 R_G "positions" "[S" : Cond) ∈ gw := gw_of (List.mem_of_getElem? (i := 63) (by decide +kernel)) (by decide +kernel)
theorem tw_64 : (.fieldLink R_G 32 R_G "amounts" "[J" : Cond) ∈ gw := gw_of (List.mem_of_getElem? (i := 64) (by decide +kernel)) (by decide +kernel)
theorem tw_65 : (.fieldLink R_G 36 R_G "ahead" "[I" : Cond) ∈ gw := gw_of (List.mem_of_getElem? (i := 65) (by decide +kernel)) (by decide +kernel)
theorem tw_66 : (.fieldLink R_G 40 R_G "after" "[I" : Cond) ∈ gw := gw_of (List.mem_of_getElem? (i := 66) (by decide +kernel)) (by decide +kernel)
theorem tw_67 : (.fieldLink R_G 43 R_G "last" "[I" : Cond) ∈ gw := gw_of (List.mem_of_getElem? (i := 67) (by decide +kernel)) (by decide +kernel)
theorem tw_68 : (.fieldLink R_G 46 R_G "sums" "[J" : Cond) ∈ gw := gw_of (List.mem_of_getElem? (i := 68) (by decide +kernel)) (by decide +kernel)
theorem tw_70 : (.fieldLink R_G 54 R_G "shorts" "LGridDesk$Pile;" : Cond) ∈ gw := gw_of (List.mem_of_getElem? (i := 70) (by decide +kernel)) (by decide +kernel)
theorem tw_71 : (.fieldLink R_G 58 R_G "dropped" "LGridDesk$Pile;" : Cond) ∈ gw := gw_of (List.mem_of_getElem? (i := 71) (by decide +kernel)) (by decide +kernel)
theorem tw_72 : (.fieldLink R_G 61 R_G "size" "I" : Cond) ∈ gw := gw_of (List.mem_of_getElem? (i := 72) (by decide +kernel)) (by decide +kernel)
theorem tw_74 : (.laysFinal R_G R_G "accounts" "LGridDesk$Accounts;" : Cond) ∈ gw := gw_of (List.mem_of_getElem? (i := 74) (by decide +kernel)) (by decide +kernel)
theorem tw_76 : (.laysFinal R_G R_G "most" "I" : Cond) ∈ gw := gw_of (List.mem_of_getElem? (i := 76) (by decide +kernel)) (by decide +kernel)
theorem tw_78 : (.laysFinal R_G R_G "there" "[Z" : Cond) ∈ gw := gw_of (List.mem_of_getElem? (i := 78) (by decide +kernel)) (by decide +kernel)
theorem tw_80 : (.laysFinal R_G R_G "in" "[Z" : Cond) ∈ gw := gw_of (List.mem_of_getElem? (i := 80) (by decide +kernel)) (by decide +kernel)
theorem tw_82 : (.laysFinal R_G R_G "many" "[B" : Cond) ∈ gw := gw_of (List.mem_of_getElem? (i := 82) (by decide +kernel)) (by decide +kernel)
theorem tw_84 : (.laysFinal R_G R_G "positions" "[S" : Cond) ∈ gw := gw_of (List.mem_of_getElem? (i := 84) (by decide +kernel)) (by decide +kernel)
theorem tw_86 : (.laysFinal R_G R_G "amounts" "[J" : Cond) ∈ gw := gw_of (List.mem_of_getElem? (i := 86) (by decide +kernel)) (by decide +kernel)
theorem tw_88 : (.laysFinal R_G R_G "ahead" "[I" : Cond) ∈ gw := gw_of (List.mem_of_getElem? (i := 88) (by decide +kernel)) (by decide +kernel)
theorem tw_90 : (.laysFinal R_G R_G "after" "[I" : Cond) ∈ gw := gw_of (List.mem_of_getElem? (i := 90) (by decide +kernel)) (by decide +kernel)
theorem tw_92 : (.laysFinal R_G R_G "last" "[I" : Cond) ∈ gw := gw_of (List.mem_of_getElem? (i := 92) (by decide +kernel)) (by decide +kernel)
theorem tw_94 : (.laysFinal R_G R_G "sums" "[J" : Cond) ∈ gw := gw_of (List.mem_of_getElem? (i := 94) (by decide +kernel)) (by decide +kernel)
theorem tw_96 : (.laysFinal R_G R_G "shorts" "LGridDesk$Pile;" : Cond) ∈ gw := gw_of (List.mem_of_getElem? (i := 96) (by decide +kernel)) (by decide +kernel)
theorem tw_98 : (.laysFinal R_G R_G "dropped" "LGridDesk$Pile;" : Cond) ∈ gw := gw_of (List.mem_of_getElem? (i := 98) (by decide +kernel)) (by decide +kernel)
theorem tw_100 : (.lays R_G R_G "size" "I" : Cond) ∈ gw := gw_of (List.mem_of_getElem? (i := 100) (by decide +kernel)) (by decide +kernel)
theorem tw_103 : (.fieldLink R_X 10 R_X "places" "LGridDesk$Places;" : Cond) ∈ gw := gw_of (List.mem_of_getElem? (i := 103) (by decide +kernel)) (by decide +kernel)
theorem tw_104 : (.fieldLink R_X 21 R_X "grid" "LGridDesk$Grid;" : Cond) ∈ gw := gw_of (List.mem_of_getElem? (i := 104) (by decide +kernel)) (by decide +kernel)
theorem tw_105 : (.laysFinal R_X R_X "places" "LGridDesk$Places;" : Cond) ∈ gw := gw_of (List.mem_of_getElem? (i := 105) (by decide +kernel)) (by decide +kernel)
theorem tw_107 : (.laysFinal R_X R_X "grid" "LGridDesk$Grid;" : Cond) ∈ gw := gw_of (List.mem_of_getElem? (i := 107) (by decide +kernel)) (by decide +kernel)
theorem tw_110 : (.methodLink R_law 15 y_X_place : Cond) ∈ gw := gw_of (List.mem_of_getElem? (i := 110) (by decide +kernel)) (by decide +kernel)
theorem tw_111 : (.instanceMethod y_X_place : Cond) ∈ gw := gw_of (List.mem_of_getElem? (i := 111) (by decide +kernel)) (by decide +kernel)
theorem tw_112 : (.selects R_X y_X_place y_X_place : Cond) ∈ gw := gw_of (List.mem_of_getElem? (i := 112) (by decide +kernel)) (by decide +kernel)
theorem tw_113 : (.code y_X_place prog_1_method_4_code 6 (some .boolean) : Cond) ∈ gw := gw_of (List.mem_of_getElem? (i := 113) (by decide +kernel)) (by decide +kernel)
theorem tw_114 : (.methodLink R_X 25 y_X_isPosition : Cond) ∈ gw := gw_of (List.mem_of_getElem? (i := 114) (by decide +kernel)) (by decide +kernel)
theorem tw_115 : (.static y_X_isPosition : Cond) ∈ gw := gw_of (List.mem_of_getElem? (i := 115) (by decide +kernel)) (by decide +kernel)
theorem tw_116 : (.code y_X_isPosition prog_1_method_2_code 1 (some .boolean) : Cond) ∈ gw := gw_of (List.mem_of_getElem? (i := 116) (by decide +kernel)) (by decide +kernel)
theorem tw_117 : (.constantLong R_X 29 (1000000000000000000 : Int64) : Cond) ∈ gw := gw_of (List.mem_of_getElem? (i := 117) (by decide +kernel)) (by decide +kernel)
theorem tw_118 : (.methodLink R_X 31 y_X_isWithin : Cond) ∈ gw := gw_of (List.mem_of_getElem? (i := 118) (by decide +kernel)) (by decide +kernel)
theorem tw_119 : (.static y_X_isWithin : Cond) ∈ gw := gw_of (List.mem_of_getElem? (i := 119) (by decide +kernel)) (by decide +kernel)
theorem tw_120 : (.code y_X_isWithin prog_1_method_3_code 4 (some .boolean) : Cond) ∈ gw := gw_of (List.mem_of_getElem? (i := 120) (by decide +kernel)) (by decide +kernel)
theorem tw_121 : (.methodLink R_law 20 y_X_item : Cond) ∈ gw := gw_of (List.mem_of_getElem? (i := 121) (by decide +kernel)) (by decide +kernel)
theorem tw_122 : (.instanceMethod y_X_item : Cond) ∈ gw := gw_of (List.mem_of_getElem? (i := 122) (by decide +kernel)) (by decide +kernel)
theorem tw_123 : (.selects R_X y_X_item y_X_item : Cond) ∈ gw := gw_of (List.mem_of_getElem? (i := 123) (by decide +kernel)) (by decide +kernel)
theorem tw_124 : (.code y_X_item prog_1_method_5_code 1 (some .int) : Cond) ∈ gw := gw_of (List.mem_of_getElem? (i := 124) (by decide +kernel)) (by decide +kernel)
theorem tw_125 : (.methodLink R_X 42 y_G_isFull : Cond) ∈ gw := gw_of (List.mem_of_getElem? (i := 125) (by decide +kernel)) (by decide +kernel)
theorem tw_126 : (.instanceMethod y_G_isFull : Cond) ∈ gw := gw_of (List.mem_of_getElem? (i := 126) (by decide +kernel)) (by decide +kernel)
theorem tw_127 : (.selects R_G y_G_isFull y_G_isFull : Cond) ∈ gw := gw_of (List.mem_of_getElem? (i := 127) (by decide +kernel)) (by decide +kernel)
theorem tw_128 : (.code y_G_isFull prog_3_method_3_code 1 (some .boolean) : Cond) ∈ gw := gw_of (List.mem_of_getElem? (i := 128) (by decide +kernel)) (by decide +kernel)
theorem tw_129 : (.methodLink R_X 46 y_G_add : Cond) ∈ gw := gw_of (List.mem_of_getElem? (i := 129) (by decide +kernel)) (by decide +kernel)
theorem tw_130 : (.instanceMethod y_G_add : Cond) ∈ gw := gw_of (List.mem_of_getElem? (i := 130) (by decide +kernel)) (by decide +kernel)
theorem tw_131 : (.selects R_G y_G_add y_G_add : Cond) ∈ gw := gw_of (List.mem_of_getElem? (i := 131) (by decide +kernel)) (by decide +kernel)
theorem tw_132 : (.code y_G_add prog_3_method_4_code 1 (some .int) : Cond) ∈ gw := gw_of (List.mem_of_getElem? (i := 132) (by decide +kernel)) (by decide +kernel)
theorem tw_133 : (.methodLink R_law 25 y_X_net : Cond) ∈ gw := gw_of (List.mem_of_getElem? (i := 133) (by decide +kernel)) (by decide +kernel)
theorem tw_134 : (.instanceMethod y_X_net : Cond) ∈ gw := gw_of (List.mem_of_getElem? (i := 134) (by decide +kernel)) (by decide +kernel)
theorem tw_135 : (.selects R_X y_X_net y_X_net : Cond) ∈ gw := gw_of (List.mem_of_getElem? (i := 135) (by decide +kernel)) (by decide +kernel)
theorem tw_136 : (.code y_X_net prog_1_method_6_code 5 (some .boolean) : Cond) ∈ gw := gw_of (List.mem_of_getElem? (i := 136) (by decide +kernel)) (by decide +kernel)
theorem tw_137 : (.methodLink R_X 50 y_G_isThere : Cond) ∈ gw := gw_of (List.mem_of_getElem? (i := 137) (by decide +kernel)) (by decide +kernel)
theorem tw_138 : (.instanceMethod y_G_isThere : Cond) ∈ gw := gw_of (List.mem_of_getElem? (i := 138) (by decide +kernel)) (by decide +kernel)
theorem tw_139 : (.selects R_G y_G_isThere y_G_isThere : Cond) ∈ gw := gw_of (List.mem_of_getElem? (i := 139) (by decide +kernel)) (by decide +kernel)
theorem tw_140 : (.code y_G_isThere prog_3_method_5_code 2 (some .boolean) : Cond) ∈ gw := gw_of (List.mem_of_getElem? (i := 140) (by decide +kernel)) (by decide +kernel)
theorem tw_141 : (.constantLong R_X 53 (2000000000000000 : Int64) : Cond) ∈ gw := gw_of (List.mem_of_getElem? (i := 141) (by decide +kernel)) (by decide +kernel)
theorem tw_142 : (.methodLink R_X 55 y_G_netOf : Cond) ∈ gw := gw_of (List.mem_of_getElem? (i := 142) (by decide +kernel)) (by decide +kernel)
theorem tw_143 : (.instanceMethod y_G_netOf : Cond) ∈ gw := gw_of (List.mem_of_getElem? (i := 143) (by decide +kernel)) (by decide +kernel)
theorem tw_144 : (.selects R_G y_G_netOf y_G_netOf : Cond) ∈ gw := gw_of (List.mem_of_getElem? (i := 144) (by decide +kernel)) (by decide +kernel)
theorem tw_145 : (.code y_G_netOf prog_3_method_7_code 4 (some .long) : Cond) ∈ gw := gw_of (List.mem_of_getElem? (i := 145) (by decide +kernel)) (by decide +kernel)
theorem tw_146 : (.methodLink R_G 64 y_G_find : Cond) ∈ gw := gw_of (List.mem_of_getElem? (i := 146) (by decide +kernel)) (by decide +kernel)
theorem tw_147 : (.instanceMethod y_G_find : Cond) ∈ gw := gw_of (List.mem_of_getElem? (i := 147) (by decide +kernel)) (by decide +kernel)
theorem tw_148 : (.selects R_G y_G_find y_G_find : Cond) ∈ gw := gw_of (List.mem_of_getElem? (i := 148) (by decide +kernel)) (by decide +kernel)
theorem tw_149 : (.code y_G_find prog_3_method_6_code 4 (some .int) : Cond) ∈ gw := gw_of (List.mem_of_getElem? (i := 149) (by decide +kernel)) (by decide +kernel)
theorem tw_150 : (.constantLong R_X 59 (1000000000000000 : Int64) : Cond) ∈ gw := gw_of (List.mem_of_getElem? (i := 150) (by decide +kernel)) (by decide +kernel)
theorem tw_151 : (.methodLink R_X 61 y_G_net : Cond) ∈ gw := gw_of (List.mem_of_getElem? (i := 151) (by decide +kernel)) (by decide +kernel)
theorem tw_152 : (.instanceMethod y_G_net : Cond) ∈ gw := gw_of (List.mem_of_getElem? (i := 152) (by decide +kernel)) (by decide +kernel)
theorem tw_153 : (.selects R_G y_G_net y_G_net : Cond) ∈ gw := gw_of (List.mem_of_getElem? (i := 153) (by decide +kernel)) (by decide +kernel)
theorem tw_154 : (.code y_G_net prog_3_method_8_code 6 (some .boolean) : Cond) ∈ gw := gw_of (List.mem_of_getElem? (i := 154) (by decide +kernel)) (by decide +kernel)
theorem tw_155 : (.methodLink R_G 68 y_G_forget : Cond) ∈ gw := gw_of (List.mem_of_getElem? (i := 155) (by decide +kernel)) (by decide +kernel)
theorem tw_157 : (.instanceMethod y_G_forget : Cond) ∈ gw := gw_of (List.mem_of_getElem? (i := 157) (by decide +kernel)) (by decide +kernel)
theorem tw_158 : (.code y_G_forget prog_3_method_9_code 3 none : Cond) ∈ gw := gw_of (List.mem_of_getElem? (i := 158) (by decide +kernel)) (by decide +kernel)
theorem tw_159 : (.methodLink R_law 30 y_X_go : Cond) ∈ gw := gw_of (List.mem_of_getElem? (i := 159) (by decide +kernel)) (by decide +kernel)
theorem tw_160 : (.instanceMethod y_X_go : Cond) ∈ gw := gw_of (List.mem_of_getElem? (i := 160) (by decide +kernel)) (by decide +kernel)
theorem tw_161 : (.selects R_X y_X_go y_X_go : Cond) ∈ gw := gw_of (List.mem_of_getElem? (i := 161) (by decide +kernel)) (by decide +kernel)
theorem tw_162 : (.code y_X_go prog_1_method_7_code 2 (some .boolean) : Cond) ∈ gw := gw_of (List.mem_of_getElem? (i := 162) (by decide +kernel)) (by decide +kernel)
theorem tw_163 : (.methodLink R_law 35 y_X_solve : Cond) ∈ gw := gw_of (List.mem_of_getElem? (i := 163) (by decide +kernel)) (by decide +kernel)
theorem tw_164 : (.instanceMethod y_X_solve : Cond) ∈ gw := gw_of (List.mem_of_getElem? (i := 164) (by decide +kernel)) (by decide +kernel)
theorem tw_165 : (.selects R_X y_X_solve y_X_solve : Cond) ∈ gw := gw_of (List.mem_of_getElem? (i := 165) (by decide +kernel)) (by decide +kernel)
theorem tw_166 : (.code y_X_solve prog_1_method_8_code 1 (some .int) : Cond) ∈ gw := gw_of (List.mem_of_getElem? (i := 166) (by decide +kernel)) (by decide +kernel)
theorem tw_167 : (.methodLink R_X 69 y_G_solve : Cond) ∈ gw := gw_of (List.mem_of_getElem? (i := 167) (by decide +kernel)) (by decide +kernel)
theorem tw_168 : (.instanceMethod y_G_solve : Cond) ∈ gw := gw_of (List.mem_of_getElem? (i := 168) (by decide +kernel)) (by decide +kernel)
theorem tw_169 : (.selects R_G y_G_solve y_G_solve : Cond) ∈ gw := gw_of (List.mem_of_getElem? (i := 169) (by decide +kernel)) (by decide +kernel)
theorem tw_170 : (.code y_G_solve prog_3_method_16_code 3 (some .int) : Cond) ∈ gw := gw_of (List.mem_of_getElem? (i := 170) (by decide +kernel)) (by decide +kernel)
theorem tw_171 : (.methodLink R_G 104 y_G_begin : Cond) ∈ gw := gw_of (List.mem_of_getElem? (i := 171) (by decide +kernel)) (by decide +kernel)
theorem tw_173 : (.instanceMethod y_G_begin : Cond) ∈ gw := gw_of (List.mem_of_getElem? (i := 173) (by decide +kernel)) (by decide +kernel)
theorem tw_174 : (.code y_G_begin prog_3_method_10_code 3 none : Cond) ∈ gw := gw_of (List.mem_of_getElem? (i := 174) (by decide +kernel)) (by decide +kernel)
theorem tw_176 : (.methodLink R_G 72 y_I_value : Cond) ∈ gw := gw_of (List.mem_of_getElem? (i := 176) (by decide +kernel)) (by decide +kernel)
theorem tw_180 : (.selects R_A y_I_value y_A_value : Cond) ∈ gw := gw_of (List.mem_of_getElem? (i := 180) (by decide +kernel)) (by decide +kernel)
theorem tw_182 : (.instanceMethod y_A_value : Cond) ∈ gw := gw_of (List.mem_of_getElem? (i := 182) (by decide +kernel)) (by decide +kernel)
theorem tw_184 : (.code y_A_value prog_5_method_2_code 2 (some .long) : Cond) ∈ gw := gw_of (List.mem_of_getElem? (i := 184) (by decide +kernel)) (by decide +kernel)
theorem tw_185 : (.methodLink R_G 78 y_G_enter : Cond) ∈ gw := gw_of (List.mem_of_getElem? (i := 185) (by decide +kernel)) (by decide +kernel)
theorem tw_187 : (.instanceMethod y_G_enter : Cond) ∈ gw := gw_of (List.mem_of_getElem? (i := 187) (by decide +kernel)) (by decide +kernel)
theorem tw_188 : (.code y_G_enter prog_3_method_11_code 3 none : Cond) ∈ gw := gw_of (List.mem_of_getElem? (i := 188) (by decide +kernel)) (by decide +kernel)
theorem tw_189 : (.methodLink R_G 81 y_G_look : Cond) ∈ gw := gw_of (List.mem_of_getElem? (i := 189) (by decide +kernel)) (by decide +kernel)
theorem tw_191 : (.instanceMethod y_G_look : Cond) ∈ gw := gw_of (List.mem_of_getElem? (i := 191) (by decide +kernel)) (by decide +kernel)
theorem tw_192 : (.code y_G_look prog_3_method_12_code 2 none : Cond) ∈ gw := gw_of (List.mem_of_getElem? (i := 192) (by decide +kernel)) (by decide +kernel)
theorem tw_194 : (.methodLink R_G 84 y_I_floor : Cond) ∈ gw := gw_of (List.mem_of_getElem? (i := 194) (by decide +kernel)) (by decide +kernel)
theorem tw_197 : (.selects R_A y_I_floor y_A_floor : Cond) ∈ gw := gw_of (List.mem_of_getElem? (i := 197) (by decide +kernel)) (by decide +kernel)
theorem tw_199 : (.instanceMethod y_A_floor : Cond) ∈ gw := gw_of (List.mem_of_getElem? (i := 199) (by decide +kernel)) (by decide +kernel)
theorem tw_201 : (.code y_A_floor prog_5_method_3_code 2 (some .long) : Cond) ∈ gw := gw_of (List.mem_of_getElem? (i := 201) (by decide +kernel)) (by decide +kernel)
theorem tw_202 : (.methodLink R_G 87 y_P_push : Cond) ∈ gw := gw_of (List.mem_of_getElem? (i := 202) (by decide +kernel)) (by decide +kernel)
theorem tw_203 : (.instanceMethod y_P_push : Cond) ∈ gw := gw_of (List.mem_of_getElem? (i := 203) (by decide +kernel)) (by decide +kernel)
theorem tw_204 : (.selects R_P y_P_push y_P_push : Cond) ∈ gw := gw_of (List.mem_of_getElem? (i := 204) (by decide +kernel)) (by decide +kernel)
theorem tw_205 : (.code y_P_push prog_4_method_3_code 2 none : Cond) ∈ gw := gw_of (List.mem_of_getElem? (i := 205) (by decide +kernel)) (by decide +kernel)
theorem tw_206 : (.methodLink R_G 93 y_P_isEmpty : Cond) ∈ gw := gw_of (List.mem_of_getElem? (i := 206) (by decide +kernel)) (by decide +kernel)
theorem tw_207 : (.instanceMethod y_P_isEmpty : Cond) ∈ gw := gw_of (List.mem_of_getElem? (i := 207) (by decide +kernel)) (by decide +kernel)
theorem tw_208 : (.selects R_P y_P_isEmpty y_P_isEmpty : Cond) ∈ gw := gw_of (List.mem_of_getElem? (i := 208) (by decide +kernel)) (by decide +kernel)
theorem tw_209 : (.code y_P_isEmpty prog_4_method_2_code 1 (some .boolean) : Cond) ∈ gw := gw_of (List.mem_of_getElem? (i := 209) (by decide +kernel)) (by decide +kernel)
theorem tw_210 : (.methodLink R_G 97 y_P_pop : Cond) ∈ gw := gw_of (List.mem_of_getElem? (i := 210) (by decide +kernel)) (by decide +kernel)
theorem tw_211 : (.instanceMethod y_P_pop : Cond) ∈ gw := gw_of (List.mem_of_getElem? (i := 211) (by decide +kernel)) (by decide +kernel)
theorem tw_212 : (.selects R_P y_P_pop y_P_pop : Cond) ∈ gw := gw_of (List.mem_of_getElem? (i := 212) (by decide +kernel)) (by decide +kernel)
theorem tw_213 : (.code y_P_pop prog_4_method_4_code 1 (some .int) : Cond) ∈ gw := gw_of (List.mem_of_getElem? (i := 213) (by decide +kernel)) (by decide +kernel)
theorem tw_214 : (.methodLink R_G 107 y_G_dropAll : Cond) ∈ gw := gw_of (List.mem_of_getElem? (i := 214) (by decide +kernel)) (by decide +kernel)
theorem tw_216 : (.instanceMethod y_G_dropAll : Cond) ∈ gw := gw_of (List.mem_of_getElem? (i := 216) (by decide +kernel)) (by decide +kernel)
theorem tw_217 : (.code y_G_dropAll prog_3_method_15_code 2 none : Cond) ∈ gw := gw_of (List.mem_of_getElem? (i := 217) (by decide +kernel)) (by decide +kernel)
theorem tw_218 : (.methodLink R_G 101 y_G_drop : Cond) ∈ gw := gw_of (List.mem_of_getElem? (i := 218) (by decide +kernel)) (by decide +kernel)
theorem tw_220 : (.instanceMethod y_G_drop : Cond) ∈ gw := gw_of (List.mem_of_getElem? (i := 220) (by decide +kernel)) (by decide +kernel)
theorem tw_221 : (.code y_G_drop prog_3_method_13_code 5 none : Cond) ∈ gw := gw_of (List.mem_of_getElem? (i := 221) (by decide +kernel)) (by decide +kernel)
theorem tw_222 : (.methodLink R_G 90 y_G_leave : Cond) ∈ gw := gw_of (List.mem_of_getElem? (i := 222) (by decide +kernel)) (by decide +kernel)
theorem tw_224 : (.instanceMethod y_G_leave : Cond) ∈ gw := gw_of (List.mem_of_getElem? (i := 224) (by decide +kernel)) (by decide +kernel)
theorem tw_225 : (.code y_G_leave prog_3_method_14_code 3 none : Cond) ∈ gw := gw_of (List.mem_of_getElem? (i := 225) (by decide +kernel)) (by decide +kernel)
theorem tw_226 : (.methodLink R_law 39 y_X_in : Cond) ∈ gw := gw_of (List.mem_of_getElem? (i := 226) (by decide +kernel)) (by decide +kernel)
theorem tw_227 : (.instanceMethod y_X_in : Cond) ∈ gw := gw_of (List.mem_of_getElem? (i := 227) (by decide +kernel)) (by decide +kernel)
theorem tw_228 : (.selects R_X y_X_in y_X_in : Cond) ∈ gw := gw_of (List.mem_of_getElem? (i := 228) (by decide +kernel)) (by decide +kernel)
theorem tw_229 : (.code y_X_in prog_1_method_9_code 2 (some .boolean) : Cond) ∈ gw := gw_of (List.mem_of_getElem? (i := 229) (by decide +kernel)) (by decide +kernel)
theorem tw_230 : (.methodLink R_law 43 y_X_perform : Cond) ∈ gw := gw_of (List.mem_of_getElem? (i := 230) (by decide +kernel)) (by decide +kernel)
theorem tw_231 : (.instanceMethod y_X_perform : Cond) ∈ gw := gw_of (List.mem_of_getElem? (i := 231) (by decide +kernel)) (by decide +kernel)
theorem tw_232 : (.selects R_X y_X_perform y_X_perform : Cond) ∈ gw := gw_of (List.mem_of_getElem? (i := 232) (by decide +kernel)) (by decide +kernel)
theorem tw_233 : (.code y_X_perform prog_1_method_10_code 7 (some .int) : Cond) ∈ gw := gw_of (List.mem_of_getElem? (i := 233) (by decide +kernel)) (by decide +kernel)
theorem tw_234 : (.methodLink R_law 47 y_X_value : Cond) ∈ gw := gw_of (List.mem_of_getElem? (i := 234) (by decide +kernel)) (by decide +kernel)
theorem tw_235 : (.instanceMethod y_X_value : Cond) ∈ gw := gw_of (List.mem_of_getElem? (i := 235) (by decide +kernel)) (by decide +kernel)
theorem tw_236 : (.selects R_X y_X_value y_X_value : Cond) ∈ gw := gw_of (List.mem_of_getElem? (i := 236) (by decide +kernel)) (by decide +kernel)
theorem tw_237 : (.code y_X_value prog_1_method_11_code 2 (some .long) : Cond) ∈ gw := gw_of (List.mem_of_getElem? (i := 237) (by decide +kernel)) (by decide +kernel)
theorem tw_238 : (.methodLink R_law 52 y_X_netOf : Cond) ∈ gw := gw_of (List.mem_of_getElem? (i := 238) (by decide +kernel)) (by decide +kernel)
theorem tw_239 : (.instanceMethod y_X_netOf : Cond) ∈ gw := gw_of (List.mem_of_getElem? (i := 239) (by decide +kernel)) (by decide +kernel)
theorem tw_240 : (.selects R_X y_X_netOf y_X_netOf : Cond) ∈ gw := gw_of (List.mem_of_getElem? (i := 240) (by decide +kernel)) (by decide +kernel)
theorem tw_241 : (.code y_X_netOf prog_1_method_12_code 3 (some .long) : Cond) ∈ gw := gw_of (List.mem_of_getElem? (i := 241) (by decide +kernel)) (by decide +kernel)
theorem tw_242 : (.methodLink R_law 57 y_X_count : Cond) ∈ gw := gw_of (List.mem_of_getElem? (i := 242) (by decide +kernel)) (by decide +kernel)
theorem tw_243 : (.instanceMethod y_X_count : Cond) ∈ gw := gw_of (List.mem_of_getElem? (i := 243) (by decide +kernel)) (by decide +kernel)
theorem tw_244 : (.selects R_X y_X_count y_X_count : Cond) ∈ gw := gw_of (List.mem_of_getElem? (i := 244) (by decide +kernel)) (by decide +kernel)
theorem tw_245 : (.code y_X_count prog_1_method_13_code 5 (some .int) : Cond) ∈ gw := gw_of (List.mem_of_getElem? (i := 245) (by decide +kernel)) (by decide +kernel)
theorem tw_246 : (.classLink R_law 10 R_M : Cond) ∈ gw := gw_of (List.mem_of_getElem? (i := 246) (by decide +kernel)) (by decide +kernel)
theorem tw_247 : (.instantiable R_M 8 : Cond) ∈ gw := gw_of (List.mem_of_getElem? (i := 247) (by decide +kernel)) (by decide +kernel)
theorem tw_248 : (.methodLink R_law 12 y_M_init : Cond) ∈ gw := gw_of (List.mem_of_getElem? (i := 248) (by decide +kernel)) (by decide +kernel)
theorem tw_249 : (.instanceMethod y_M_init : Cond) ∈ gw := gw_of (List.mem_of_getElem? (i := 249) (by decide +kernel)) (by decide +kernel)
theorem tw_250 : (.code y_M_init prog_7_method_1_code 1 none : Cond) ∈ gw := gw_of (List.mem_of_getElem? (i := 250) (by decide +kernel)) (by decide +kernel)
theorem tw_251 : (.methodLink R_M 1 objectInit : Cond) ∈ gw := gw_of (List.mem_of_getElem? (i := 251) (by decide +kernel)) (by decide +kernel)
theorem tw_252 : (.fieldLink R_M 7 R_M "values" "[J" : Cond) ∈ gw := gw_of (List.mem_of_getElem? (i := 252) (by decide +kernel)) (by decide +kernel)
theorem tw_253 : (.fieldLink R_M 13 R_M "floors" "[J" : Cond) ∈ gw := gw_of (List.mem_of_getElem? (i := 253) (by decide +kernel)) (by decide +kernel)
theorem tw_254 : (.fieldLink R_M 45 R_M "items" "I" : Cond) ∈ gw := gw_of (List.mem_of_getElem? (i := 254) (by decide +kernel)) (by decide +kernel)
theorem tw_255 : (.fieldLink R_M 16 R_M "there" "[Z" : Cond) ∈ gw := gw_of (List.mem_of_getElem? (i := 255) (by decide +kernel)) (by decide +kernel)
theorem tw_256 : (.fieldLink R_M 20 R_M "chosen" "[Z" : Cond) ∈ gw := gw_of (List.mem_of_getElem? (i := 256) (by decide +kernel)) (by decide +kernel)
theorem tw_257 : (.fieldLink R_M 23 R_M "many" "[I" : Cond) ∈ gw := gw_of (List.mem_of_getElem? (i := 257) (by decide +kernel)) (by decide +kernel)
theorem tw_258 : (.fieldLink R_M 27 R_M "positions" "[I" : Cond) ∈ gw := gw_of (List.mem_of_getElem? (i := 258) (by decide +kernel)) (by decide +kernel)
theorem tw_259 : (.fieldLink R_M 30 R_M "amounts" "[J" : Cond) ∈ gw := gw_of (List.mem_of_getElem? (i := 259) (by decide +kernel)) (by decide +kernel)
theorem tw_260 : (.laysFinal R_M R_M "values" "[J" : Cond) ∈ gw := gw_of (List.mem_of_getElem? (i := 260) (by decide +kernel)) (by decide +kernel)
theorem tw_262 : (.laysFinal R_M R_M "floors" "[J" : Cond) ∈ gw := gw_of (List.mem_of_getElem? (i := 262) (by decide +kernel)) (by decide +kernel)
theorem tw_264 : (.lays R_M R_M "items" "I" : Cond) ∈ gw := gw_of (List.mem_of_getElem? (i := 264) (by decide +kernel)) (by decide +kernel)
theorem tw_266 : (.laysFinal R_M R_M "there" "[Z" : Cond) ∈ gw := gw_of (List.mem_of_getElem? (i := 266) (by decide +kernel)) (by decide +kernel)
theorem tw_268 : (.laysFinal R_M R_M "chosen" "[Z" : Cond) ∈ gw := gw_of (List.mem_of_getElem? (i := 268) (by decide +kernel)) (by decide +kernel)
theorem tw_270 : (.laysFinal R_M R_M "many" "[I" : Cond) ∈ gw := gw_of (List.mem_of_getElem? (i := 270) (by decide +kernel)) (by decide +kernel)
theorem tw_272 : (.laysFinal R_M R_M "positions" "[I" : Cond) ∈ gw := gw_of (List.mem_of_getElem? (i := 272) (by decide +kernel)) (by decide +kernel)
theorem tw_274 : (.laysFinal R_M R_M "amounts" "[J" : Cond) ∈ gw := gw_of (List.mem_of_getElem? (i := 274) (by decide +kernel)) (by decide +kernel)
theorem tw_277 : (.methodLink R_law 19 y_M_place : Cond) ∈ gw := gw_of (List.mem_of_getElem? (i := 277) (by decide +kernel)) (by decide +kernel)
theorem tw_278 : (.instanceMethod y_M_place : Cond) ∈ gw := gw_of (List.mem_of_getElem? (i := 278) (by decide +kernel)) (by decide +kernel)
theorem tw_279 : (.selects R_M y_M_place y_M_place : Cond) ∈ gw := gw_of (List.mem_of_getElem? (i := 279) (by decide +kernel)) (by decide +kernel)
theorem tw_280 : (.code y_M_place prog_7_method_4_code 6 (some .boolean) : Cond) ∈ gw := gw_of (List.mem_of_getElem? (i := 280) (by decide +kernel)) (by decide +kernel)
theorem tw_281 : (.methodLink R_M 37 y_M_isPosition : Cond) ∈ gw := gw_of (List.mem_of_getElem? (i := 281) (by decide +kernel)) (by decide +kernel)
theorem tw_282 : (.static y_M_isPosition : Cond) ∈ gw := gw_of (List.mem_of_getElem? (i := 282) (by decide +kernel)) (by decide +kernel)
theorem tw_283 : (.code y_M_isPosition prog_7_method_2_code 1 (some .boolean) : Cond) ∈ gw := gw_of (List.mem_of_getElem? (i := 283) (by decide +kernel)) (by decide +kernel)
theorem tw_284 : (.methodLink R_M 41 y_M_isValue : Cond) ∈ gw := gw_of (List.mem_of_getElem? (i := 284) (by decide +kernel)) (by decide +kernel)
theorem tw_285 : (.static y_M_isValue : Cond) ∈ gw := gw_of (List.mem_of_getElem? (i := 285) (by decide +kernel)) (by decide +kernel)
theorem tw_286 : (.code y_M_isValue prog_7_method_3_code 2 (some .boolean) : Cond) ∈ gw := gw_of (List.mem_of_getElem? (i := 286) (by decide +kernel)) (by decide +kernel)
theorem tw_287 : (.constantLong R_M 33 (-1000000000000000000 : Int64) : Cond) ∈ gw := gw_of (List.mem_of_getElem? (i := 287) (by decide +kernel)) (by decide +kernel)
theorem tw_288 : (.constantLong R_M 35 (1000000000000000000 : Int64) : Cond) ∈ gw := gw_of (List.mem_of_getElem? (i := 288) (by decide +kernel)) (by decide +kernel)
theorem tw_289 : (.methodLink R_law 24 y_M_item : Cond) ∈ gw := gw_of (List.mem_of_getElem? (i := 289) (by decide +kernel)) (by decide +kernel)
theorem tw_290 : (.instanceMethod y_M_item : Cond) ∈ gw := gw_of (List.mem_of_getElem? (i := 290) (by decide +kernel)) (by decide +kernel)
theorem tw_291 : (.selects R_M y_M_item y_M_item : Cond) ∈ gw := gw_of (List.mem_of_getElem? (i := 291) (by decide +kernel)) (by decide +kernel)
theorem tw_292 : (.code y_M_item prog_7_method_5_code 1 (some .int) : Cond) ∈ gw := gw_of (List.mem_of_getElem? (i := 292) (by decide +kernel)) (by decide +kernel)
theorem tw_293 : (.methodLink R_law 29 y_M_net : Cond) ∈ gw := gw_of (List.mem_of_getElem? (i := 293) (by decide +kernel)) (by decide +kernel)
theorem tw_294 : (.instanceMethod y_M_net : Cond) ∈ gw := gw_of (List.mem_of_getElem? (i := 294) (by decide +kernel)) (by decide +kernel)
theorem tw_295 : (.selects R_M y_M_net y_M_net : Cond) ∈ gw := gw_of (List.mem_of_getElem? (i := 295) (by decide +kernel)) (by decide +kernel)
theorem tw_296 : (.code y_M_net prog_7_method_9_code 9 (some .boolean) : Cond) ∈ gw := gw_of (List.mem_of_getElem? (i := 296) (by decide +kernel)) (by decide +kernel)
theorem tw_297 : (.methodLink R_M 53 y_M_isThere : Cond) ∈ gw := gw_of (List.mem_of_getElem? (i := 297) (by decide +kernel)) (by decide +kernel)
theorem tw_299 : (.instanceMethod y_M_isThere : Cond) ∈ gw := gw_of (List.mem_of_getElem? (i := 299) (by decide +kernel)) (by decide +kernel)
theorem tw_300 : (.code y_M_isThere prog_7_method_6_code 2 (some .boolean) : Cond) ∈ gw := gw_of (List.mem_of_getElem? (i := 300) (by decide +kernel)) (by decide +kernel)
theorem tw_301 : (.constantLong R_M 56 (2000000000000000 : Int64) : Cond) ∈ gw := gw_of (List.mem_of_getElem? (i := 301) (by decide +kernel)) (by decide +kernel)
theorem tw_302 : (.constantLong R_M 58 (-2000000000000000 : Int64) : Cond) ∈ gw := gw_of (List.mem_of_getElem? (i := 302) (by decide +kernel)) (by decide +kernel)
theorem tw_303 : (.methodLink R_M 60 y_M_netAt : Cond) ∈ gw := gw_of (List.mem_of_getElem? (i := 303) (by decide +kernel)) (by decide +kernel)
theorem tw_305 : (.instanceMethod y_M_netAt : Cond) ∈ gw := gw_of (List.mem_of_getElem? (i := 305) (by decide +kernel)) (by decide +kernel)
theorem tw_306 : (.code y_M_netAt prog_7_method_8_code 4 (some .long) : Cond) ∈ gw := gw_of (List.mem_of_getElem? (i := 306) (by decide +kernel)) (by decide +kernel)
theorem tw_307 : (.methodLink R_M 49 y_M_find : Cond) ∈ gw := gw_of (List.mem_of_getElem? (i := 307) (by decide +kernel)) (by decide +kernel)
theorem tw_309 : (.instanceMethod y_M_find : Cond) ∈ gw := gw_of (List.mem_of_getElem? (i := 309) (by decide +kernel)) (by decide +kernel)
theorem tw_310 : (.code y_M_find prog_7_method_7_code 4 (some .int) : Cond) ∈ gw := gw_of (List.mem_of_getElem? (i := 310) (by decide +kernel)) (by decide +kernel)
theorem tw_311 : (.constantLong R_M 64 (1000000000000000 : Int64) : Cond) ∈ gw := gw_of (List.mem_of_getElem? (i := 311) (by decide +kernel)) (by decide +kernel)
theorem tw_312 : (.constantLong R_M 66 (-1000000000000000 : Int64) : Cond) ∈ gw := gw_of (List.mem_of_getElem? (i := 312) (by decide +kernel)) (by decide +kernel)
theorem tw_313 : (.methodLink R_law 34 y_M_go : Cond) ∈ gw := gw_of (List.mem_of_getElem? (i := 313) (by decide +kernel)) (by decide +kernel)
theorem tw_314 : (.instanceMethod y_M_go : Cond) ∈ gw := gw_of (List.mem_of_getElem? (i := 314) (by decide +kernel)) (by decide +kernel)
theorem tw_315 : (.selects R_M y_M_go y_M_go : Cond) ∈ gw := gw_of (List.mem_of_getElem? (i := 315) (by decide +kernel)) (by decide +kernel)
theorem tw_316 : (.code y_M_go prog_7_method_10_code 2 (some .boolean) : Cond) ∈ gw := gw_of (List.mem_of_getElem? (i := 316) (by decide +kernel)) (by decide +kernel)
theorem tw_317 : (.methodLink R_law 38 y_M_solve : Cond) ∈ gw := gw_of (List.mem_of_getElem? (i := 317) (by decide +kernel)) (by decide +kernel)
theorem tw_318 : (.instanceMethod y_M_solve : Cond) ∈ gw := gw_of (List.mem_of_getElem? (i := 318) (by decide +kernel)) (by decide +kernel)
theorem tw_319 : (.selects R_M y_M_solve y_M_solve : Cond) ∈ gw := gw_of (List.mem_of_getElem? (i := 319) (by decide +kernel)) (by decide +kernel)
theorem tw_320 : (.code y_M_solve prog_7_method_15_code 3 (some .int) : Cond) ∈ gw := gw_of (List.mem_of_getElem? (i := 320) (by decide +kernel)) (by decide +kernel)
theorem tw_321 : (.methodLink R_M 72 y_M_total : Cond) ∈ gw := gw_of (List.mem_of_getElem? (i := 321) (by decide +kernel)) (by decide +kernel)
theorem tw_323 : (.instanceMethod y_M_total : Cond) ∈ gw := gw_of (List.mem_of_getElem? (i := 323) (by decide +kernel)) (by decide +kernel)
theorem tw_324 : (.code y_M_total prog_7_method_11_code 5 (some .long) : Cond) ∈ gw := gw_of (List.mem_of_getElem? (i := 324) (by decide +kernel)) (by decide +kernel)
theorem tw_325 : (.methodLink R_M 76 y_M_lastTaker : Cond) ∈ gw := gw_of (List.mem_of_getElem? (i := 325) (by decide +kernel)) (by decide +kernel)
theorem tw_327 : (.instanceMethod y_M_lastTaker : Cond) ∈ gw := gw_of (List.mem_of_getElem? (i := 327) (by decide +kernel)) (by decide +kernel)
theorem tw_328 : (.code y_M_lastTaker prog_7_method_12_code 4 (some .int) : Cond) ∈ gw := gw_of (List.mem_of_getElem? (i := 328) (by decide +kernel)) (by decide +kernel)
theorem tw_329 : (.methodLink R_M 80 y_M_lacks : Cond) ∈ gw := gw_of (List.mem_of_getElem? (i := 329) (by decide +kernel)) (by decide +kernel)
theorem tw_331 : (.instanceMethod y_M_lacks : Cond) ∈ gw := gw_of (List.mem_of_getElem? (i := 331) (by decide +kernel)) (by decide +kernel)
theorem tw_332 : (.code y_M_lacks prog_7_method_14_code 4 (some .boolean) : Cond) ∈ gw := gw_of (List.mem_of_getElem? (i := 332) (by decide +kernel)) (by decide +kernel)
theorem tw_333 : (.methodLink R_M 68 y_M_meet : Cond) ∈ gw := gw_of (List.mem_of_getElem? (i := 333) (by decide +kernel)) (by decide +kernel)
theorem tw_335 : (.instanceMethod y_M_meet : Cond) ∈ gw := gw_of (List.mem_of_getElem? (i := 335) (by decide +kernel)) (by decide +kernel)
theorem tw_336 : (.code y_M_meet prog_7_method_13_code 5 (some .boolean) : Cond) ∈ gw := gw_of (List.mem_of_getElem? (i := 336) (by decide +kernel)) (by decide +kernel)
theorem tw_337 : (.methodLink R_M 83 y_M_count : Cond) ∈ gw := gw_of (List.mem_of_getElem? (i := 337) (by decide +kernel)) (by decide +kernel)
theorem tw_338 : (.instanceMethod y_M_count : Cond) ∈ gw := gw_of (List.mem_of_getElem? (i := 338) (by decide +kernel)) (by decide +kernel)
theorem tw_339 : (.selects R_M y_M_count y_M_count : Cond) ∈ gw := gw_of (List.mem_of_getElem? (i := 339) (by decide +kernel)) (by decide +kernel)
theorem tw_340 : (.code y_M_count prog_7_method_20_code 5 (some .int) : Cond) ∈ gw := gw_of (List.mem_of_getElem? (i := 340) (by decide +kernel)) (by decide +kernel)
theorem tw_341 : (.methodLink R_law 42 y_M_in : Cond) ∈ gw := gw_of (List.mem_of_getElem? (i := 341) (by decide +kernel)) (by decide +kernel)
theorem tw_342 : (.instanceMethod y_M_in : Cond) ∈ gw := gw_of (List.mem_of_getElem? (i := 342) (by decide +kernel)) (by decide +kernel)
theorem tw_343 : (.selects R_M y_M_in y_M_in : Cond) ∈ gw := gw_of (List.mem_of_getElem? (i := 343) (by decide +kernel)) (by decide +kernel)
theorem tw_344 : (.code y_M_in prog_7_method_16_code 2 (some .boolean) : Cond) ∈ gw := gw_of (List.mem_of_getElem? (i := 344) (by decide +kernel)) (by decide +kernel)
theorem tw_345 : (.methodLink R_law 46 y_M_perform : Cond) ∈ gw := gw_of (List.mem_of_getElem? (i := 345) (by decide +kernel)) (by decide +kernel)
theorem tw_346 : (.instanceMethod y_M_perform : Cond) ∈ gw := gw_of (List.mem_of_getElem? (i := 346) (by decide +kernel)) (by decide +kernel)
theorem tw_347 : (.selects R_M y_M_perform y_M_perform : Cond) ∈ gw := gw_of (List.mem_of_getElem? (i := 347) (by decide +kernel)) (by decide +kernel)
theorem tw_348 : (.code y_M_perform prog_7_method_17_code 3 (some .int) : Cond) ∈ gw := gw_of (List.mem_of_getElem? (i := 348) (by decide +kernel)) (by decide +kernel)
theorem tw_349 : (.methodLink R_M 86 y_M_solve : Cond) ∈ gw := gw_of (List.mem_of_getElem? (i := 349) (by decide +kernel)) (by decide +kernel)
theorem tw_350 : (.methodLink R_law 51 y_M_value : Cond) ∈ gw := gw_of (List.mem_of_getElem? (i := 350) (by decide +kernel)) (by decide +kernel)
theorem tw_351 : (.instanceMethod y_M_value : Cond) ∈ gw := gw_of (List.mem_of_getElem? (i := 351) (by decide +kernel)) (by decide +kernel)
theorem tw_352 : (.selects R_M y_M_value y_M_value : Cond) ∈ gw := gw_of (List.mem_of_getElem? (i := 352) (by decide +kernel)) (by decide +kernel)
theorem tw_353 : (.code y_M_value prog_7_method_18_code 2 (some .long) : Cond) ∈ gw := gw_of (List.mem_of_getElem? (i := 353) (by decide +kernel)) (by decide +kernel)
theorem tw_354 : (.methodLink R_law 56 y_M_netOf : Cond) ∈ gw := gw_of (List.mem_of_getElem? (i := 354) (by decide +kernel)) (by decide +kernel)
theorem tw_355 : (.instanceMethod y_M_netOf : Cond) ∈ gw := gw_of (List.mem_of_getElem? (i := 355) (by decide +kernel)) (by decide +kernel)
theorem tw_356 : (.selects R_M y_M_netOf y_M_netOf : Cond) ∈ gw := gw_of (List.mem_of_getElem? (i := 356) (by decide +kernel)) (by decide +kernel)
theorem tw_357 : (.code y_M_netOf prog_7_method_19_code 3 (some .long) : Cond) ∈ gw := gw_of (List.mem_of_getElem? (i := 357) (by decide +kernel)) (by decide +kernel)
theorem tw_358 : (.methodLink R_law 61 y_M_count : Cond) ∈ gw := gw_of (List.mem_of_getElem? (i := 358) (by decide +kernel)) (by decide +kernel)
theorem tw_359 : (.constantLong R_law 13 (4294967295 : Int64) : Cond) ∈ gw := gw_of (List.mem_of_getElem? (i := 359) (by decide +kernel)) (by decide +kernel)
theorem ts_G_forget : (.selects R_G y_G_forget y_G_forget : Cond) ∈ gw := gw_ofs (by decide +kernel) (by decide +kernel)
theorem ts_G_begin : (.selects R_G y_G_begin y_G_begin : Cond) ∈ gw := gw_ofs (by decide +kernel) (by decide +kernel)
theorem ts_G_enter : (.selects R_G y_G_enter y_G_enter : Cond) ∈ gw := gw_ofs (by decide +kernel) (by decide +kernel)
theorem ts_G_look : (.selects R_G y_G_look y_G_look : Cond) ∈ gw := gw_ofs (by decide +kernel) (by decide +kernel)
theorem ts_G_dropAll : (.selects R_G y_G_dropAll y_G_dropAll : Cond) ∈ gw := gw_ofs (by decide +kernel) (by decide +kernel)
theorem ts_G_drop : (.selects R_G y_G_drop y_G_drop : Cond) ∈ gw := gw_ofs (by decide +kernel) (by decide +kernel)
theorem ts_G_leave : (.selects R_G y_G_leave y_G_leave : Cond) ∈ gw := gw_ofs (by decide +kernel) (by decide +kernel)
theorem ts_M_isThere : (.selects R_M y_M_isThere y_M_isThere : Cond) ∈ gw := gw_ofs (by decide +kernel) (by decide +kernel)
theorem ts_M_netAt : (.selects R_M y_M_netAt y_M_netAt : Cond) ∈ gw := gw_ofs (by decide +kernel) (by decide +kernel)
theorem ts_M_find : (.selects R_M y_M_find y_M_find : Cond) ∈ gw := gw_ofs (by decide +kernel) (by decide +kernel)
theorem ts_M_total : (.selects R_M y_M_total y_M_total : Cond) ∈ gw := gw_ofs (by decide +kernel) (by decide +kernel)
theorem ts_M_lastTaker : (.selects R_M y_M_lastTaker y_M_lastTaker : Cond) ∈ gw := gw_ofs (by decide +kernel) (by decide +kernel)
theorem ts_M_lacks : (.selects R_M y_M_lacks y_M_lacks : Cond) ∈ gw := gw_ofs (by decide +kernel) (by decide +kernel)
theorem ts_M_meet : (.selects R_M y_M_meet y_M_meet : Cond) ∈ gw := gw_ofs (by decide +kernel) (by decide +kernel)
theorem n_X : ∀ a, a < 2 → ∀ b, b < 2 → a ≠ b → (F_X a).2.1 ≠ (F_X b).2.1 := by decide +kernel
theorem t_X_ok : ∀ k, k < 2 → parseFieldDescriptor (F_X k).2.2.1 = some (t_X k) := by decide +kernel
theorem i_X : ∀ w ∈ w_X, w ∈ gw := by
  intro w h
  refine gw_of ?_ ?_
  · revert w; decide +kernel
  · revert w; decide +kernel
theorem n_A : ∀ a, a < 2 → ∀ b, b < 2 → a ≠ b → (F_A a).2.1 ≠ (F_A b).2.1 := by decide +kernel
theorem t_A_ok : ∀ k, k < 2 → parseFieldDescriptor (F_A k).2.2.1 = some (t_A k) := by decide +kernel
theorem i_A : ∀ w ∈ w_A, w ∈ gw := by
  intro w h
  refine gw_of ?_ ?_
  · revert w; decide +kernel
  · revert w; decide +kernel
theorem n_G : ∀ a, a < 14 → ∀ b, b < 14 → a ≠ b → (F_G a).2.1 ≠ (F_G b).2.1 := by decide +kernel
theorem t_G_ok : ∀ k, k < 14 → parseFieldDescriptor (F_G k).2.2.1 = some (t_G k) := by decide +kernel
theorem i_G : ∀ w ∈ w_G, w ∈ gw := by
  intro w h
  refine gw_of ?_ ?_
  · revert w; decide +kernel
  · revert w; decide +kernel
theorem n_P : ∀ a, a < 3 → ∀ b, b < 3 → a ≠ b → (F_P a).2.1 ≠ (F_P b).2.1 := by decide +kernel
theorem t_P_ok : ∀ k, k < 3 → parseFieldDescriptor (F_P k).2.2.1 = some (t_P k) := by decide +kernel
theorem i_P : ∀ w ∈ w_P, w ∈ gw := by
  intro w h
  refine gw_of ?_ ?_
  · revert w; decide +kernel
  · revert w; decide +kernel
theorem n_M : ∀ a, a < 8 → ∀ b, b < 8 → a ≠ b → (F_M a).2.1 ≠ (F_M b).2.1 := by decide +kernel
theorem t_M_ok : ∀ k, k < 8 → parseFieldDescriptor (F_M k).2.2.1 = some (t_M k) := by decide +kernel
theorem i_M : ∀ w ∈ w_M, w ∈ gw := by
  intro w h
  refine gw_of ?_ ?_
  · revert w; decide +kernel
  · revert w; decide +kernel
abbrev classes : List vw_C := [(R_X, F_X, 2), (R_A, F_A, 2), (R_G, F_G, 14), (R_P, F_P, 3), (R_M, F_M, 8)]
end
section
/-! THE FRAME OF THE WALKS: what a method knows of its machine, its world, its calls -/
abbrev gd_tys (ct : Nat → ClassId) : List (ClassId × FieldType) := [(ct 0, .boolean), (ct 1, .byte), (ct 2, .short), (ct 3, .int), (ct 4, .long)]
/-- words of nest mates and of the interface, which aren't steady ones -/
def gd_N (U : State) : Prop :=
  va_Nw (.fieldLinkNest R_X 35 R_A "values" "[J" R_X) U ∧ va_Nw (.fieldLinkNest R_X 39 R_A "floors" "[J" R_X) U ∧
  va_Nw (.fieldLinkNest R_X 65 R_G "there" "[Z" R_X) U ∧ va_Nw (.fieldLinkNest R_X 76 R_G "in" "[Z" R_X) U ∧
  va_Nw (.fieldLinkNest R_X 79 R_G "sums" "[J" R_X) U ∧ va_Nw (.fieldLinkNest R_X 72 R_G "size" "I" R_X) U ∧
  va_Nw (.methodLinkNest R_X 9 y_A_init R_X) U ∧ va_Fw R_A y_I_value y_A_value U ∧ va_Fw R_A y_I_floor y_A_floor U
theorem gd_N.warm {s U : State} (hW : s.WarmedH U.vm) (h : gd_N s) : gd_N U := by
  obtain ⟨h1, h2, h3, h4, h5, h6, h7, h8, h9⟩ := h
  exact ⟨h1.warmF hW, h2.warmF hW, h3.warmF hW, h4.warmF hW, h5.warmF hW, h6.warmF hW, h7.warmM hW, h8.moved (by decide +kernel) hW.alike, h9.moved (by decide +kernel) hW.alike⟩
theorem gd_N.same {s U : State} (h0 : s.vm = U.vm) (h : gd_N s) : gd_N U := by
  obtain ⟨h1, h2, h3, h4, h5, h6, h7, h8, h9⟩ := h
  have ha : s.vm.Alike U.vm := by rw [h0]; exact Vm.Alike.refl _
  exact ⟨h1.same rfl h0, h2.same rfl h0, h3.same rfl h0, h4.same rfl h0, h5.same rfl h0, h6.same rfl h0, h7.same rfl h0, h8.moved (by decide +kernel) ha, h9.moved (by decide +kernel) ha⟩
def gd_Pre (D : va_G) (ct : Nat → ClassId) (ws : va_W) (sz : Nat) (U : State) : Prop := U.heap.size = sz ∧ va_P D classes ws U.heap ∧ va_K D classes (gd_tys ct) U ∧ va_D (fun _ => True) ws ∧ gd_N U
def gd_Post (D : va_G) (A : Nat → Prop) (ws : va_W) (t : State) : Prop := va_P D classes ws t.heap ∧ va_D A ws
theorem gd_blind {D : va_G} {ct : Nat → ClassId} {ws : va_W} {sz : Nat} {av : List Value} : FrameBlind (va_Pc av (gd_Pre D ct ws sz)) := by
  intro a U g mk q
  obtain ⟨q0, q1, qP, qK, qD, qN⟩ := q
  exact ⟨q0, q1, qP, va_K.moved (u := U) (U := U.calling g mk a) (Vm.Alike.refl U.vm) qK, qD, gd_N.same (s := U) (U := U.calling g mk a) rfl qN⟩
/-- contracts: an int or a boolean comes back; a long; nothing -/
def gd_ctI (l : Launch) (y : MethodName) (k : Cond) (rm : Room) (D : va_G) (ct : Nat → ClassId) (av : List Value) (sz : Nat) (ws : va_W) {S : Type} (post : Int32 → S → Prop) (wf : S → va_W) : Prop :=
  Met l y (k :: gw) rm (va_Pc av (gd_Pre D ct ws sz)) (va_Qi post (fun u t => gd_Post D (va_A ws sz) (wf u) t) (va_A ws sz)) 0 0 (va_A ws sz)
def gd_ctL (l : Launch) (y : MethodName) (k : Cond) (rm : Room) (D : va_G) (ct : Nat → ClassId) (av : List Value) (sz : Nat) (ws : va_W) {S : Type} (post : Int64 → S → Prop) (wf : S → va_W) : Prop :=
  Met l y (k :: gw) rm (va_Pc av (gd_Pre D ct ws sz)) (va_Ql post (fun u t => gd_Post D (va_A ws sz) (wf u) t) (va_A ws sz)) 0 0 (va_A ws sz)
def gd_ctV (l : Launch) (y : MethodName) (k : Cond) (rm : Room) (D : va_G) (ct : Nat → ClassId) (av : List Value) (sz : Nat) (ws : va_W) {S : Type} (post : S → Prop) (wf : S → va_W) (mc ms : Nat) : Prop :=
  Met l y (k :: gw) rm (va_Pc av (gd_Pre D ct ws sz)) (va_Qv post (fun u t => gd_Post D (va_A ws sz) (wf u) t) (va_A ws sz)) mc ms (va_A ws sz)
/-- what stands in a method's body -/
def gd_Cx (p : Program) (s : State) (m : MethodId) (args : Array Value) (c : Code) (own : String) (cc : ByteArray) (nL : Nat) (D : va_G) (ct : Nat → ClassId) : Prop :=
  p.tables.exec = Jvm.exec ∧ c.code = cc ∧ c.maxLocals = nL ∧ s.vm.findClass own = some m.cls ∧ (∀ w ∈ gw, w.before args s = true) ∧ va_K D classes (gd_tys ct) s ∧ gd_N s
def gd_Ws (D : va_G) (A : Nat → Prop) (s : State) (ws : va_W) (H : Heap) (locs : List Loc) : Prop := va_P D classes ws H ∧ va_D A ws ∧ va_S A s.heap H locs ∧ ∀ q : Nat, s.heap.size ≤ q → A q
theorem gd_entI {l : Launch} {y : MethodName} {cc : ByteArray} {maxL : Nat} {ty : FieldType} {rm : Room} {D : va_G} {ct : Nat → ClassId} {av : List Value} {sz : Nat} {ws : va_W} {S : Type} {post : Int32 → S → Prop} {wf : S → va_W} {own : String} (hk : plainName y.cls = true) (hcl : y.cls = own) (hlen : (lg_sl av).length ≤ maxL)
    (body : ∀ (p : Program) (e : Env) (s : State) (m : MethodId) (below : List Frame) (meth : Method) (c : Code) (Q : State → Prop) (A : Nat → Prop) (ls : Array Slot), gd_Cx p s m av.toArray c own cc maxL D ct → gd_Ws D A s ws s.heap [] → lv_has ls maxL (lv_args 0 av) →
      (∀ (r : Int32) (u : S) (H : Heap) (locs : List Loc) (pc : Nat) (ls : Array Slot), narrow ty (.int r) = .int r → decode cc pc = .ok (.ireturn, 1) → post r u → gd_Ws D A s (wf u) H locs → W p l e rm s m av.toArray below meth c H locs 0 0 Q (F0 m pc ls [.int r])) →
      W p l e rm s m av.toArray below meth c s.heap [] 0 0 Q (F0 m 0 ls [])) : gd_ctI l y (.code y cc maxL (some ty)) rm D ct av sz ws post wf := by
  refine Met.ofW (cc := cc) (maxL := maxL) (ret := some ty) hk rfl ?_
  intro p e s m args below meth c s₁ B hml hv
  obtain ⟨rfl, hsz, hP, hK, hD0, hN⟩ := hv
  have hts := atoms_spec (ws := .code y cc maxL (some ty) :: gw) B.pre
  have hown : s.vm.findClass own = some m.cls := hcl ▸ findClass_of_methodNamed B.named
  subst hsz
  rw [lg_entry_eq]
  refine body p e s m below meth c _ (va_A ws s.heap.size) _ ⟨B.exec, B.bytes, hml, hown, fun w h => hts w (List.mem_cons_of_mem _ h), hK, hN⟩ ⟨hP, hD0.self, va_S.rf, fun q h => Or.inr h⟩ (lv_entry av hlen) ?_
  intro r u H locs pc ls hn hd hp hw
  exact W.zret B.exec B.bytes B.returns hn (fun t ht hW => ⟨⟨r, u, rfl, hp, by rw [ht]; exact hw.1, hw.2.1⟩, hw.2.2.1.F ht⟩) hw.2.2.1.2.2 hd
theorem gd_entL {l : Launch} {y : MethodName} {cc : ByteArray} {maxL : Nat} {rm : Room} {D : va_G} {ct : Nat → ClassId} {av : List Value} {sz : Nat} {ws : va_W} {S : Type} {post : Int64 → S → Prop} {wf : S → va_W} {own : String} (hk : plainName y.cls = true) (hcl : y.cls = own) (hlen : (lg_sl av).length ≤ maxL)
    (body : ∀ (p : Program) (e : Env) (s : State) (m : MethodId) (below : List Frame) (meth : Method) (c : Code) (Q : State → Prop) (A : Nat → Prop) (ls : Array Slot), gd_Cx p s m av.toArray c own cc maxL D ct → gd_Ws D A s ws s.heap [] → lv_has ls maxL (lv_args 0 av) →
      (∀ (r : Int64) (u : S) (H : Heap) (locs : List Loc) (pc : Nat) (ls : Array Slot), decode cc pc = .ok (.lreturn, 1) → post r u → gd_Ws D A s (wf u) H locs → W p l e rm s m av.toArray below meth c H locs 0 0 Q (F0 m pc ls [.long r])) →
      W p l e rm s m av.toArray below meth c s.heap [] 0 0 Q (F0 m 0 ls [])) : gd_ctL l y (.code y cc maxL (some .long)) rm D ct av sz ws post wf := by
  refine Met.ofW (cc := cc) (maxL := maxL) (ret := some .long) hk rfl ?_
  intro p e s m args below meth c s₁ B hml hv
  obtain ⟨rfl, hsz, hP, hK, hD0, hN⟩ := hv
  have hts := atoms_spec (ws := .code y cc maxL (some .long) :: gw) B.pre
  have hown : s.vm.findClass own = some m.cls := hcl ▸ findClass_of_methodNamed B.named
  subst hsz
  rw [lg_entry_eq]
  refine body p e s m below meth c _ (va_A ws s.heap.size) _ ⟨B.exec, B.bytes, hml, hown, fun w h => hts w (List.mem_cons_of_mem _ h), hK, hN⟩ ⟨hP, hD0.self, va_S.rf, fun q h => Or.inr h⟩ (lv_entry av hlen) ?_
  intro r u H locs pc ls hd hp hw
  exact W.lret B.exec B.bytes B.returns (fun t ht hW => ⟨⟨r, u, rfl, hp, by rw [ht]; exact hw.1, hw.2.1⟩, hw.2.2.1.F ht⟩) hw.2.2.1.2.2 hd
theorem gd_entV {l : Launch} {y : MethodName} {cc : ByteArray} {maxL : Nat} {rm : Room} {D : va_G} {ct : Nat → ClassId} {av : List Value} {sz : Nat} {ws : va_W} {S : Type} {post : S → Prop} {wf : S → va_W} {own : String} {mc ms : Nat} (hk : plainName y.cls = true) (hcl : y.cls = own) (hlen : (lg_sl av).length ≤ maxL)
    (body : ∀ (p : Program) (e : Env) (s : State) (m : MethodId) (below : List Frame) (meth : Method) (c : Code) (Q : State → Prop) (A : Nat → Prop) (ls : Array Slot), gd_Cx p s m av.toArray c own cc maxL D ct → meth.name = y.name → gd_Ws D A s ws s.heap [] → lv_has ls maxL (lv_args 0 av) →
      (∀ (u : S) (H : Heap) (locs : List Loc) (pc : Nat) (ls : Array Slot) (cells slots : Nat), cells ≤ mc → slots ≤ ms → decode cc pc = .ok (.return_, 1) → post u → gd_Ws D A s (wf u) H locs → W p l e rm s m av.toArray below meth c H locs cells slots Q (F0 m pc ls [])) →
      W p l e rm s m av.toArray below meth c s.heap [] 0 0 Q (F0 m 0 ls [])) : gd_ctV l y (.code y cc maxL none) rm D ct av sz ws post wf mc ms := by
  refine Met.ofW (cc := cc) (maxL := maxL) (ret := none) hk rfl ?_
  intro p e s m args below meth c s₁ B hml hv
  obtain ⟨rfl, hsz, hP, hK, hD0, hN⟩ := hv
  have hts := atoms_spec (ws := .code y cc maxL none :: gw) B.pre
  have hown : s.vm.findClass own = some m.cls := hcl ▸ findClass_of_methodNamed B.named
  subst hsz
  rw [lg_entry_eq]
  refine body p e s m below meth c _ (va_A ws s.heap.size) _ ⟨B.exec, B.bytes, hml, hown, fun w h => hts w (List.mem_cons_of_mem _ h), hK, hN⟩ (name_of_methodNamed B.named B.method).1 ⟨hP, hD0.self, va_S.rf, fun q h => Or.inr h⟩ (lv_entry av hlen) ?_
  intro u H locs pc ls cells slots h1 h2 hd hp hw
  refine W.widen h1 h2 ?_
  exact W.vret B.exec B.bytes B.returns (fun t ht hW => ⟨⟨u, rfl, hp, by rw [ht]; exact hw.1, hw.2.1⟩, hw.2.2.1.F ht⟩) hw.2.2.1.2.2 hd
/-! behind a call -/
theorem gd_pick {α : Type} {ws w : List α} : ∀ (is : List Nat), is.map (fun i => ws[i]?) = w.map some → is.filterMap (fun i => ws[i]?) = w := by
  intro is h
  have h2 := congrArg (List.filterMap id) h
  rw [List.filterMap_map] at h2
  rw [show (id ∘ fun i => ws[i]?) = (fun i => ws[i]?) from rfl] at h2
  rw [h2, List.filterMap_map]
  simp
def gd_J (D : va_G) (A : Nat → Prop) (s : State) (H : Heap) (wc : va_W) {S : Type} (wf w2 : S → va_W) : Prop :=
  ∀ (u : S) (t : State) (H1 : Heap) (locs1 : List Loc), gd_Post D (va_A wc H.size) (wf u) t → t.heap = H1 → (∀ q : Nat, q < H.size → ¬ va_A wc H.size q → H1[q]? = H[q]?) → va_S A s.heap H1 locs1 → gd_Ws D A s (w2 u) H1 locs1
theorem gd_jn {D : va_G} {A : Nat → Prop} {s : State} {H : Heap} {locs : List Loc} {ws wc : va_W} {S : Type} {wf w2 : S → va_W} (hw : gd_Ws D A s ws H locs) (isC isR isJ : List Nat) (hC : isC.map (fun i => ws[i]?) = wc.map some) (hR : isR.map (fun i => ws[i]?) = (isR.filterMap (fun i => ws[i]?)).map some) (hn : va_nd isR = true) (hdis : ∀ i ∈ isR, i ∉ isC)
    (hJ : ∀ u, isJ.map (fun i => (isR.filterMap (fun i => ws[i]?) ++ wf u)[i]?) = (w2 u).map some) (hnJ : va_nd isJ = true) : gd_J D A s H wc wf w2 := by
  intro u t H1 locs1 hB ht hk hS
  have hF := va_free (wc := wc) hw.2.1 hw.2.2.1 hw.2.2.2 isC hC
  obtain ⟨hP, hD⟩ := va_join (wr := isR.filterMap (fun i => ws[i]?)) (w1 := wf u) hw.1 hw.2.1 isC isR hC hR hn hdis hk hF (by rw [← ht]; exact hB.1) hB.2
  exact ⟨hP.sub isJ (gd_pick isJ (hJ u)), hD.sub isJ hnJ (hJ u), hS, hw.2.2.2⟩
theorem gd_jr {D : va_G} {A : Nat → Prop} {s : State} {H : Heap} {locs : List Loc} {ws wc : va_W} {S : Type} (hw : gd_Ws D A s ws H locs) (isC : List Nat) (hC : isC.map (fun i => ws[i]?) = wc.map some) : gd_J D A s H wc (fun _ : S => wc) (fun _ : S => ws) := by
  intro u t H1 locs1 hB ht hk hS
  refine ⟨fun k q hq => ?_, hw.2.1, hS, hw.2.2.2⟩
  have hlt := (hw.1 k q hq).lt
  by_cases h : va_A wc H.size q.1
  · rcases h with ⟨k2, e, h⟩ | h
    · have h1 : (isC.map (fun i => ws[i]?))[k2]? = some (some (q.1, e)) := by rw [hC, List.getElem?_map, h]; rfl
      rw [List.getElem?_map] at h1
      cases hi : isC[k2]? with
      | none => rw [hi] at h1; cases h1
      | some i =>
        rw [hi] at h1
        have h2 : ws[i]? = some (q.1, e) := Option.some.inj h1
        have hij := hw.2.1.1 k i q (q.1, e) hq h2 rfl
        subst hij
        rw [hq] at h2
        have e2 : q = (q.1, e) := Option.some.inj h2
        have h3 := hB.1 k2 (q.1, e) h
        rw [← e2, ht] at h3
        exact h3
    · omega
  · exact (hw.1 k q hq).kept (hk q.1 hlt h)
theorem gd_sub {D : va_G} {A : Nat → Prop} {s : State} {H : Heap} {locs : List Loc} {ws wc : va_W} (hw : gd_Ws D A s ws H locs) (isC : List Nat) (hnC : va_nd isC = true) (hC : isC.map (fun i => ws[i]?) = wc.map some) : va_P D classes wc H ∧ va_D (fun _ => True) wc :=
  ⟨hw.1.sub isC (gd_pick isC hC), (hw.2.1.sub isC hnC hC).weaken (fun _ _ _ _ => trivial)⟩
/-- the words of a call -/
def gd_CV (own : String) (idx : Nat) (C : String) (y : MethodName) (k : Cond) (n : Nat) : Prop := GoodIn gw (wsV own idx C y (k :: gw)) ∧ y.cls = C ∧ y.cls ≠ "java/lang/invoke/MethodHandle" ∧ y.cls ≠ "java/lang/invoke/VarHandle" ∧ (parseMethodDescriptor y.desc).map (fun d => d.parameters.length) = some n
theorem gd_cv {own C : String} {idx n : Nat} {y : MethodName} {k : Cond} (h1 : Cond.methodLink own idx y ∈ gw) (h2 : Cond.instanceMethod y ∈ gw) (h3 : Cond.selects C y y ∈ gw) (h4 : Cond.initialized C ∈ gw) (h5 : k ∈ gw) (hd : y.cls = C ∧ y.cls ≠ "java/lang/invoke/MethodHandle" ∧ y.cls ≠ "java/lang/invoke/VarHandle" ∧ (parseMethodDescriptor y.desc).map (fun d => d.parameters.length) = some n) : gd_CV own idx C y k n := by
  refine ⟨fun w hw => ?_, hd⟩
  have h : w ∈ gw := by
    unfold wsV at hw
    rcases List.mem_append.mp hw with h | h
    · simp only [List.mem_cons, List.not_mem_nil, or_false] at h
      rcases h with h | h | h | h <;> (rw [h]; assumption)
    · rcases List.mem_cons.mp h with h | h
      · rw [h]; exact h5
      · exact h
  exact ⟨h, gw_good h⟩
def gd_CS (own : String) (idx : Nat) (y : MethodName) (k : Cond) (n : Nat) : Prop := GoodIn gw (wsS own idx y (k :: gw)) ∧ y.cls = own ∧ y.cls ≠ "java/lang/invoke/MethodHandle" ∧ y.cls ≠ "java/lang/invoke/VarHandle" ∧ (parseMethodDescriptor y.desc).map (fun d => d.parameters.length) = some n
theorem gd_cs {own : String} {idx n : Nat} {y : MethodName} {k : Cond} (h1 : Cond.methodLink own idx y ∈ gw) (h2 : Cond.static y ∈ gw) (h4 : Cond.initialized own ∈ gw) (h5 : k ∈ gw) (hd : y.cls = own ∧ y.cls ≠ "java/lang/invoke/MethodHandle" ∧ y.cls ≠ "java/lang/invoke/VarHandle" ∧ (parseMethodDescriptor y.desc).map (fun d => d.parameters.length) = some n) : gd_CS own idx y k n := by
  refine ⟨fun w hw => ?_, hd⟩
  have h : w ∈ gw := by
    unfold wsS at hw
    rcases List.mem_append.mp hw with h | h
    · simp only [List.mem_cons, List.not_mem_nil, or_false] at h
      rcases h with h | h | h <;> (rw [h]; assumption)
    · rcases List.mem_cons.mp h with h | h
      · rw [h]; exact h5
      · exact h
  exact ⟨h, gw_good h⟩
theorem gd_own {k : Cond} (h5 : k ∈ gw) : GoodIn gw (k :: gw) := by
  intro w hw
  have h : w ∈ gw := by
    rcases List.mem_cons.mp hw with h | h
    · rw [h]; exact h5
    · exact h
  exact ⟨h, gw_good h⟩
section GDC
variable {p : Program} {l : Launch} {e : Env} {R : Room} {s : State} {m : MethodId} {args : Array Value} {below : List Frame} {meth : Method} {c : Code} {H : Heap} {locs : List Loc} {cells slots : Nat} {Q : State → Prop}
variable {cc : ByteArray} {pc : Nat} {ls : Array Slot} {rest st : List Value} {D : va_G} {ct : Nat → ClassId} {A : Nat → Prop} {a b : Nat} {ws wc : va_W} {own : String} {nL : Nat} {y : MethodName} {bytes : ByteArray} {maxL n idx : Nat} {rm : Room} {As : List Value} {S : Type} {wf w2 : S → va_W}
theorem gd_callVI {C : String} {ty : FieldType} {post : Int32 → S → Prop} (X : gd_Cx p s m args c own cc nL D ct) (hw : gd_Ws D A s ws H locs) (hM : gd_ctI l y (.code y bytes maxL (some ty)) rm D ct (.ref b :: As) H.size wc post wf) (hv : gd_CV own idx C y (.code y bytes maxL (some ty)) n) (hR : rm.frames + 1 ≤ R.frames ∧ 8 + (maxL + 11) + rm.locals ≤ R.locals) (hr0 : rm.cells = 0 ∧ rm.slots = 0)
    (isC : List Nat) (hnC : va_nd isC = true) (hC : isC.map (fun i => ws[i]?) = wc.map some) (q0 ci : Nat) {fs : List Value} {T : u_T} {N : Nat} (he : wc[q0]? = some (b, .inr (ci, fs))) (hc : classes[ci]? = some (C, T, N)) (hJ : gd_J D A s H wc wf w2) (hn : As.length = n) (hls : ls.size = nL) (hst : st = As.reverse ++ .ref b :: rest) (hrest : (rest.map fun v => v.category).sum ≤ 8) (hf : cells ≤ R.cells ∧ slots ≤ R.slots) (hdg : decode cc pc = .ok (.invokevirtual idx, 3))
    (kk : ∀ (r : Int32) (u : S) (H1 : Heap) (locs1 : List Loc), post r u → gd_Ws D A s (w2 u) H1 locs1 → W p l e R s m args below meth c H1 locs1 cells slots Q (F0 m (pc + 3) ls (.int r :: rest))) : W p l e R s m args below meth c H locs cells slots Q (F0 m pc ls st) := by
  obtain ⟨hx, hb, hml, ho, hts, hK, hN⟩ := X
  obtain ⟨hPc, hDc⟩ := gd_sub hw isC hnC hC
  have hF := va_free (wc := wc) hw.2.1 hw.2.2.1 hw.2.2.2 isC hC
  refine va_calli (va_runV (As := As) (rest := rest) ⟨hx, hb, hml, ho, hts⟩ hM (cwV n hts hv.1 rfl hr0.1 hr0.2 hv.2 hR) ⟨gd_blind, va_recv hK hPc (ci := ci) (q0 := q0) hc he, fun U hU hW => ⟨rfl, by rw [hU], by rw [hU]; exact hPc, va_K.moved hW.alike hK, hDc, hN.warm hW⟩⟩ rfl hn hls hst (lv_room hrest) hdg ⟨hf.1, hf.2⟩) hw.2.2.1 (fun q _ h => hF q h) hF (fun r u t H1 locs1 ht hvm hp hB hz hk hS => ?_)
  exact kk r u H1 locs1 hp (hJ u t H1 locs1 hB ht hk hS)
theorem gd_callVL {C : String} {post : Int64 → S → Prop} (X : gd_Cx p s m args c own cc nL D ct) (hw : gd_Ws D A s ws H locs) (hM : gd_ctL l y (.code y bytes maxL (some .long)) rm D ct (.ref b :: As) H.size wc post wf) (hv : gd_CV own idx C y (.code y bytes maxL (some .long)) n) (hR : rm.frames + 1 ≤ R.frames ∧ 8 + (maxL + 11) + rm.locals ≤ R.locals) (hr0 : rm.cells = 0 ∧ rm.slots = 0)
    (isC : List Nat) (hnC : va_nd isC = true) (hC : isC.map (fun i => ws[i]?) = wc.map some) (q0 ci : Nat) {fs : List Value} {T : u_T} {N : Nat} (he : wc[q0]? = some (b, .inr (ci, fs))) (hc : classes[ci]? = some (C, T, N)) (hJ : gd_J D A s H wc wf w2) (hn : As.length = n) (hls : ls.size = nL) (hst : st = As.reverse ++ .ref b :: rest) (hrest : (rest.map fun v => v.category).sum ≤ 8) (hf : cells ≤ R.cells ∧ slots ≤ R.slots) (hdg : decode cc pc = .ok (.invokevirtual idx, 3))
    (kk : ∀ (r : Int64) (u : S) (H1 : Heap) (locs1 : List Loc), post r u → gd_Ws D A s (w2 u) H1 locs1 → W p l e R s m args below meth c H1 locs1 cells slots Q (F0 m (pc + 3) ls (.long r :: rest))) : W p l e R s m args below meth c H locs cells slots Q (F0 m pc ls st) := by
  obtain ⟨hx, hb, hml, ho, hts, hK, hN⟩ := X
  obtain ⟨hPc, hDc⟩ := gd_sub hw isC hnC hC
  have hF := va_free (wc := wc) hw.2.1 hw.2.2.1 hw.2.2.2 isC hC
  refine va_calll (va_runV (As := As) (rest := rest) ⟨hx, hb, hml, ho, hts⟩ hM (cwV n hts hv.1 rfl hr0.1 hr0.2 hv.2 hR) ⟨gd_blind, va_recv hK hPc (ci := ci) (q0 := q0) hc he, fun U hU hW => ⟨rfl, by rw [hU], by rw [hU]; exact hPc, va_K.moved hW.alike hK, hDc, hN.warm hW⟩⟩ rfl hn hls hst (lv_room hrest) hdg ⟨hf.1, hf.2⟩) hw.2.2.1 (fun q _ h => hF q h) hF (fun r u t H1 locs1 ht hvm hp hB hz hk hS => ?_)
  exact kk r u H1 locs1 hp (hJ u t H1 locs1 hB ht hk hS)
theorem gd_callVV {C : String} {post : S → Prop} (X : gd_Cx p s m args c own cc nL D ct) (hw : gd_Ws D A s ws H locs) (hM : gd_ctV l y (.code y bytes maxL none) rm D ct (.ref b :: As) H.size wc post wf 0 0) (hv : gd_CV own idx C y (.code y bytes maxL none) n) (hR : rm.frames + 1 ≤ R.frames ∧ 8 + (maxL + 11) + rm.locals ≤ R.locals) (hr0 : rm.cells = 0 ∧ rm.slots = 0)
    (isC : List Nat) (hnC : va_nd isC = true) (hC : isC.map (fun i => ws[i]?) = wc.map some) (q0 ci : Nat) {fs : List Value} {T : u_T} {N : Nat} (he : wc[q0]? = some (b, .inr (ci, fs))) (hc : classes[ci]? = some (C, T, N)) (hJ : gd_J D A s H wc wf w2) (hn : As.length = n) (hls : ls.size = nL) (hst : st = As.reverse ++ .ref b :: rest) (hrest : (rest.map fun v => v.category).sum ≤ 8) (hf : cells ≤ R.cells ∧ slots ≤ R.slots) (hdg : decode cc pc = .ok (.invokevirtual idx, 3))
    (kk : ∀ (u : S) (H1 : Heap) (locs1 : List Loc), post u → gd_Ws D A s (w2 u) H1 locs1 → W p l e R s m args below meth c H1 locs1 cells slots Q (F0 m (pc + 3) ls rest)) : W p l e R s m args below meth c H locs cells slots Q (F0 m pc ls st) := by
  obtain ⟨hx, hb, hml, ho, hts, hK, hN⟩ := X
  obtain ⟨hPc, hDc⟩ := gd_sub hw isC hnC hC
  have hF := va_free (wc := wc) hw.2.1 hw.2.2.1 hw.2.2.2 isC hC
  refine va_callv (va_runV (As := As) (rest := rest) ⟨hx, hb, hml, ho, hts⟩ hM (cwV n hts hv.1 rfl hr0.1 hr0.2 hv.2 hR) ⟨gd_blind, va_recv hK hPc (ci := ci) (q0 := q0) hc he, fun U hU hW => ⟨rfl, by rw [hU], by rw [hU]; exact hPc, va_K.moved hW.alike hK, hDc, hN.warm hW⟩⟩ rfl hn hls hst (lv_room hrest) hdg ⟨hf.1, hf.2⟩) hw.2.2.1 (fun q _ h => hF q h) hF (fun u t H1 locs1 ht hvm hp hB hz hk hS => ?_)
  exact kk u H1 locs1 hp (hJ u t H1 locs1 hB ht hk hS)
/-- a static method that reads nothing -/
theorem gd_callSI {ty : FieldType} {post : Int32 → Unit → Prop} (X : gd_Cx p s m args c own cc nL D ct) (hw : gd_Ws D A s ws H locs) (hM : gd_ctI l y (.code y bytes maxL (some ty)) rm D ct As H.size [] post (fun _ => [])) (hv : gd_CS own idx y (.code y bytes maxL (some ty)) n) (hR : rm.frames + 1 ≤ R.frames ∧ 8 + (maxL + 11) + rm.locals ≤ R.locals) (hr0 : rm.cells = 0 ∧ rm.slots = 0)
    (hn : As.length = n) (hls : ls.size = nL) (hst : st = As.reverse ++ rest) (hrest : (rest.map fun v => v.category).sum ≤ 8) (hf : cells ≤ R.cells ∧ slots ≤ R.slots) (hdg : decode cc pc = .ok (.invokestatic idx, 3))
    (kk : ∀ (r : Int32) (H1 : Heap) (locs1 : List Loc), post r () → gd_Ws D A s ws H1 locs1 → W p l e R s m args below meth c H1 locs1 cells slots Q (F0 m (pc + 3) ls (.int r :: rest))) : W p l e R s m args below meth c H locs cells slots Q (F0 m pc ls st) := by
  obtain ⟨hx, hb, hml, ho, hts, hK, hN⟩ := X
  obtain ⟨hPc, hDc⟩ := gd_sub (wc := []) hw [] rfl rfl
  have hF := va_free (wc := []) hw.2.1 hw.2.2.1 hw.2.2.2 [] rfl
  refine va_calli (va_runS (As := As) (rest := rest) ⟨hx, hb, hml, ho, hts⟩ hM (cwS n hts hv.1 rfl hr0.1 hr0.2 hv.2 hR) ⟨gd_blind, fun U hU hW => ⟨rfl, by rw [hU], by rw [hU]; exact hPc, va_K.moved hW.alike hK, hDc, hN.warm hW⟩⟩ rfl hn hls hst (lv_room hrest) hdg ⟨hf.1, hf.2⟩) hw.2.2.1 (fun q _ h => hF q h) hF (fun r u t H1 locs1 ht hvm hp hB hz hk hS => ?_)
  exact kk r H1 locs1 hp (gd_jr hw [] rfl () t H1 locs1 hB ht hk hS)
/-- a call by the interface on a Places -/
theorem gd_callFL {x : MethodName} {count : Nat} {post : Int64 → S → Prop} (X : gd_Cx p s m args c own cc nL D ct) (hw : gd_Ws D A s ws H locs) (hM : gd_ctL l y (.code y bytes maxL (some .long)) rm D ct (.ref b :: As) H.size wc post wf)
    (hG : GoodIn gw (va_wsF own idx R_A x y (.code y bytes maxL (some .long) :: gw))) (hFw : va_Fw R_A x y s) (hd : x.cls ≠ "java/lang/invoke/MethodHandle" ∧ x.cls ≠ "java/lang/invoke/VarHandle" ∧ (parseMethodDescriptor x.desc).map (fun d => d.parameters.length) = some n) (hR : rm.frames + 1 ≤ R.frames ∧ 8 + (maxL + 11) + rm.locals ≤ R.locals) (hr0 : rm.cells = 0 ∧ rm.slots = 0)
    (isC : List Nat) (hnC : va_nd isC = true) (hC : isC.map (fun i => ws[i]?) = wc.map some) (q0 : Nat) {fs : List Value} (he : wc[q0]? = some (b, .inr (1, fs))) (hJ : gd_J D A s H wc wf w2) (hn : As.length = n) (hls : ls.size = nL) (hst : st = As.reverse ++ .ref b :: rest) (hrest : (rest.map fun v => v.category).sum ≤ 8) (hf : cells ≤ R.cells ∧ slots ≤ R.slots) (hdg : decode cc pc = .ok (.invokeinterface idx count, 5))
    (kk : ∀ (r : Int64) (u : S) (H1 : Heap) (locs1 : List Loc), post r u → gd_Ws D A s (w2 u) H1 locs1 → W p l e R s m args below meth c H1 locs1 cells slots Q (F0 m (pc + 5) ls (.long r :: rest))) : W p l e R s m args below meth c H locs cells slots Q (F0 m pc ls st) := by
  obtain ⟨hx, hb, hml, ho, hts, hK, hN⟩ := X
  obtain ⟨hPc, hDc⟩ := gd_sub hw isC hnC hC
  have hF := va_free (wc := wc) hw.2.1 hw.2.2.1 hw.2.2.2 isC hC
  refine va_callFl (va_runF (As := As) (rest := rest) (hK.1 1 _ rfl).2 ⟨hx, hb, hml, ho, hts⟩ hM (va_cwF n hts hG rfl hr0.1 hr0.2 hFw hd hR) ⟨gd_blind, va_recv hK hPc (ci := 1) (q0 := q0) rfl he, fun U hU hW => ⟨rfl, by rw [hU], by rw [hU]; exact hPc, va_K.moved hW.alike hK, hDc, hN.warm hW⟩⟩ rfl hn hls hst (lv_room hrest) hdg ⟨hf.1, hf.2⟩) hw.2.2.1 (fun q _ h => hF q h) hF (fun r u t H1 locs1 ht hvm hp hB hz hk hS => ?_)
  exact kk r u H1 locs1 hp (hJ u t H1 locs1 hB ht hk hS)
/-- a constructor's call -/
theorem gd_callIV {mc ms : Nat} {post : S → Prop} (X : gd_Cx p s m args c own cc nL D ct) (hw : gd_Ws D A s ws H locs) (hM : gd_ctV l y (.code y bytes maxL none) rm D ct (.ref b :: As) H.size wc post wf mc ms) (hk5 : Cond.code y bytes maxL none ∈ gw) (hini : Cond.initialized y.cls ∈ gw) (hlk : Cond.methodLink own idx y ∈ gw) (hinm : Cond.instanceMethod y ∈ gw) (hy1 : y.name = "<init>")
    (hd : y.cls ≠ "java/lang/invoke/MethodHandle" ∧ y.cls ≠ "java/lang/invoke/VarHandle" ∧ (parseMethodDescriptor y.desc).map (fun d => d.parameters.length) = some n) (hR : rm.frames + 1 ≤ R.frames ∧ 8 + (maxL + 11) + rm.locals ≤ R.locals) (hr0 : rm.cells = mc ∧ rm.slots = ms)
    (isC : List Nat) (hnC : va_nd isC = true) (hC : isC.map (fun i => ws[i]?) = wc.map some) (hJ : gd_J D A s H wc wf w2) (hn : As.length = n) (hls : ls.size = nL) (hst : st = As.reverse ++ .ref b :: rest) (hrest : (rest.map fun v => v.category).sum ≤ 8) (hf : cells + mc ≤ R.cells ∧ slots + ms ≤ R.slots) (hdg : decode cc pc = .ok (.invokespecial idx, 3))
    (kk : ∀ (u : S) (H1 : Heap) (locs1 : List Loc), post u → gd_Ws D A s (w2 u) H1 locs1 → W p l e R s m args below meth c H1 locs1 (cells + mc) (slots + ms) Q (F0 m (pc + 3) ls rest)) : W p l e R s m args below meth c H locs cells slots Q (F0 m pc ls st) := by
  obtain ⟨hx, hb, hml, ho, hts, hK, hN⟩ := X
  obtain ⟨hPc, hDc⟩ := gd_sub hw isC hnC hC
  have hF := va_free (wc := wc) hw.2.1 hw.2.2.1 hw.2.2.2 isC hC
  refine va_callv (va_runI (As := As) (rest := rest) ⟨hx, hb, hml, ho, hts⟩ hM (cwI n hts (gd_own hk5) rfl hr0.1 hr0.2 (hts _ hini) (hts _ hlk) (hts _ hinm) hy1 hd hR) ⟨gd_blind, fun U hU hW => ⟨rfl, by rw [hU], by rw [hU]; exact hPc, va_K.moved hW.alike hK, hDc, hN.warm hW⟩⟩ rfl hn hls hst (lv_room hrest) hdg hf) hw.2.2.1 (fun q _ h => hF q h) hF (fun u t H1 locs1 ht hvm hp hB hz hk hS => ?_)
  exact kk u H1 locs1 hp (hJ u t H1 locs1 hB ht hk hS)
theorem gd_callIN {mc ms : Nat} {post : S → Prop} {host : String} (X : gd_Cx p s m args c own cc nL D ct) (hw : gd_Ws D A s ws H locs) (hM : gd_ctV l y (.code y bytes maxL none) rm D ct (.ref b :: As) H.size wc post wf mc ms) (hk5 : Cond.code y bytes maxL none ∈ gw) (hini : Cond.initialized y.cls ∈ gw) (hlk : va_Nw (.methodLinkNest own idx y host) s) (hinm : Cond.instanceMethod y ∈ gw) (hy1 : y.name = "<init>")
    (hd : y.cls ≠ "java/lang/invoke/MethodHandle" ∧ y.cls ≠ "java/lang/invoke/VarHandle" ∧ (parseMethodDescriptor y.desc).map (fun d => d.parameters.length) = some n) (hR : rm.frames + 1 ≤ R.frames ∧ 8 + (maxL + 11) + rm.locals ≤ R.locals) (hr0 : rm.cells = mc ∧ rm.slots = ms)
    (isC : List Nat) (hnC : va_nd isC = true) (hC : isC.map (fun i => ws[i]?) = wc.map some) (hJ : gd_J D A s H wc wf w2) (hn : As.length = n) (hls : ls.size = nL) (hst : st = As.reverse ++ .ref b :: rest) (hrest : (rest.map fun v => v.category).sum ≤ 8) (hf : cells + mc ≤ R.cells ∧ slots + ms ≤ R.slots) (hdg : decode cc pc = .ok (.invokespecial idx, 3))
    (kk : ∀ (u : S) (H1 : Heap) (locs1 : List Loc), post u → gd_Ws D A s (w2 u) H1 locs1 → W p l e R s m args below meth c H1 locs1 (cells + mc) (slots + ms) Q (F0 m (pc + 3) ls rest)) : W p l e R s m args below meth c H locs cells slots Q (F0 m pc ls st) := by
  obtain ⟨hx, hb, hml, ho, hts, hK, hN⟩ := X
  obtain ⟨hPc, hDc⟩ := gd_sub hw isC hnC hC
  have hF := va_free (wc := wc) hw.2.1 hw.2.2.1 hw.2.2.2 isC hC
  refine va_callv (va_runIN (As := As) (rest := rest) ⟨hx, hb, hml, ho, hts⟩ hM ⟨va_cnB n hts (gd_own hk5) rfl hr0.1 hr0.2 hlk (hts _ hini) hd hR, hy1, hts _ hinm⟩ ⟨gd_blind, fun U hU hW => ⟨rfl, by rw [hU], by rw [hU]; exact hPc, va_K.moved hW.alike hK, hDc, hN.warm hW⟩⟩ rfl hn hls hst (lv_room hrest) hdg hf) hw.2.2.1 (fun q _ h => hF q h) hF (fun u t H1 locs1 ht hvm hp hB hz hk hS => ?_)
  exact kk u H1 locs1 hp (hJ u t H1 locs1 hB ht hk hS)
/-! rows of instructions over the bundle -/
theorem gd_get {C ref : String} {T : u_T} {N ci index : Nat} (hin : ∀ w ∈ u_ws C T N, w ∈ gw) (X : gd_Cx p s m args c own cc nL D ct) (hw : gd_Ws D A s ws H locs) (q0 : Nat) {fs : List Value} (he : ws[q0]? = some (a, .inr (ci, fs))) (hc : classes[ci]? = some (C, T, N)) (k : Nat) (hk : k < N) (hlink : Cond.fieldLink own index ref (T k).2.1 (T k).2.2.1 ∈ gw) (href : (T k).1 = ref) {v : Value} (hv : fs[k]? = some v) (hdg : decode cc pc = .ok (.getfield index, 3))
    (kk : W p l e R s m args below meth c H locs cells slots Q (F0 m (pc + 3) ls (v :: rest))) : W p l e R s m args below meth c H locs cells slots Q (F0 m pc ls (.ref a :: rest)) :=
  va_get (ref := ref) X.1 X.2.1 X.2.2.2.2.1 hin X.2.2.2.1 X.2.2.2.2.2.1 hw.1 q0 he hc k hk (X.2.2.2.2.1 _ hlink) (fun _ h9 => by rw [← href]; exact h9) hv hdg kk
theorem gd_getN {C ref host : String} {T : u_T} {N ci index : Nat} (hin : ∀ w ∈ u_ws C T N, w ∈ gw) (X : gd_Cx p s m args c own cc nL D ct) (hw : gd_Ws D A s ws H locs) (q0 : Nat) {fs : List Value} (he : ws[q0]? = some (a, .inr (ci, fs))) (hc : classes[ci]? = some (C, T, N)) (k : Nat) (hk : k < N) (hlink : va_Nw (.fieldLinkNest own index ref (T k).2.1 (T k).2.2.1 host) s) (href : (T k).1 = ref) {v : Value} (hv : fs[k]? = some v) (hdg : decode cc pc = .ok (.getfield index, 3))
    (kk : W p l e R s m args below meth c H locs cells slots Q (F0 m (pc + 3) ls (v :: rest))) : W p l e R s m args below meth c H locs cells slots Q (F0 m pc ls (.ref a :: rest)) :=
  va_getN (ref := ref) X.1 X.2.1 X.2.2.2.2.1 hin X.2.2.2.1 X.2.2.2.2.2.1 hw.1 q0 he hc k hk (va_Nw.use rfl hlink) (fun _ h9 => by rw [← href]; exact h9) hv hdg kk
theorem gd_put {C ref : String} {T : u_T} {N ci index : Nat} (hin : ∀ w ∈ u_ws C T N, w ∈ gw) (ty0 : Nat → FieldType) (hty : ∀ k, k < N → parseFieldDescriptor (T k).2.2.1 = some (ty0 k)) (hnm : ∀ a, a < N → ∀ b, b < N → a ≠ b → (T a).2.1 ≠ (T b).2.1) (X : gd_Cx p s m args c own cc nL D ct) (hw : gd_Ws D A s ws H locs) (q0 : Nat) {fs : List Value} (he : ws[q0]? = some (a, .inr (ci, fs))) (hc : classes[ci]? = some (C, T, N)) (k : Nat) (hk : k < N) (hlink : Cond.fieldLink own index ref (T k).2.1 (T k).2.2.1 ∈ gw) (href : (T k).1 = ref) (hfin : (T k).2.2.2 = false) {ty : FieldType} {v : Value} (hd : parseFieldDescriptor (T k).2.2.1 = some ty) (hn : narrow ty v = v) (hfit : fits ty v = true) (hl : k < fs.length) {wn : va_W} (hws : ws.set q0 (a, .inr (ci, fs.set k v)) = wn) (hdg : decode cc pc = .ok (.putfield index, 3))
    (kk : ∀ (H1 : Heap) (locs1 : List Loc), gd_Ws D A s wn H1 locs1 → W p l e R s m args below meth c H1 locs1 cells slots Q (F0 m (pc + 3) ls rest)) : W p l e R s m args below meth c H locs cells slots Q (F0 m pc ls (v :: .ref a :: rest)) :=
  va_put (ref := ref) X.1 X.2.1 X.2.2.2.2.1 hin ty0 hty hnm X.2.2.2.1 X.2.2.2.2.2.1 hw.1 hw.2.1 hw.2.2.1 q0 he hc k hk (X.2.2.2.2.1 _ hlink) (fun _ h9 => by rw [← href]; exact h9) hfin hd hn hfit hl hdg (fun H1 locs1 h1 h2 h3 => kk H1 locs1 (by subst hws; exact ⟨h1, h2, h3, hw.2.2.2⟩))
theorem gd_putF {C ref : String} {T : u_T} {N ci index : Nat} (hin : ∀ w ∈ u_ws C T N, w ∈ gw) (ty0 : Nat → FieldType) (hty : ∀ k, k < N → parseFieldDescriptor (T k).2.2.1 = some (ty0 k)) (hnm : ∀ a, a < N → ∀ b, b < N → a ≠ b → (T a).2.1 ≠ (T b).2.1) (X : gd_Cx p s m args c own cc nL D ct) (hmn : meth.name = "<init>") (hw : gd_Ws D A s ws H locs) (q0 : Nat) {fs : List Value} (he : ws[q0]? = some (a, .inr (ci, fs))) (hc : classes[ci]? = some (C, T, N)) (k : Nat) (hk : k < N) (hlink : Cond.fieldLink own index ref (T k).2.1 (T k).2.2.1 ∈ gw) (href : (T k).1 = ref) (hfin : (T k).2.2.2 = true) (hdecl : (T k).1 = own) {ty : FieldType} {v : Value} (hd : parseFieldDescriptor (T k).2.2.1 = some ty) (hn : narrow ty v = v) (hfit : fits ty v = true) (hl : k < fs.length) {wn : va_W} (hws : ws.set q0 (a, .inr (ci, fs.set k v)) = wn) (hdg : decode cc pc = .ok (.putfield index, 3))
    (kk : ∀ (H1 : Heap) (locs1 : List Loc), gd_Ws D A s wn H1 locs1 → W p l e R s m args below meth c H1 locs1 cells slots Q (F0 m (pc + 3) ls rest)) : W p l e R s m args below meth c H locs cells slots Q (F0 m pc ls (v :: .ref a :: rest)) :=
  va_putF (ref := ref) X.1 X.2.1 X.2.2.2.2.1 hin ty0 hty hnm X.2.2.2.1 X.2.2.2.2.2.1 hw.1 hw.2.1 hw.2.2.1 q0 he hc k hk (X.2.2.2.2.1 _ hlink) (fun _ h9 => by rw [← href]; exact h9) hfin hmn hdecl hd hn hfit hl hdg (fun H1 locs1 h1 h2 h3 => kk H1 locs1 (by subst hws; exact ⟨h1, h2, h3, hw.2.2.2⟩))
theorem gd_ild {n : Nat} {f : Nat → Int32} {k : Nat} (X : gd_Cx p s m args c own cc nL D ct) (hw : gd_Ws D A s ws H locs) (q0 : Nat) (he : ws[q0]? = some (a, .inl (ct 3, n, .inl f))) (hk : k < n) (hn : n < 2 ^ 31) {v : Int32} (hv : f k = v) (hdg : decode cc pc = .ok (.iaload, 1))
    (kk : W p l e R s m args below meth c H locs cells slots Q (F0 m (pc + 1) ls (.int v :: rest))) : W p l e R s m args below meth c H locs cells slots Q (F0 m pc ls (.int (nI k) :: .ref a :: rest)) := by
  refine va_iald X.1 X.2.1 X.2.2.2.2.2.1 hw.1 q0 3 he rfl (vp_in_nI hk hn) hdg ?_
  rw [nI_clamp (by omega), hv]; exact kk
theorem gd_bld {n : Nat} {f : Nat → Int32} {k : Nat} (X : gd_Cx p s m args c own cc nL D ct) (hw : gd_Ws D A s ws H locs) (q0 : Nat) (he : ws[q0]? = some (a, .inl (ct 1, n, .inl f))) (hk : k < n) (hn : n < 2 ^ 31) {v : Int32} (hv : f k = v) (hdg : decode cc pc = .ok (.baload, 1))
    (kk : W p l e R s m args below meth c H locs cells slots Q (F0 m (pc + 1) ls (.int v :: rest))) : W p l e R s m args below meth c H locs cells slots Q (F0 m pc ls (.int (nI k) :: .ref a :: rest)) := by
  refine va_bald X.1 X.2.1 X.2.2.2.2.2.1 hw.1 q0 1 he rfl (vp_in_nI hk hn) hdg ?_
  rw [nI_clamp (by omega), hv]; exact kk
theorem gd_zld {n : Nat} {f : Nat → Int32} {k : Nat} (X : gd_Cx p s m args c own cc nL D ct) (hw : gd_Ws D A s ws H locs) (q0 : Nat) (he : ws[q0]? = some (a, .inl (ct 0, n, .inl f))) (hk : k < n) (hn : n < 2 ^ 31) {v : Int32} (hv : f k = v) (hdg : decode cc pc = .ok (.baload, 1))
    (kk : W p l e R s m args below meth c H locs cells slots Q (F0 m (pc + 1) ls (.int v :: rest))) : W p l e R s m args below meth c H locs cells slots Q (F0 m pc ls (.int (nI k) :: .ref a :: rest)) := by
  refine va_zald X.1 X.2.1 X.2.2.2.2.2.1 hw.1 q0 0 he rfl (vp_in_nI hk hn) hdg ?_
  rw [nI_clamp (by omega), hv]; exact kk
theorem gd_sld {n : Nat} {f : Nat → Int32} {k : Nat} (X : gd_Cx p s m args c own cc nL D ct) (hw : gd_Ws D A s ws H locs) (q0 : Nat) (he : ws[q0]? = some (a, .inl (ct 2, n, .inl f))) (hk : k < n) (hn : n < 2 ^ 31) {v : Int32} (hv : f k = v) (hdg : decode cc pc = .ok (.saload, 1))
    (kk : W p l e R s m args below meth c H locs cells slots Q (F0 m (pc + 1) ls (.int v :: rest))) : W p l e R s m args below meth c H locs cells slots Q (F0 m pc ls (.int (nI k) :: .ref a :: rest)) := by
  refine va_sald X.1 X.2.1 X.2.2.2.2.2.1 hw.1 q0 2 he rfl (vp_in_nI hk hn) hdg ?_
  rw [nI_clamp (by omega), hv]; exact kk
theorem gd_lld {n : Nat} {f : Nat → Int64} {k : Nat} (X : gd_Cx p s m args c own cc nL D ct) (hw : gd_Ws D A s ws H locs) (q0 : Nat) (he : ws[q0]? = some (a, .inl (ct 4, n, .inr (.inl f)))) (hk : k < n) (hn : n < 2 ^ 31) {v : Int64} (hv : f k = v) (hdg : decode cc pc = .ok (.laload, 1))
    (kk : W p l e R s m args below meth c H locs cells slots Q (F0 m (pc + 1) ls (.long v :: rest))) : W p l e R s m args below meth c H locs cells slots Q (F0 m pc ls (.int (nI k) :: .ref a :: rest)) := by
  refine va_lald X.1 X.2.1 X.2.2.2.2.2.1 hw.1 q0 4 he rfl (vp_in_nI hk hn) hdg ?_
  rw [nI_clamp (by omega), hv]; exact kk
/-- stores: the new contents g, told pointwise -/
theorem gd_ist {n : Nat} {f g : Nat → Int32} {k : Nat} {x : Int32} (X : gd_Cx p s m args c own cc nL D ct) (hw : gd_Ws D A s ws H locs) (q0 : Nat) (he : ws[q0]? = some (a, .inl (ct 3, n, .inl f))) (hk : k < n) (hn : n < 2 ^ 31) (hg : upd f k x = g) {wn : va_W} (hws : ws.set q0 (a, .inl (ct 3, n, .inl g)) = wn) (hdg : decode cc pc = .ok (.iastore, 1))
    (kk : ∀ (H1 : Heap) (locs1 : List Loc), gd_Ws D A s wn H1 locs1 → W p l e R s m args below meth c H1 locs1 cells slots Q (F0 m (pc + 1) ls rest)) : W p l e R s m args below meth c H locs cells slots Q (F0 m pc ls (.int x :: .int (nI k) :: .ref a :: rest)) := by
  refine va_iast X.1 X.2.1 X.2.2.2.2.2.1 hw.1 hw.2.1 hw.2.2.1 q0 3 he rfl (vp_in_nI hk hn) hdg (fun H1 locs1 h1 h2 h3 => ?_)
  rw [nI_clamp (by omega), hg, hws] at h1 h2
  exact kk H1 locs1 ⟨h1, h2, h3, hw.2.2.2⟩
theorem gd_bst {n : Nat} {f g : Nat → Int32} {k : Nat} {x : Int32} (X : gd_Cx p s m args c own cc nL D ct) (hw : gd_Ws D A s ws H locs) (q0 : Nat) (he : ws[q0]? = some (a, .inl (ct 1, n, .inl f))) (hk : k < n) (hn : n < 2 ^ 31) (hg : upd f k (vp_nar .byte x) = g) {wn : va_W} (hws : ws.set q0 (a, .inl (ct 1, n, .inl g)) = wn) (hdg : decode cc pc = .ok (.bastore, 1))
    (kk : ∀ (H1 : Heap) (locs1 : List Loc), gd_Ws D A s wn H1 locs1 → W p l e R s m args below meth c H1 locs1 cells slots Q (F0 m (pc + 1) ls rest)) : W p l e R s m args below meth c H locs cells slots Q (F0 m pc ls (.int x :: .int (nI k) :: .ref a :: rest)) := by
  refine va_bast X.1 X.2.1 X.2.2.2.2.2.1 hw.1 hw.2.1 hw.2.2.1 q0 1 he rfl (vp_in_nI hk hn) hdg (fun H1 locs1 h1 h2 h3 => ?_)
  rw [nI_clamp (by omega), hg, hws] at h1 h2
  exact kk H1 locs1 ⟨h1, h2, h3, hw.2.2.2⟩
theorem gd_zst {n : Nat} {f g : Nat → Int32} {k : Nat} {x : Int32} (X : gd_Cx p s m args c own cc nL D ct) (hw : gd_Ws D A s ws H locs) (q0 : Nat) (he : ws[q0]? = some (a, .inl (ct 0, n, .inl f))) (hk : k < n) (hn : n < 2 ^ 31) (hg : upd f k (vp_nar .boolean x) = g) {wn : va_W} (hws : ws.set q0 (a, .inl (ct 0, n, .inl g)) = wn) (hdg : decode cc pc = .ok (.bastore, 1))
    (kk : ∀ (H1 : Heap) (locs1 : List Loc), gd_Ws D A s wn H1 locs1 → W p l e R s m args below meth c H1 locs1 cells slots Q (F0 m (pc + 1) ls rest)) : W p l e R s m args below meth c H locs cells slots Q (F0 m pc ls (.int x :: .int (nI k) :: .ref a :: rest)) := by
  refine va_zast X.1 X.2.1 X.2.2.2.2.2.1 hw.1 hw.2.1 hw.2.2.1 q0 0 he rfl (vp_in_nI hk hn) hdg (fun H1 locs1 h1 h2 h3 => ?_)
  rw [nI_clamp (by omega), hg, hws] at h1 h2
  exact kk H1 locs1 ⟨h1, h2, h3, hw.2.2.2⟩
theorem gd_sst {n : Nat} {f g : Nat → Int32} {k : Nat} {x : Int32} (X : gd_Cx p s m args c own cc nL D ct) (hw : gd_Ws D A s ws H locs) (q0 : Nat) (he : ws[q0]? = some (a, .inl (ct 2, n, .inl f))) (hk : k < n) (hn : n < 2 ^ 31) (hg : upd f k (vp_nar .short x) = g) {wn : va_W} (hws : ws.set q0 (a, .inl (ct 2, n, .inl g)) = wn) (hdg : decode cc pc = .ok (.sastore, 1))
    (kk : ∀ (H1 : Heap) (locs1 : List Loc), gd_Ws D A s wn H1 locs1 → W p l e R s m args below meth c H1 locs1 cells slots Q (F0 m (pc + 1) ls rest)) : W p l e R s m args below meth c H locs cells slots Q (F0 m pc ls (.int x :: .int (nI k) :: .ref a :: rest)) := by
  refine va_sast X.1 X.2.1 X.2.2.2.2.2.1 hw.1 hw.2.1 hw.2.2.1 q0 2 he rfl (vp_in_nI hk hn) hdg (fun H1 locs1 h1 h2 h3 => ?_)
  rw [nI_clamp (by omega), hg, hws] at h1 h2
  exact kk H1 locs1 ⟨h1, h2, h3, hw.2.2.2⟩
theorem gd_lst {n : Nat} {f g : Nat → Int64} {k : Nat} {x : Int64} (X : gd_Cx p s m args c own cc nL D ct) (hw : gd_Ws D A s ws H locs) (q0 : Nat) (he : ws[q0]? = some (a, .inl (ct 4, n, .inr (.inl f)))) (hk : k < n) (hn : n < 2 ^ 31) (hg : vp_updL f k x = g) {wn : va_W} (hws : ws.set q0 (a, .inl (ct 4, n, .inr (.inl g))) = wn) (hdg : decode cc pc = .ok (.lastore, 1))
    (kk : ∀ (H1 : Heap) (locs1 : List Loc), gd_Ws D A s wn H1 locs1 → W p l e R s m args below meth c H1 locs1 cells slots Q (F0 m (pc + 1) ls rest)) : W p l e R s m args below meth c H locs cells slots Q (F0 m pc ls (.long x :: .int (nI k) :: .ref a :: rest)) := by
  refine va_last X.1 X.2.1 X.2.2.2.2.2.1 hw.1 hw.2.1 hw.2.2.1 q0 4 he rfl (vp_in_nI hk hn) hdg (fun H1 locs1 h1 h2 h3 => ?_)
  rw [nI_clamp (by omega), hg, hws] at h1 h2
  exact kk H1 locs1 ⟨h1, h2, h3, hw.2.2.2⟩
theorem gd_len {ty : FieldType} {t0 n : Nat} {cA : ClassId} {f : (Nat → Int32) ⊕ (Nat → Int64) ⊕ (Nat → UInt32) ⊕ (Nat → UInt64) ⊕ (Nat → Option Nat)} (X : gd_Cx p s m args c own cc nL D ct) (hw : gd_Ws D A s ws H locs) (q0 : Nat) (ht : (gd_tys ct)[t0]? = some (cA, ty)) (he : ws[q0]? = some (a, .inl (cA, n, f))) (hdg : decode cc pc = .ok (.arraylength, 1))
    (kk : W p l e R s m args below meth c H locs cells slots Q (F0 m (pc + 1) ls (.int (nI n) :: rest))) : W p l e R s m args below meth c H locs cells slots Q (F0 m pc ls (.ref a :: rest)) :=
  va_alen X.1 X.2.1 X.2.2.2.2.2.1 hw.1 q0 t0 he ht rfl hdg kk
theorem gd_newa {atype : ArrayType} {ty : FieldType} {t0 : Nat} {cA : ClassId} {N : Nat} {a0 : vp_A} (X : gd_Cx p s m args c own cc nL D ct) (hw : gd_Ws D A s ws H locs) (harr : Cond.arrayClass ty ∈ gw) (hty : newarray.typeOf atype = ty) (ht : (gd_tys ct)[t0]? = some (cA, ty)) (hRA : ∀ c2, va_RA s c2 ty → s.vm.findClass ("[" ++ ty.toString) = some c2) (ha : ∀ cA : ClassId, vp_cell cA a0 = arrV cA N (fun _ => defaultValue ty)) (hN : N < 2 ^ 31) (hbytes : N * componentBytes ty ≤ 536870912) (hcells : cells + 1 ≤ R.cells) (hslots : slots + N ≤ R.slots) (hdg : decode cc pc = .ok (.newarray atype, 2))
    (kk : ∀ (q : Nat) (H1 : Heap), gd_Ws D A s (ws ++ [(q, .inl (cA, a0))]) H1 locs → W p l e R s m args below meth c H1 locs (cells + 1) (slots + N) Q (F0 m (pc + 2) ls (.ref q :: rest))) : W p l e R s m args below meth c H locs cells slots Q (F0 m pc ls (.int (nI N) :: rest)) := by
  refine va_newa X.1 X.2.1 (by rw [hty]; exact X.2.2.2.2.1 _ harr) hty X.2.2.2.2.2.1 hw.1 hw.2.1 hw.2.2.1 hw.2.2.2 ha (nI_pos hN) (nI_clamp hN) hbytes hcells hslots hdg (fun q c2 H1 h1 h2 h3 h4 => ?_)
  have e1 := hRA _ (h1.2 5 (c2, ty) rfl).2
  have e2 := hRA _ (X.2.2.2.2.2.1.2 t0 (cA, ty) ht).2
  have e3 : c2 = cA := Option.some.inj (e1.symm.trans e2)
  subst e3
  exact kk q H1 ⟨h2, h3, h4, hw.2.2.2⟩
theorem gd_new {C : String} {T : u_T} {N ci index : Nat} (hin : ∀ w ∈ u_ws C T N, w ∈ gw) (ty : Nat → FieldType) (hty : ∀ k, k < N → parseFieldDescriptor (T k).2.2.1 = some (ty k)) (X : gd_Cx p s m args c own cc nL D ct) (hw : gd_Ws D A s ws H locs) (hcl : Cond.classLink own index C ∈ gw) (hinst : Cond.instantiable C N ∈ gw) (hini : Cond.initialized C ∈ gw) (hc : classes[ci]? = some (C, T, N)) {fs : List Value} (hfs : ∀ j, j < N → defaultValue (ty j) = vp_V fs j) (hcells : cells + 1 ≤ R.cells) (hslots : slots + N ≤ R.slots) (hdg : decode cc pc = .ok (.new index, 3))
    (kk : ∀ (q : Nat) (H1 : Heap), gd_Ws D A s (ws ++ [(q, .inr (ci, fs))]) H1 locs → W p l e R s m args below meth c H1 locs (cells + 1) (slots + N) Q (F0 m (pc + 3) ls (.ref q :: rest))) : W p l e R s m args below meth c H locs cells slots Q (F0 m pc ls rest) :=
  va_new X.1 X.2.1 X.2.2.2.2.1 hin ty hty X.2.2.2.1 (X.2.2.2.2.1 _ hcl) (X.2.2.2.2.1 _ hinst) (X.2.2.2.2.1 _ hini) X.2.2.2.2.2.1 hw.1 hw.2.1 hw.2.2.1 hw.2.2.2 hc hfs hcells hslots hdg (fun q H1 h1 h2 h3 => kk q H1 ⟨h1, h2, h3, hw.2.2.2⟩)
theorem gd_objInit {idx : Nat} (X : gd_Cx p s m args c own cc nL D ct) (hlk : Cond.methodLink own idx objectInit ∈ gw) (hls : ls.size = nL) (hrest : (rest.map fun v => v.category).sum + 12 ≤ R.locals) (hfr : 1 ≤ R.frames) (hd : decode cc pc = .ok (.invokespecial idx, 3))
    (kk : W p l e R s m args below meth c H locs cells slots Q (F0 m (pc + 3) ls rest)) : W p l e R s m args below meth c H locs cells slots Q (F0 m pc ls (.ref a :: rest)) := by
  refine W.objInit X.1 X.2.1 X.2.2.2.1 (X.2.2.2.2.1 _ hlk) (X.2.2.2.2.1 _ tw_12) (X.2.2.2.2.1 _ tw_13) rfl (by rw [X.2.2.1]; exact hls) rfl hd hfr ?_ ?_
  · show 2 * (F0 m pc ls (.ref a :: rest)).monitorRoom + _ + 12 ≤ R.locals
    have : (F0 m pc ls (.ref a :: rest)).monitorRoom = 0 := rfl
    rw [this]
    omega
  · exact kk
end GDC
end
section
/-! PURE WORDS: numbers on the machine, sums, counts, the desk's data, the greatest set -/
def mx_b (b : Bool) : Int32 := if b = true then 1 else 0
def mx_o : Option Nat → Int32
  | none => -1
  | some k => nI k
def mx_l (z : Int) : Int64 := Int64.ofInt z
theorem mx_l_add (a b : Int) : mx_l a + mx_l b = mx_l (a + b) := (Int64.ofInt_add a b).symm
theorem mx_l_sub (a b : Int) : mx_l a - mx_l b = mx_l (a - b) := (Int64.ofInt_sub a b).symm
theorem mx_l_neg (a : Int) : -mx_l a = mx_l (-a) := (Int64.ofInt_neg a).symm
theorem mx_l_of (x : Int64) : mx_l x.toInt = x := Int64.ofInt_toInt x
def mx_fit (z : Int) : Prop := -9223372036854775808 ≤ z ∧ z ≤ 9223372036854775807
theorem mx_l_int {z : Int} (h : mx_fit z) : (mx_l z).toInt = z := by
  obtain ⟨h1, h2⟩ := h
  exact Int64.toInt_ofInt_of_le (by omega) (by omega)
theorem mx_l_lt {a b : Int} (ha : mx_fit a) (hb : mx_fit b) : mx_l a < mx_l b ↔ a < b := by
  rw [Int64.lt_iff_toInt_lt, mx_l_int ha, mx_l_int hb]
theorem mx_l_le {a b : Int} (ha : mx_fit a) (hb : mx_fit b) : mx_l a ≤ mx_l b ↔ a ≤ b := by
  rw [Int64.le_iff_toInt_le, mx_l_int ha, mx_l_int hb]
theorem mx_l_eq {a b : Int} (ha : mx_fit a) (hb : mx_fit b) : mx_l a = mx_l b ↔ a = b := by
  constructor
  · intro h
    have := congrArg Int64.toInt h
    rw [mx_l_int ha, mx_l_int hb] at this
    exact this
  · intro h; rw [h]
theorem mx_l_0 : mx_l 0 = 0 := rfl
theorem mx_b_t : mx_b true = 1 := rfl
theorem mx_b_f : mx_b false = 0 := rfl
theorem mx_b_inj {a b : Bool} (h : mx_b a = mx_b b) : a = b := by
  cases a <;> cases b <;> first | rfl | (exact absurd h (by decide))
/-! sums -/
def mx_sum (f : Nat → Int) : Nat → Int
  | 0 => 0
  | n + 1 => mx_sum f n + f n
theorem mx_sum_congr {f g : Nat → Int} : ∀ n : Nat, (∀ j, j < n → f j = g j) → mx_sum f n = mx_sum g n := by
  intro n
  induction n with
  | zero => intro _; rfl
  | succ n ih =>
    intro h
    show mx_sum f n + f n = mx_sum g n + g n
    rw [ih (fun j hj => h j (by omega)), h n (by omega)]
theorem mx_sum_le {f g : Nat → Int} : ∀ n : Nat, (∀ j, j < n → f j ≤ g j) → mx_sum f n ≤ mx_sum g n := by
  intro n
  induction n with
  | zero => intro _; exact Int.le_refl _
  | succ n ih =>
    intro h
    show mx_sum f n + f n ≤ mx_sum g n + g n
    have h1 := ih (fun j hj => h j (by omega))
    have h2 := h n (by omega)
    omega
theorem mx_sum_const0 : ∀ n : Nat, mx_sum (fun _ => 0) n = 0 := by
  intro n
  induction n with
  | zero => rfl
  | succ n ih => show mx_sum (fun _ => 0) n + 0 = 0; rw [ih]; rfl
theorem mx_sum_zero {f : Nat → Int} (n : Nat) (h : ∀ j, j < n → f j = 0) : mx_sum f n = 0 := by
  rw [mx_sum_congr n h, mx_sum_const0]
theorem mx_sum_nonneg {f : Nat → Int} (n : Nat) (h : ∀ j, j < n → 0 ≤ f j) : 0 ≤ mx_sum f n := by
  have := mx_sum_le (f := fun _ => 0) (g := f) n h
  rw [mx_sum_const0] at this
  exact this
theorem mx_sum_neg {f : Nat → Int} {n : Nat} (h : mx_sum f n < 0) : ∃ k, k < n ∧ f k < 0 := by
  apply Classical.byContradiction
  intro hc
  have := mx_sum_nonneg (f := f) n (fun j hj => by
    apply Classical.byContradiction
    intro h2
    exact hc ⟨j, hj, by omega⟩)
  omega
theorem mx_sum_single {f : Nat → Int} (k : Nat) : ∀ n : Nat, k < n → (∀ j, j < n → j ≠ k → f j = 0) → mx_sum f n = f k := by
  intro n
  induction n with
  | zero => intro h; omega
  | succ n ih =>
    intro hk h
    show mx_sum f n + f n = f k
    by_cases hn : k = n
    · subst hn
      rw [mx_sum_zero k (fun j hj => h j (by omega) (by omega))]
      omega
    · rw [ih (by omega) (fun j hj hne => h j (by omega) hne), h n (by omega) (by omega)]
      omega
theorem mx_sum_up {f : Nat → Int} (k : Nat) (v : Int) : ∀ n : Nat, mx_sum (va_up f k v) n = if k < n then mx_sum f n - f k + v else mx_sum f n := by
  intro n
  induction n with
  | zero => rfl
  | succ n ih =>
    show mx_sum (va_up f k v) n + va_up f k v n = _
    rw [ih]
    by_cases hn : n = k
    · subst hn
      rw [va_up_self, if_neg (by omega), if_pos (by omega)]
      show mx_sum f n + v = mx_sum f n + f n - f n + v
      omega
    · rw [va_up_ne _ _ hn]
      by_cases h2 : k < n
      · rw [if_pos h2, if_pos (by omega)]
        show mx_sum f n - f k + v + f n = mx_sum f n + f n - f k + v
        omega
      · rw [if_neg h2, if_neg (by omega)]
        rfl
theorem mx_sum_add (f : Nat → Int) (a : Nat) : ∀ b : Nat, mx_sum f (a + b) = mx_sum f a + mx_sum (fun k => f (a + k)) b := by
  intro b
  induction b with
  | zero => show mx_sum f a = mx_sum f a + 0; omega
  | succ b ih =>
    show mx_sum f (a + b) + f (a + b) = mx_sum f a + (mx_sum (fun k => f (a + k)) b + f (a + b))
    rw [ih]
    omega
theorem mx_sum_block (f : Nat → Int) (c : Nat) : ∀ n : Nat, mx_sum f (c * n) = mx_sum (fun i => mx_sum (fun k => f (c * i + k)) c) n := by
  intro n
  induction n with
  | zero => rfl
  | succ n ih =>
    rw [Nat.mul_succ, mx_sum_add, ih]
    rfl
theorem mx_sum_ext {f : Nat → Int} {a b : Nat} (hab : a ≤ b) (h : ∀ j, a ≤ j → j < b → f j = 0) : mx_sum f b = mx_sum f a := by
  obtain ⟨d, rfl⟩ : ∃ d, b = a + d := ⟨b - a, by omega⟩
  rw [mx_sum_add, mx_sum_zero d (fun j hj => h (a + j) (by omega) (by omega))]
  omega
theorem mx_sum_bound {f : Nat → Int} (B : Int) : ∀ n : Nat, (∀ j, j < n → -B ≤ f j ∧ f j ≤ B) → -(B * n) ≤ mx_sum f n ∧ mx_sum f n ≤ B * n := by
  intro n
  induction n with
  | zero => intro _; constructor <;> (show _ ≤ _; simp [mx_sum])
  | succ n ih =>
    intro h
    obtain ⟨h1, h2⟩ := ih (fun j hj => h j (by omega))
    obtain ⟨h3, h4⟩ := h n (by omega)
    have e : B * ((n + 1 : Nat) : Int) = B * n + B := by
      rw [Int.natCast_add, Int.mul_add]
      simp
    rw [e]
    show -(B * n + B) ≤ mx_sum f n + f n ∧ mx_sum f n + f n ≤ B * n + B
    generalize B * (n : Int) = z at *
    omega
/-! counts -/
def mx_cnt (S : Nat → Bool) : Nat → Nat
  | 0 => 0
  | n + 1 => mx_cnt S n + (if S n = true then 1 else 0)
theorem mx_cnt_le {S T : Nat → Bool} (h : ∀ i, S i = true → T i = true) : ∀ n : Nat, mx_cnt S n ≤ mx_cnt T n := by
  intro n
  induction n with
  | zero => exact Nat.le_refl _
  | succ n ih =>
    show mx_cnt S n + (if S n = true then 1 else 0) ≤ mx_cnt T n + (if T n = true then 1 else 0)
    by_cases h1 : S n = true
    · rw [if_pos h1, if_pos (h n h1)]; omega
    · rw [if_neg h1]; omega
theorem mx_cnt_lt {S T : Nat → Bool} (h : ∀ i, S i = true → T i = true) {k : Nat} (hk : T k = true) (hk2 : S k = false) : ∀ n : Nat, k < n → mx_cnt S n < mx_cnt T n := by
  intro n
  induction n with
  | zero => intro h; omega
  | succ n ih =>
    intro hn
    show mx_cnt S n + (if S n = true then 1 else 0) < mx_cnt T n + (if T n = true then 1 else 0)
    by_cases he : k = n
    · subst he
      have := mx_cnt_le h k
      rw [if_neg (by rw [hk2]; decide), if_pos hk]; omega
    · have := ih (by omega)
      by_cases h1 : S n = true
      · rw [if_pos h1, if_pos (h n h1)]; omega
      · rw [if_neg h1]; omega
theorem mx_cnt_n (S : Nat → Bool) : ∀ n : Nat, mx_cnt S n ≤ n := by
  intro n
  induction n with
  | zero => exact Nat.le_refl _
  | succ n ih =>
    show mx_cnt S n + (if S n = true then 1 else 0) ≤ n + 1
    split <;> omega
theorem mx_cnt_ext {S : Nat → Bool} {a : Nat} : ∀ b : Nat, a ≤ b → (∀ j, a ≤ j → S j = false) → mx_cnt S b = mx_cnt S a := by
  intro b
  induction b with
  | zero => intro h _; rw [show a = 0 by omega]
  | succ b ih =>
    intro hab h
    by_cases he : a = b + 1
    · rw [he]
    · show mx_cnt S b + (if S b = true then 1 else 0) = _
      rw [ih (by omega) h, if_neg (by rw [h b (by omega)]; decide)]
      rfl
/-! the desk's data: items, there, many, positions, amounts, values, floors -/
abbrev GX : Type := Nat × (Nat → Bool) × (Nat → Nat) × (Nat → Nat) × (Nat → Int) × (Nat → Int) × (Nat → Int)
def mx_n (X : GX) : Nat := X.1
def mx_t (X : GX) : Nat → Bool := X.2.1
def mx_m (X : GX) : Nat → Nat := X.2.2.1
def mx_p (X : GX) : Nat → Nat := X.2.2.2.1
def mx_a (X : GX) : Nat → Int := X.2.2.2.2.1
def mx_v (X : GX) : Nat → Int := X.2.2.2.2.2.1
def mx_f (X : GX) : Nat → Int := X.2.2.2.2.2.2
/-- the net of an item for a position -/
def mx_net (X : GX) (i p : Nat) : Int := mx_sum (fun k => if mx_p X (16 * i + k) = p then mx_a X (16 * i + k) else 0) (mx_m X i)
/-- what a position would have -/
def mx_tot (X : GX) (S : Nat → Bool) (p : Nat) : Int := mx_v X p + mx_sum (fun i => if S i = true then mx_net X i p else 0) (mx_n X)
/-- the data are well formed -/
def mx_WF (X : GX) : Prop :=
  mx_n X ≤ 200 ∧ (∀ i, mx_m X i ≤ 16) ∧ (∀ i, mx_n X ≤ i → mx_t X i = false ∧ mx_m X i = 0) ∧
  (∀ i k, k < mx_m X i → mx_p X (16 * i + k) < 300 ∧ mx_a X (16 * i + k) ≠ 0 ∧ -1000000000000000 ≤ mx_a X (16 * i + k) ∧ mx_a X (16 * i + k) ≤ 1000000000000000) ∧
  (∀ i k k2, k < mx_m X i → k2 < mx_m X i → mx_p X (16 * i + k) = mx_p X (16 * i + k2) → k = k2) ∧
  (∀ p, p < 300 → -1000000000000000000 ≤ mx_f X p ∧ mx_f X p ≤ mx_v X p ∧ mx_v X p ≤ 1000000000000000000)
theorem mx_WF.n {X : GX} (h : mx_WF X) : mx_n X ≤ 200 := h.1
theorem mx_WF.m {X : GX} (h : mx_WF X) (i : Nat) : mx_m X i ≤ 16 := h.2.1 i
theorem mx_WF.out {X : GX} (h : mx_WF X) {i : Nat} (hi : mx_n X ≤ i) : mx_t X i = false ∧ mx_m X i = 0 := h.2.2.1 i hi
theorem mx_WF.net {X : GX} (h : mx_WF X) {i k : Nat} (hk : k < mx_m X i) : mx_p X (16 * i + k) < 300 ∧ mx_a X (16 * i + k) ≠ 0 ∧ -1000000000000000 ≤ mx_a X (16 * i + k) ∧ mx_a X (16 * i + k) ≤ 1000000000000000 := h.2.2.2.1 i k hk
theorem mx_WF.one {X : GX} (h : mx_WF X) {i k k2 : Nat} (hk : k < mx_m X i) (hk2 : k2 < mx_m X i) (e : mx_p X (16 * i + k) = mx_p X (16 * i + k2)) : k = k2 := h.2.2.2.2.1 i k k2 hk hk2 e
theorem mx_WF.pl {X : GX} (h : mx_WF X) {p : Nat} (hp : p < 300) : -1000000000000000000 ≤ mx_f X p ∧ mx_f X p ≤ mx_v X p ∧ mx_v X p ≤ 1000000000000000000 := h.2.2.2.2.2 p hp
theorem mx_WF.lt {X : GX} (h : mx_WF X) {i : Nat} (ht : mx_t X i = true) : i < mx_n X := by
  rcases Nat.lt_or_ge i (mx_n X) with q | q
  · exact q
  · rw [(h.out q).1] at ht; cases ht
theorem mx_WF.lt2 {X : GX} (h : mx_WF X) {i k : Nat} (hk : k < mx_m X i) : i < mx_n X := by
  rcases Nat.lt_or_ge i (mx_n X) with q | q
  · exact q
  · rw [(h.out q).2] at hk; omega
theorem mx_net_at {X : GX} (h : mx_WF X) {i k p : Nat} (hk : k < mx_m X i) (hp : mx_p X (16 * i + k) = p) : mx_net X i p = mx_a X (16 * i + k) := by
  unfold mx_net
  rw [mx_sum_single k (mx_m X i) hk (fun j hj hne => if_neg (fun e => hne (h.one hj hk (by rw [e, hp])))), if_pos hp]
theorem mx_net_no {X : GX} {i p : Nat} (hn : ∀ k, k < mx_m X i → mx_p X (16 * i + k) ≠ p) : mx_net X i p = 0 :=
  mx_sum_zero _ (fun j hj => if_neg (hn j hj))
theorem mx_net_neg {X : GX} (h : mx_WF X) {i p : Nat} (hn : mx_net X i p < 0) : ∃ k, k < mx_m X i ∧ mx_p X (16 * i + k) = p ∧ mx_a X (16 * i + k) < 0 := by
  obtain ⟨k, hk, h2⟩ := mx_sum_neg hn
  by_cases hp : mx_p X (16 * i + k) = p
  · rw [if_pos hp] at h2
    exact ⟨k, hk, hp, h2⟩
  · rw [if_neg hp] at h2; omega
theorem mx_net_bound {X : GX} (h : mx_WF X) (i p : Nat) : -1000000000000000 ≤ mx_net X i p ∧ mx_net X i p ≤ 1000000000000000 := by
  by_cases hx : ∃ k, k < mx_m X i ∧ mx_p X (16 * i + k) = p
  · obtain ⟨k, hk, hp⟩ := hx
    rw [mx_net_at h hk hp]
    exact (h.net hk).2.2
  · rw [mx_net_no (fun k hk e => hx ⟨k, hk, e⟩)]
    omega
/-! sets -/
def mx_Feas (X : GX) (S : Nat → Bool) : Prop :=
  (∀ i, S i = true → mx_t X i = true) ∧ (∀ p, p < 300 → mx_f X p ≤ mx_tot X S p) ∧
  (∀ j i p, j < i → mx_t X j = true → mx_net X j p < 0 → mx_net X i p < 0 → S i = true → S j = true)
def mx_Sol (X : GX) (S : Nat → Bool) : Prop := mx_Feas X S ∧ ∀ T, mx_Feas X T → ∀ i, T i = true → S i = true
def mx_No (X : GX) (i : Nat) : Prop := ∀ T, mx_Feas X T → T i = false
theorem mx_bool {a b : Bool} (h1 : a = true → b = true) (h2 : b = true → a = true) : a = b := by
  cases a <;> cases b <;> first | rfl | (exact (h1 rfl).symm) | (exact h2 rfl)
theorem mx_Sol_one {X : GX} {S T : Nat → Bool} (hS : mx_Sol X S) (hT : mx_Sol X T) : S = T :=
  funext fun i => mx_bool (hT.2 S hS.1 i) (hS.2 T hT.1 i)
/-- if a position is short, its last taker isn't in any good set -/
theorem mx_last_no {X : GX} {C : Nat → Bool} {p t : Nat} (hp : p < 300) (hC : ∀ i, mx_t X i = true → C i = false → mx_No X i) (hs : mx_tot X C p < mx_f X p)
    (ht : mx_net X t p < 0) (hl : ∀ i, t < i → i < mx_n X → C i = true → ¬ mx_net X i p < 0) (hth : ∀ i, C i = true → mx_t X i = true) : mx_No X t := by
  intro T hT
  cases hq : T t with
  | false => rfl
  | true =>
    exfalso
    have h1 := hT.2.1 p hp
    have h2 : mx_tot X T p ≤ mx_tot X C p := by
      unfold mx_tot
      have : mx_sum (fun i => if T i = true then mx_net X i p else 0) (mx_n X) ≤ mx_sum (fun i => if C i = true then mx_net X i p else 0) (mx_n X) := by
        refine mx_sum_le _ (fun i hi => ?_)
        have hTC : T i = true → C i = true := by
          intro h3
          cases h4 : C i with
          | true => rfl
          | false => rw [hC i (hT.1 i h3) h4 T hT] at h3; cases h3
        by_cases h3 : T i = true
        · show (if T i = true then _ else _) ≤ (if C i = true then _ else _)
          rw [if_pos h3, if_pos (hTC h3)]
          exact Int.le_refl _
        · show (if T i = true then _ else _) ≤ (if C i = true then _ else _)
          rw [if_neg h3]
          by_cases h4 : C i = true
          · rw [if_pos h4]
            apply Classical.byContradiction
            intro h5
            have h6 : mx_net X i p < 0 := by omega
            rcases Nat.lt_trichotomy i t with h7 | h7 | h7
            · exact h3 (hT.2.2 i t p h7 (hth i h4) h6 ht hq)
            · rw [h7] at h3; exact h3 hq
            · exact hl i h7 hi h4 h6
          · rw [if_neg h4]
            exact Int.le_refl _
      omega
    omega
/-- a short position has a taker -/
theorem mx_taker {X : GX} (h : mx_WF X) {C : Nat → Bool} {p : Nat} (hp : p < 300) (hs : mx_tot X C p < mx_f X p) : ∃ t, t < mx_n X ∧ C t = true ∧ mx_net X t p < 0 := by
  have h1 := (h.pl hp).2.1
  unfold mx_tot at hs
  obtain ⟨k, hk, h2⟩ := mx_sum_neg (f := fun i => if C i = true then mx_net X i p else 0) (n := mx_n X) (by omega)
  by_cases h3 : C k = true
  · have h4 : (if C k = true then mx_net X k p else 0) < 0 := h2
    rw [if_pos h3] at h4
    exact ⟨k, hk, h3, h4⟩
  · have h4 : (if C k = true then mx_net X k p else 0) < 0 := h2
    rw [if_neg h3] at h4
    omega
/-- who stands behind one that is in no good set is in none -/
theorem mx_behind {X : GX} {j i p : Nat} (hj : mx_No X j) (hji : j < i) (ht : mx_t X j = true) (h1 : mx_net X j p < 0) (h2 : mx_net X i p < 0) : mx_No X i := by
  intro T hT
  cases hq : T i with
  | false => rfl
  | true =>
    have := hT.2.2 j i p hji ht h1 h2 hq
    rw [hj T hT] at this
    cases this
/-- the end of either way: a good set, and all that is out is in no good set -/
theorem mx_Sol_of {X : GX} {C : Nat → Bool} (hF : mx_Feas X C) (hC : ∀ i, mx_t X i = true → C i = false → mx_No X i) : mx_Sol X C := by
  refine ⟨hF, fun T hT i hi => ?_⟩
  cases h4 : C i with
  | true => rfl
  | false => rw [hC i (hT.1 i hi) h4 T hT] at hi; cases hi
theorem mx_tot_fit {X : GX} (h : mx_WF X) (C : Nat → Bool) {p : Nat} (hp : p < 300) : -1200000000000000000 ≤ mx_tot X C p ∧ mx_tot X C p ≤ 1200000000000000000 := by
  obtain ⟨h1, h2, h3⟩ := h.pl hp
  have hb := mx_sum_bound (f := fun i => if C i = true then mx_net X i p else 0) 1000000000000000 (mx_n X) (fun j _ => by
    have := mx_net_bound h j p
    by_cases hc : C j = true
    · show -1000000000000000 ≤ (if C j = true then _ else _) ∧ (if C j = true then _ else _) ≤ _
      rw [if_pos hc]; exact this
    · show -1000000000000000 ≤ (if C j = true then _ else _) ∧ (if C j = true then _ else _) ≤ _
      rw [if_neg hc]; omega)
  have hn := h.n
  unfold mx_tot
  omega
end
section
/-! PURE: the queues of takers, the sums over the nets that are in -/
def mx_nx (P : Nat → Prop) (m : Nat) (o : Option Nat) : Prop := match o with
  | none => ∀ k, P k → k ≤ m
  | some k => P k ∧ m < k ∧ ∀ j, P j → m < j → k ≤ j
def mx_pv (P : Nat → Prop) (m : Nat) (o : Option Nat) : Prop := match o with
  | none => ∀ k, P k → m ≤ k
  | some k => P k ∧ k < m ∧ ∀ j, P j → j < m → j ≤ k
def mx_ls (P : Nat → Prop) (o : Option Nat) : Prop := match o with
  | none => ∀ k, ¬ P k
  | some k => P k ∧ ∀ j, P j → j ≤ k
/-- one queue: its last, who is behind, who is ahead -/
def mx_qu (P : Nat → Prop) (lo : Option Nat) (af ah : Nat → Option Nat) : Prop := mx_ls P lo ∧ ∀ m, P m → mx_nx P m (af m) ∧ mx_pv P m (ah m)
def mx_enA (af : Nat → Option Nat) (lo : Option Nat) (n : Nat) : Nat → Option Nat := match lo with
  | none => va_up af n none
  | some k => va_up (va_up af n none) k (some n)
def mx_leL (lo : Option Nat) (afn ahn : Option Nat) : Option Nat := match afn with
  | none => ahn
  | some _ => lo
def mx_leH (ah : Nat → Option Nat) (afn ahn : Option Nat) : Nat → Option Nat := match afn with
  | none => ah
  | some k => va_up ah k ahn
def mx_leA (af : Nat → Option Nat) (afn ahn : Option Nat) : Nat → Option Nat := match ahn with
  | none => af
  | some k => va_up af k afn
theorem mx_qu_congr {P P2 : Nat → Prop} {lo : Option Nat} {af ah af2 ah2 : Nat → Option Nat} (hP : ∀ k, P k ↔ P2 k) (h1 : ∀ k, P k → af2 k = af k) (h2 : ∀ k, P k → ah2 k = ah k) (h : mx_qu P lo af ah) : mx_qu P2 lo af2 ah2 := by
  have e : P2 = P := funext fun k => propext (hP k).symm
  subst e
  refine ⟨h.1, fun m hm => ?_⟩
  rw [h1 m hm, h2 m hm]
  exact h.2 m hm
theorem mx_qu_ins {P P2 : Nat → Prop} {n : Nat} {lo : Option Nat} {af ah : Nat → Option Nat} (hP : ∀ k, P2 k ↔ (P k ∨ k = n)) (hlt : ∀ k, P k → k < n) (h : mx_qu P lo af ah) : mx_qu P2 (some n) (mx_enA af lo n) (va_up ah n lo) := by
  obtain ⟨hl, hq⟩ := h
  cases lo with
  | none =>
    have hno : ∀ k, ¬ P k := hl
    refine ⟨⟨(hP n).mpr (Or.inr rfl), fun j hj => ?_⟩, fun m hm => ?_⟩
    · rcases (hP j).mp hj with h | h
      · exact absurd h (hno j)
      · omega
    · rcases (hP m).mp hm with h | h
      · exact absurd h (hno m)
      · subst h
        rw [show mx_enA af none m m = none from va_up_self _ _ _, va_up_self]
        refine ⟨fun k hk => ?_, fun k hk => ?_⟩ <;>
        · rcases (hP k).mp hk with h | h
          · exact absurd h (hno k)
          · omega
  | some l =>
    obtain ⟨hPl, hmax⟩ : P l ∧ ∀ j, P j → j ≤ l := hl
    have hln := hlt l hPl
    refine ⟨⟨(hP n).mpr (Or.inr rfl), fun j hj => ?_⟩, fun m hm => ?_⟩
    · rcases (hP j).mp hj with h | h
      · have := hlt j h; omega
      · omega
    · by_cases hmn : m = n
      · subst hmn
        have e1 : mx_enA af (some l) m m = none := by
          show va_up (va_up af m none) l (some m) m = none
          rw [va_up_ne _ _ (by omega), va_up_self]
        rw [e1, va_up_self]
        refine ⟨fun k hk => ?_, ⟨(hP l).mpr (Or.inl hPl), hln, fun j hj hjm => ?_⟩⟩
        · rcases (hP k).mp hk with h | h
          · have := hlt k h; omega
          · omega
        · rcases (hP j).mp hj with h | h
          · exact hmax j h
          · omega
      · have hPm : P m := by
          rcases (hP m).mp hm with h | h
          · exact h
          · exact absurd h hmn
        obtain ⟨hx, hv⟩ := hq m hPm
        rw [va_up_ne _ _ hmn]
        have hv2 : mx_pv P2 m (ah m) := by
          cases ha : ah m with
          | none =>
            rw [ha] at hv
            intro k hk
            rcases (hP k).mp hk with h | h
            · exact hv k h
            · have := hlt m hPm; omega
          | some a =>
            rw [ha] at hv
            obtain ⟨v1, v2, v3⟩ := hv
            refine ⟨(hP a).mpr (Or.inl v1), v2, fun j hj hjm => ?_⟩
            rcases (hP j).mp hj with h | h
            · exact v3 j h hjm
            · have := hlt m hPm; omega
        refine ⟨?_, hv2⟩
        by_cases hml : m = l
        · subst hml
          rw [show mx_enA af (some m) n m = some n from va_up_self _ _ _]
          refine ⟨(hP n).mpr (Or.inr rfl), hln, fun j hj hjm => ?_⟩
          rcases (hP j).mp hj with h | h
          · have := hmax j h; omega
          · omega
        · have e1 : mx_enA af (some l) n m = af m := by
            show va_up (va_up af n none) l (some n) m = af m
            rw [va_up_ne _ _ hml, va_up_ne _ _ hmn]
          rw [e1]
          cases ha : af m with
          | none =>
            rw [ha] at hx
            have h1 := hx l hPl
            have h2 := hmax m hPm
            omega
          | some a =>
            rw [ha] at hx
            obtain ⟨v1, v2, v3⟩ := hx
            refine ⟨(hP a).mpr (Or.inl v1), v2, fun j hj hjm => ?_⟩
            rcases (hP j).mp hj with h | h
            · exact v3 j h hjm
            · have := hlt a v1; omega
theorem mx_qu_del {P P2 : Nat → Prop} {n : Nat} {lo : Option Nat} {af ah : Nat → Option Nat} (hP : ∀ k, P2 k ↔ (P k ∧ k ≠ n)) (hn : P n) (h : mx_qu P lo af ah) : mx_qu P2 (mx_leL lo (af n) (ah n)) (mx_leA af (af n) (ah n)) (mx_leH ah (af n) (ah n)) := by
  obtain ⟨hl, hq⟩ := h
  obtain ⟨hxn, hvn⟩ := hq n hn
  refine ⟨?_, fun m hm => ?_⟩
  · cases hb : af n with
    | none =>
      rw [hb] at hxn
      show mx_ls P2 (ah n)
      cases ha : ah n with
      | none =>
        rw [ha] at hvn
        intro k hk
        obtain ⟨k1, k2⟩ := (hP k).mp hk
        have h1 := hxn k k1
        have h2 := hvn k k1
        omega
      | some a =>
        rw [ha] at hvn
        obtain ⟨v1, v2, v3⟩ := hvn
        refine ⟨(hP a).mpr ⟨v1, by omega⟩, fun j hj => ?_⟩
        obtain ⟨k1, k2⟩ := (hP j).mp hj
        have h1 := hxn j k1
        exact v3 j k1 (by omega)
    | some b =>
      rw [hb] at hxn
      obtain ⟨w1, w2, w3⟩ := hxn
      show mx_ls P2 lo
      cases lo with
      | none => exact absurd hn (hl n)
      | some l =>
        obtain ⟨l1, l2⟩ : P l ∧ ∀ j, P j → j ≤ l := hl
        have h1 := l2 b w1
        exact ⟨(hP l).mpr ⟨l1, by omega⟩, fun j hj => l2 j ((hP j).mp hj).1⟩
  · obtain ⟨hPm, hmn⟩ := (hP m).mp hm
    obtain ⟨hx, hv⟩ := hq m hPm
    constructor
    · cases ha : ah n with
      | none =>
        rw [ha] at hvn
        show mx_nx P2 m (af m)
        cases hc : af m with
        | none =>
          rw [hc] at hx
          exact fun k hk => hx k ((hP k).mp hk).1
        | some k =>
          rw [hc] at hx
          obtain ⟨x1, x2, x3⟩ := hx
          have h1 := hvn m hPm
          exact ⟨(hP k).mpr ⟨x1, by omega⟩, x2, fun j hj hjm => x3 j ((hP j).mp hj).1 hjm⟩
      | some a =>
        rw [ha] at hvn
        obtain ⟨v1, v2, v3⟩ := hvn
        show mx_nx P2 m (va_up af a (af n) m)
        by_cases hma : m = a
        · subst hma
          rw [va_up_self]
          cases hb : af n with
          | none =>
            rw [hb] at hxn
            intro k hk
            obtain ⟨k1, k2⟩ := (hP k).mp hk
            have h1 := hxn k k1
            exact v3 k k1 (by omega)
          | some b =>
            rw [hb] at hxn
            obtain ⟨w1, w2, w3⟩ := hxn
            refine ⟨(hP b).mpr ⟨w1, by omega⟩, by omega, fun j hj hjm => ?_⟩
            obtain ⟨k1, k2⟩ := (hP j).mp hj
            rcases Nat.lt_trichotomy j n with h1 | h1 | h1
            · have := v3 j k1 h1; omega
            · exact absurd h1 k2
            · exact w3 j k1 h1
        · rw [va_up_ne _ _ hma]
          cases hc : af m with
          | none =>
            rw [hc] at hx
            exact fun k hk => hx k ((hP k).mp hk).1
          | some k =>
            rw [hc] at hx
            obtain ⟨x1, x2, x3⟩ := hx
            refine ⟨(hP k).mpr ⟨x1, fun he => ?_⟩, x2, fun j hj hjm => x3 j ((hP j).mp hj).1 hjm⟩
            subst he
            have h1 := v3 m hPm x2
            have h2 := x3 a v1 (by omega)
            omega
    · cases hb : af n with
      | none =>
        rw [hb] at hxn
        show mx_pv P2 m (ah m)
        have h1 := hxn m hPm
        cases hc : ah m with
        | none =>
          rw [hc] at hv
          exact fun k hk => hv k ((hP k).mp hk).1
        | some k =>
          rw [hc] at hv
          obtain ⟨x1, x2, x3⟩ := hv
          exact ⟨(hP k).mpr ⟨x1, by omega⟩, x2, fun j hj hjm => x3 j ((hP j).mp hj).1 hjm⟩
      | some b =>
        rw [hb] at hxn
        obtain ⟨w1, w2, w3⟩ := hxn
        show mx_pv P2 m (va_up ah b (ah n) m)
        by_cases hmb : m = b
        · subst hmb
          rw [va_up_self]
          cases ha : ah n with
          | none =>
            rw [ha] at hvn
            intro k hk
            obtain ⟨k1, k2⟩ := (hP k).mp hk
            have h1 := hvn k k1
            exact w3 k k1 (by omega)
          | some a =>
            rw [ha] at hvn
            obtain ⟨v1, v2, v3⟩ := hvn
            refine ⟨(hP a).mpr ⟨v1, by omega⟩, by omega, fun j hj hjm => ?_⟩
            obtain ⟨k1, k2⟩ := (hP j).mp hj
            rcases Nat.lt_trichotomy j n with h1 | h1 | h1
            · exact v3 j k1 h1
            · exact absurd h1 k2
            · have := w3 j k1 h1; omega
        · rw [va_up_ne _ _ hmb]
          cases hc : ah m with
          | none =>
            rw [hc] at hv
            exact fun k hk => hv k ((hP k).mp hk).1
          | some k =>
            rw [hc] at hv
            obtain ⟨x1, x2, x3⟩ := hv
            refine ⟨(hP k).mpr ⟨x1, fun he => ?_⟩, x2, fun j hj hjm => x3 j ((hP j).mp hj).1 hjm⟩
            subst he
            have h1 := w3 m hPm x2
            have h2 := x3 b w1 (by omega)
            omega
/-- the takers of a position among the nets Z -/
def mx_q (X : GX) (Z : Nat → Bool) (p m : Nat) : Prop := m % 16 < mx_m X (m / 16) ∧ mx_p X m = p ∧ mx_a X m < 0 ∧ Z m = true
def mx_QI (X : GX) (Z : Nat → Bool) (ah af la : Nat → Option Nat) : Prop := ∀ p, p < 300 → mx_qu (mx_q X Z p) (la p) af ah
/-- a position with the nets Z -/
def mx_sZ (X : GX) (Z : Nat → Bool) (p : Nat) : Int := mx_v X p + mx_sum (fun m => if m % 16 < mx_m X (m / 16) ∧ mx_p X m = p ∧ Z m = true then mx_a X m else 0) 3200
def mx_SI (X : GX) (Z : Nat → Bool) (su : Nat → Int) : Prop := ∀ p, p < 300 → su p = mx_sZ X Z p
theorem mx_used {X : GX} (h : mx_WF X) {m : Nat} (hm : m % 16 < mx_m X (m / 16)) : m / 16 < mx_n X ∧ m < 3200 ∧ mx_p X m < 300 ∧ mx_a X m ≠ 0 ∧ -1000000000000000 ≤ mx_a X m ∧ mx_a X m ≤ 1000000000000000 := by
  have h1 := h.lt2 hm
  have h2 := h.net hm
  have h3 := h.n
  have e : 16 * (m / 16) + m % 16 = m := Nat.div_add_mod m 16
  rw [e] at h2
  exact ⟨h1, by omega, h2⟩
theorem mx_net_m {X : GX} (h : mx_WF X) {m : Nat} (hm : m % 16 < mx_m X (m / 16)) : mx_net X (m / 16) (mx_p X m) = mx_a X m := by
  have e : 16 * (m / 16) + m % 16 = m := Nat.div_add_mod m 16
  have := mx_net_at h hm (p := mx_p X m) (by rw [e])
  rw [e] at this
  exact this
theorem mx_QI_congr {X : GX} {Z Z2 : Nat → Bool} {ah af la : Nat → Option Nat} (hZ : ∀ m, m % 16 < mx_m X (m / 16) → mx_a X m < 0 → Z m = Z2 m) (h : mx_QI X Z ah af la) : mx_QI X Z2 ah af la := by
  intro p hp
  refine mx_qu_congr (fun k => ?_) (fun _ _ => rfl) (fun _ _ => rfl) (h p hp)
  constructor
  · rintro ⟨h1, h2, h3, h4⟩
    exact ⟨h1, h2, h3, by rw [← hZ k h1 h3]; exact h4⟩
  · rintro ⟨h1, h2, h3, h4⟩
    exact ⟨h1, h2, h3, by rw [hZ k h1 h3]; exact h4⟩
theorem mx_sZ_congr {X : GX} {Z Z2 : Nat → Bool} (hZ : ∀ m, m % 16 < mx_m X (m / 16) → Z m = Z2 m) (p : Nat) : mx_sZ X Z p = mx_sZ X Z2 p := by
  unfold mx_sZ
  rw [mx_sum_congr (g := fun m => if m % 16 < mx_m X (m / 16) ∧ mx_p X m = p ∧ Z2 m = true then mx_a X m else 0) 3200 (fun j _ => ?_)]
  by_cases hu : j % 16 < mx_m X (j / 16)
  · rw [hZ j hu]
  · rw [if_neg (fun h => hu h.1), if_neg (fun h => hu h.1)]
theorem mx_SI_congr {X : GX} {Z Z2 : Nat → Bool} {su : Nat → Int} (hZ : ∀ m, m % 16 < mx_m X (m / 16) → Z m = Z2 m) (h : mx_SI X Z su) : mx_SI X Z2 su := by
  intro p hp
  rw [h p hp, mx_sZ_congr hZ]
theorem mx_QI_enter {X : GX} (hX : mx_WF X) {Z : Nat → Bool} {ah af la : Nat → Option Nat} {n p : Nat} (hn : n % 16 < mx_m X (n / 16)) (hp : mx_p X n = p) (ha : mx_a X n < 0) (hlt : ∀ m, mx_q X Z p m → m < n) (h : mx_QI X Z ah af la) :
    mx_QI X (va_up Z n true) (va_up ah n (la p)) (mx_enA af (la p) n) (va_up la p (some n)) := by
  intro p2 hp2
  by_cases he : p2 = p
  · subst he
    rw [va_up_self]
    refine mx_qu_ins (P := mx_q X Z p2) (fun k => ?_) hlt (h p2 hp2)
    by_cases hk : k = n
    · subst hk
      exact ⟨fun _ => Or.inr rfl, fun _ => ⟨hn, hp, ha, va_up_self _ _ _⟩⟩
    · have e : va_up Z n true k = Z k := va_up_ne _ _ hk
      constructor
      · rintro ⟨h1, h2, h3, h4⟩
        exact Or.inl ⟨h1, h2, h3, by rw [← e]; exact h4⟩
      · rintro (⟨h1, h2, h3, h4⟩ | h1)
        · exact ⟨h1, h2, h3, by rw [e]; exact h4⟩
        · exact absurd h1 hk
  · rw [va_up_ne _ _ he]
    have hpl : p < 300 := by rw [← hp]; exact (mx_used hX hn).2.2.1
    refine mx_qu_congr (P := mx_q X Z p2) (fun k => ?_) (fun k hk => ?_) (fun k hk => ?_) (h p2 hp2)
    · constructor
      · rintro ⟨h1, h2, h3, h4⟩
        refine ⟨h1, h2, h3, ?_⟩
        rw [va_up_ne _ _ (fun hkn => by subst hkn; exact he (by rw [← h2, hp]))]
        exact h4
      · rintro ⟨h1, h2, h3, h4⟩
        refine ⟨h1, h2, h3, ?_⟩
        rw [va_up_ne _ _ (fun hkn => by subst hkn; exact he (by rw [← h2, hp]))] at h4
        exact h4
    · have hkn : k ≠ n := fun hkn => by subst hkn; exact he (by rw [← hk.2.1, hp])
      cases hl : la p with
      | none => exact va_up_ne _ _ hkn
      | some a =>
        have hq := (h p hpl).1
        rw [hl] at hq
        have hka : k ≠ a := fun hka => by subst hka; exact he (by rw [← hk.2.1, hq.1.2.1])
        show va_up (va_up af n none) a (some n) k = af k
        rw [va_up_ne _ _ hka, va_up_ne _ _ hkn]
    · have hkn : k ≠ n := fun hkn => by subst hkn; exact he (by rw [← hk.2.1, hp])
      exact va_up_ne _ _ hkn
theorem mx_QI_leave {X : GX} {Z : Nat → Bool} {ah af la : Nat → Option Nat} {n p : Nat} (hpl : p < 300) (hq : mx_q X Z p n) (h : mx_QI X Z ah af la) :
    mx_QI X (va_up Z n false) (mx_leH ah (af n) (ah n)) (mx_leA af (af n) (ah n)) (va_up la p (mx_leL (la p) (af n) (ah n))) := by
  obtain ⟨hxn, hvn⟩ := (h p hpl).2 n hq
  intro p2 hp2
  by_cases he : p2 = p
  · subst he
    rw [va_up_self]
    refine mx_qu_del (P := mx_q X Z p2) (fun k => ?_) hq (h p2 hp2)
    by_cases hk : k = n
    · subst hk
      refine ⟨fun h1 => ?_, fun h1 => absurd rfl h1.2⟩
      have := h1.2.2.2
      rw [va_up_self] at this
      cases this
    · have e : va_up Z n false k = Z k := va_up_ne _ _ hk
      constructor
      · rintro ⟨h1, h2, h3, h4⟩
        exact ⟨⟨h1, h2, h3, by rw [← e]; exact h4⟩, hk⟩
      · rintro ⟨⟨h1, h2, h3, h4⟩, _⟩
        exact ⟨h1, h2, h3, by rw [e]; exact h4⟩
  · rw [va_up_ne _ _ he]
    have ne : ∀ k a, mx_q X Z p2 k → mx_q X Z p a → k ≠ a := fun k a hk ha hka => by subst hka; exact he (by rw [← hk.2.1, ha.2.1])
    refine mx_qu_congr (P := mx_q X Z p2) (fun k => ?_) (fun k hk => ?_) (fun k hk => ?_) (h p2 hp2)
    · constructor
      · rintro ⟨h1, h2, h3, h4⟩
        refine ⟨h1, h2, h3, ?_⟩
        rw [va_up_ne _ _ (ne k n ⟨h1, h2, h3, h4⟩ hq)]
        exact h4
      · rintro ⟨h1, h2, h3, h4⟩
        refine ⟨h1, h2, h3, ?_⟩
        rw [va_up_ne _ _ (fun hkn => by subst hkn; exact he (by rw [← h2, hq.2.1]))] at h4
        exact h4
    · cases ha : ah n with
      | none => rfl
      | some a =>
        rw [ha] at hvn
        show va_up af a (af n) k = af k
        exact va_up_ne _ _ (ne k a hk hvn.1)
    · cases hb : af n with
      | none => rfl
      | some b =>
        rw [hb] at hxn
        show va_up ah b (ah n) k = ah k
        exact va_up_ne _ _ (ne k b hk hxn.1)
theorem mx_sZ_up {X : GX} {Z : Nat → Bool} {n : Nat} (b : Bool) (hb : Z n = !b) (hn : n % 16 < mx_m X (n / 16)) (hl : n < 3200) (p : Nat) :
    mx_sZ X (va_up Z n b) p = if p = mx_p X n then (if b = true then mx_sZ X Z p + mx_a X n else mx_sZ X Z p - mx_a X n) else mx_sZ X Z p := by
  unfold mx_sZ
  have e : mx_sum (fun m => if m % 16 < mx_m X (m / 16) ∧ mx_p X m = p ∧ va_up Z n b m = true then mx_a X m else 0) 3200
      = mx_sum (va_up (fun m => if m % 16 < mx_m X (m / 16) ∧ mx_p X m = p ∧ Z m = true then mx_a X m else 0) n (if mx_p X n = p ∧ b = true then mx_a X n else 0)) 3200 := by
    refine mx_sum_congr _ (fun j _ => ?_)
    by_cases hj : j = n
    · subst hj
      rw [va_up_self, va_up_self]
      by_cases h2 : mx_p X j = p ∧ b = true
      · rw [if_pos ⟨hn, h2⟩, if_pos h2]
      · rw [if_neg (fun h => h2 h.2), if_neg h2]
    · rw [va_up_ne _ _ hj, va_up_ne _ _ hj]
  rw [e, mx_sum_up, if_pos hl]
  by_cases hp : p = mx_p X n
  · rw [if_pos hp]
    cases b with
    | true =>
      rw [if_neg (fun h => by rw [hb] at h; cases h.2.2), if_pos ⟨hp.symm, rfl⟩, if_pos rfl]
      omega
    | false =>
      rw [if_pos ⟨hn, hp.symm, by rw [hb]; rfl⟩, if_neg (fun h => by cases h.2), if_neg (by decide)]
      omega
  · rw [if_neg hp, if_neg (fun h => hp h.2.1.symm), if_neg (fun h => hp h.1.symm)]
    omega
theorem mx_SI_enter {X : GX} (hX : mx_WF X) {Z : Nat → Bool} {su : Nat → Int} {n p : Nat} (hp : mx_p X n = p) (hn : n % 16 < mx_m X (n / 16)) (hz : Z n = false) (h : mx_SI X Z su) : mx_SI X (va_up Z n true) (va_up su p (su p + mx_a X n)) := by
  intro p2 hp2
  have hu := mx_used hX hn
  rw [mx_sZ_up true (by rw [hz]; rfl) hn hu.2.1]
  by_cases he : p2 = p
  · subst he
    rw [va_up_self, if_pos hp.symm, if_pos rfl, h p2 hp2]
  · rw [va_up_ne _ _ he, if_neg (fun q => he (by rw [q, hp])), h p2 hp2]
theorem mx_SI_leave {X : GX} (hX : mx_WF X) {Z : Nat → Bool} {su : Nat → Int} {n p : Nat} (hp : mx_p X n = p) (hn : n % 16 < mx_m X (n / 16)) (hz : Z n = true) (h : mx_SI X Z su) : mx_SI X (va_up Z n false) (va_up su p (su p - mx_a X n)) := by
  intro p2 hp2
  have hu := mx_used hX hn
  rw [mx_sZ_up false (by rw [hz]; rfl) hn hu.2.1]
  by_cases he : p2 = p
  · subst he
    rw [va_up_self, if_pos hp.symm, if_neg (by decide), h p2 hp2]
  · rw [va_up_ne _ _ he, if_neg (fun q => he (by rw [q, hp])), h p2 hp2]
theorem mx_sZ_fit {X : GX} (hX : mx_WF X) (Z : Nat → Bool) {p : Nat} (hp : p < 300) : mx_fit (mx_sZ X Z p) := by
  obtain ⟨h1, h2, h3⟩ := hX.pl hp
  have hb := mx_sum_bound (f := fun m => if m % 16 < mx_m X (m / 16) ∧ mx_p X m = p ∧ Z m = true then mx_a X m else 0) 1000000000000000 3200 (fun j _ => by
    by_cases hc : j % 16 < mx_m X (j / 16) ∧ mx_p X j = p ∧ Z j = true
    · have := (mx_used hX hc.1).2.2.2.2
      show -1000000000000000 ≤ (if _ then _ else _) ∧ (if _ then _ else _) ≤ _
      rw [if_pos hc]; exact this
    · show -1000000000000000 ≤ (if _ then _ else _) ∧ (if _ then _ else _) ≤ _
      rw [if_neg hc]; omega)
  unfold mx_fit mx_sZ
  omega
/-- at rest: the nets of the items that are in -/
def mx_Zi (inn : Nat → Bool) : Nat → Bool := fun m => inn (m / 16)
theorem mx_sZ_tot {X : GX} (hX : mx_WF X) (inn : Nat → Bool) (p : Nat) : mx_sZ X (mx_Zi inn) p = mx_tot X inn p := by
  unfold mx_sZ mx_tot
  have e1 : mx_sum (fun m => if m % 16 < mx_m X (m / 16) ∧ mx_p X m = p ∧ mx_Zi inn m = true then mx_a X m else 0) 3200 = mx_sum (fun i => if inn i = true then mx_net X i p else 0) 200 := by
    rw [show (3200 : Nat) = 16 * 200 from rfl, mx_sum_block]
    refine mx_sum_congr _ (fun i _ => ?_)
    have e2 : mx_sum (fun k => if (16 * i + k) % 16 < mx_m X ((16 * i + k) / 16) ∧ mx_p X (16 * i + k) = p ∧ mx_Zi inn (16 * i + k) = true then mx_a X (16 * i + k) else 0) 16
        = mx_sum (fun k => if k < mx_m X i ∧ mx_p X (16 * i + k) = p ∧ inn i = true then mx_a X (16 * i + k) else 0) 16 := by
      refine mx_sum_congr _ (fun k hk => ?_)
      unfold mx_Zi
      rw [show (16 * i + k) % 16 = k by omega, show (16 * i + k) / 16 = i by omega]
    rw [e2]
    by_cases hi : inn i = true
    · rw [if_pos hi, mx_sum_ext (hX.m i) (fun j h1 h2 => if_neg (fun h => by have := h.1; omega))]
      refine mx_sum_congr _ (fun k hk => ?_)
      by_cases hp : mx_p X (16 * i + k) = p
      · rw [if_pos ⟨hk, hp, hi⟩, if_pos hp]
      · rw [if_neg (fun h => hp h.2.1), if_neg hp]
    · rw [if_neg hi]
      exact mx_sum_zero _ (fun k _ => if_neg (fun h => hi h.2.2))
  rw [e1, mx_sum_ext hX.n (fun j h1 h2 => ?_)]
  have e3 : mx_net X j p = 0 := mx_net_no (fun k hk => by rw [(hX.out h1).2] at hk; omega)
  rw [e3]
  split <;> rfl
end
section
/-! PURE: the way of the stacks -/
def mx_pp (L : List Nat) (v : Nat) : List Nat := if v ∈ L then L else L ++ [v]
theorem mx_pp_mem {L : List Nat} {v j : Nat} : j ∈ mx_pp L v ↔ (j ∈ L ∨ j = v) := by
  unfold mx_pp
  by_cases h : v ∈ L
  · rw [if_pos h]
    constructor
    · exact Or.inl
    · rintro (h1 | h1)
      · exact h1
      · rw [h1]; exact h
  · rw [if_neg h]
    simp
theorem mx_pigeon : ∀ (c : Nat) (L : List Nat), L.Nodup → (∀ v, v ∈ L → v < c) → L.length ≤ c := by
  intro c
  induction c with
  | zero =>
    intro L _ h
    cases L with
    | nil => exact Nat.le_refl _
    | cons a l => exact absurd (h a List.mem_cons_self) (by omega)
  | succ c ih =>
    intro L hn h
    by_cases hc : c ∈ L
    · have h1 := ih (L.erase c) (hn.erase c) (fun v hv => by
        have h2 := (List.Nodup.mem_erase_iff hn).mp hv
        have h3 := h v h2.2
        have h4 := h2.1
        omega)
      rw [List.length_erase_of_mem hc] at h1
      omega
    · have h1 := ih L hn (fun v hv => by
        have h3 := h v hv
        have h4 : v ≠ c := fun e => hc (e ▸ hv)
        omega)
      omega
/-- a pile: no number twice, all below its room, the row holds them -/
def mx_pOk (cap : Nat) (row : Nat → Int32) (L : List Nat) : Prop := L.Nodup ∧ (∀ v, v ∈ L → v < cap) ∧ ∀ j v, L[j]? = some v → row j = nI v
theorem mx_pOk.len {cap : Nat} {row : Nat → Int32} {L : List Nat} (h : mx_pOk cap row L) : L.length ≤ cap := mx_pigeon cap L h.1 h.2.1
theorem mx_pOk.nil {cap : Nat} {row : Nat → Int32} : mx_pOk cap row [] := ⟨List.nodup_nil, fun v h => (by cases h), fun j v h => (by simp at h)⟩
theorem mx_pOk.room {cap : Nat} {row : Nat → Int32} {L : List Nat} (h : mx_pOk cap row L) {v : Nat} (hv : v < cap) (hn : v ∉ L) : L.length < cap := by
  have h1 : (v :: L).Nodup := List.nodup_cons.mpr ⟨hn, h.1⟩
  have h2 := mx_pigeon cap (v :: L) h1 (fun w hw => by
    rcases List.mem_cons.mp hw with e | e
    · rw [e]; exact hv
    · exact h.2.1 w e)
  rw [List.length_cons] at h2
  omega
theorem mx_pOk.push {cap : Nat} {row : Nat → Int32} {L : List Nat} (h : mx_pOk cap row L) {v : Nat} (hv : v < cap) (hn : v ∉ L) : mx_pOk cap (upd row L.length (nI v)) (L ++ [v]) := by
  refine ⟨?_, fun w hw => ?_, fun j w hj => ?_⟩
  · rw [List.nodup_append]
    refine ⟨h.1, by simp, fun a ha b hb => ?_⟩
    rw [List.mem_singleton.mp hb]
    exact fun e => hn (e ▸ ha)
  · rcases List.mem_append.mp hw with e | e
    · exact h.2.1 w e
    · rw [List.mem_singleton.mp e]; exact hv
  · by_cases hjl : j < L.length
    · rw [List.getElem?_append_left hjl] at hj
      rw [pk_un (by omega)]
      exact h.2.2 j w hj
    · rw [List.getElem?_append_right (by omega)] at hj
      have hz : j - L.length < 1 := (List.getElem?_eq_some_iff.mp hj).1
      have e : j = L.length := by omega
      subst e
      rw [show L.length - L.length = 0 by omega] at hj
      cases hj
      exact pk_us
theorem mx_pOk.pop {cap : Nat} {row : Nat → Int32} {L : List Nat} {v : Nat} (h : mx_pOk cap row (L ++ [v])) : mx_pOk cap row L ∧ row L.length = nI v ∧ v < cap ∧ v ∉ L ∧ L.length < cap := by
  have h1 := h.1
  rw [List.nodup_append] at h1
  have hl := h.len
  simp at hl
  refine ⟨⟨h1.1, fun w hw => h.2.1 w (List.mem_append_left _ hw), fun j w hj => ?_⟩, h.2.2 L.length v (by simp), h.2.1 v (by simp), fun hv => h1.2.2 v hv v (by simp) rfl, by omega⟩
  refine h.2.2 j w ?_
  rw [List.getElem?_append_left (List.getElem?_eq_some_iff.mp hj).1]
  exact hj
theorem mx_has_push {L : List Nat} {v : Nat} : (va_up (fun w => decide (w ∈ L)) v true) = fun w => decide (w ∈ L ++ [v]) := by
  funext w
  by_cases h : w = v
  · subst h
    rw [va_up_self]
    simp
  · rw [va_up_ne _ _ h]
    simp [h]
theorem mx_has_pop {L : List Nat} {v : Nat} (hv : v ∉ L) : (va_up (fun w => decide (w ∈ L ++ [v])) v false) = fun w => decide (w ∈ L) := by
  funext w
  by_cases h : w = v
  · subst h
    rw [va_up_self]
    simp [hv]
  · rw [va_up_ne _ _ h]
    simp [h]
/-- between two drops -/
def mx_MI (X : GX) (inn : Nat → Bool) (ah af la : Nat → Option Nat) (su : Nat → Int) (S L : List Nat) (E : Nat → Prop) : Prop :=
  (∀ i, inn i = true → mx_t X i = true) ∧ mx_QI X (mx_Zi inn) ah af la ∧ mx_SI X (mx_Zi inn) su ∧
  (∀ i, mx_t X i = true → inn i = false → mx_No X i) ∧ (∀ i, i ∈ L → mx_No X i) ∧
  (∀ j i p, j < i → mx_t X j = true → inn j = false → mx_net X j p < 0 → mx_net X i p < 0 → inn i = true → i ∈ L) ∧
  (∀ p, p < 300 → su p < mx_f X p → p ∈ S ∨ E p)
/-- within the drop of item i, ahead of its net n -/
def mx_Zd (inn : Nat → Bool) (i n : Nat) : Nat → Bool := fun m => inn (m / 16) || (decide (m / 16 = i) && decide (n ≤ m))
def mx_DI (X : GX) (i n : Nat) (inn : Nat → Bool) (ah af la : Nat → Option Nat) (su : Nat → Int) (S L : List Nat) (E : Nat → Prop) : Prop :=
  (∀ i, inn i = true → mx_t X i = true) ∧ inn i = false ∧ mx_t X i = true ∧ mx_QI X (mx_Zd inn i n) ah af la ∧ mx_SI X (mx_Zd inn i n) su ∧
  (∀ i, mx_t X i = true → inn i = false → mx_No X i) ∧ (∀ i, i ∈ L → mx_No X i) ∧
  (∀ j i2 p, j ≠ i → j < i2 → mx_t X j = true → inn j = false → mx_net X j p < 0 → mx_net X i2 p < 0 → inn i2 = true → i2 ∈ L) ∧
  (∀ m i2, 16 * i ≤ m → m < n → mx_a X m < 0 → i < i2 → mx_net X i2 (mx_p X m) < 0 → inn i2 = true → i2 ∈ L) ∧
  (∀ p, p < 300 → su p < mx_f X p → p ∈ S ∨ E p)
theorem mx_DI_start {X : GX} {i : Nat} {inn : Nat → Bool} {ah af la : Nat → Option Nat} {su : Nat → Int} {S L : List Nat} {E : Nat → Prop} (h : mx_MI X inn ah af la su S (L ++ [i]) E) (hi : inn i = true) : mx_DI X i (16 * i) (va_up inn i false) ah af la su S L E := by
  obtain ⟨h1, h2, h3, h4, h5, h6, h7⟩ := h
  have hsub : ∀ j, va_up inn i false j = true → inn j = true ∧ j ≠ i := by
    intro j hj
    by_cases e : j = i
    · subst e; rw [va_up_self] at hj; cases hj
    · rw [va_up_ne _ _ e] at hj; exact ⟨hj, e⟩
  have hz : ∀ m, mx_Zi inn m = mx_Zd (va_up inn i false) i (16 * i) m := by
    intro m
    unfold mx_Zi mx_Zd
    by_cases e : m / 16 = i
    · have e2 : 16 * i ≤ m := by omega
      rw [e, hi]
      simp [e2]
    · rw [va_up_ne _ _ e]
      simp [e]
  refine ⟨fun j hj => h1 j (hsub j hj).1, va_up_self _ _ _, h1 i hi, mx_QI_congr (fun m _ _ => hz m) h2, mx_SI_congr (fun m _ => hz m) h3, fun j ht hj => ?_, fun j hj => h5 j (List.mem_append_left _ hj), fun j i2 p hne hji ht hj n1 n2 hi2 => ?_, fun m i2 a b => by omega, h7⟩
  · by_cases e : j = i
    · subst e; exact h5 j (by simp)
    · rw [va_up_ne _ _ e] at hj; exact h4 j ht hj
  · rw [va_up_ne _ _ hne] at hj
    obtain ⟨g1, g2⟩ := hsub i2 hi2
    have := h6 j i2 p hji ht hj n1 n2 g1
    rcases List.mem_append.mp this with q | q
    · exact q
    · exact absurd (List.mem_singleton.mp q) g2
theorem mx_MI_skip {X : GX} {i : Nat} {inn : Nat → Bool} {ah af la : Nat → Option Nat} {su : Nat → Int} {S L : List Nat} {E : Nat → Prop} (h : mx_MI X inn ah af la su S (L ++ [i]) E) (hi : inn i = false) : mx_MI X inn ah af la su S L E := by
  obtain ⟨h1, h2, h3, h4, h5, h6, h7⟩ := h
  refine ⟨h1, h2, h3, h4, fun j hj => h5 j (List.mem_append_left _ hj), fun j i2 p hji ht hj n1 n2 hi2 => ?_, h7⟩
  rcases List.mem_append.mp (h6 j i2 p hji ht hj n1 n2 hi2) with q | q
  · exact q
  · rw [List.mem_singleton.mp q, hi] at hi2; cases hi2
theorem mx_MI_push {X : GX} {t : Nat} {inn : Nat → Bool} {ah af la : Nat → Option Nat} {su : Nat → Int} {S L : List Nat} {E : Nat → Prop} (h : mx_MI X inn ah af la su S L E) (ht : mx_No X t) : mx_MI X inn ah af la su S (mx_pp L t) E := by
  obtain ⟨h1, h2, h3, h4, h5, h6, h7⟩ := h
  refine ⟨h1, h2, h3, h4, fun j hj => ?_, fun j i2 p hji ht hj n1 n2 hi2 => mx_pp_mem.mpr (Or.inl (h6 j i2 p hji ht hj n1 n2 hi2)), h7⟩
  rcases mx_pp_mem.mp hj with q | q
  · exact h5 j q
  · rw [q]; exact ht
theorem mx_DI_end {X : GX} (hX : mx_WF X) {i n : Nat} {inn : Nat → Bool} {ah af la : Nat → Option Nat} {su : Nat → Int} {S L : List Nat} {E : Nat → Prop} (hn : n = 16 * i + mx_m X i) (h : mx_DI X i n inn ah af la su S L E) : mx_MI X inn ah af la su S L E := by
  obtain ⟨h1, h2, h3, h4, h5, h6, h7, h8, h9, h10⟩ := h
  have hz : ∀ m, m % 16 < mx_m X (m / 16) → mx_Zd inn i n m = mx_Zi inn m := by
    intro m hm
    unfold mx_Zi mx_Zd
    by_cases e : m / 16 = i
    · rw [e] at hm
      have e2 : ¬ n ≤ m := by omega
      simp [e2]
    · simp [e]
  refine ⟨h1, mx_QI_congr (fun m hm _ => hz m hm) h4, mx_SI_congr hz h5, h6, h7, fun j i2 p hji ht hj n1 n2 hi2 => ?_, h10⟩
  by_cases e : j = i
  · subst e
    obtain ⟨k, hk, hp, ha⟩ := mx_net_neg hX n1
    refine h9 (16 * j + k) i2 (by omega) (by omega) ha hji ?_ hi2
    rw [hp]; exact n2
  · exact h8 j i2 p e hji ht hj n1 n2 hi2
theorem mx_Zd_step {inn : Nat → Bool} {i n : Nat} (hi : inn i = false) (m : Nat) : va_up (mx_Zd inn i n) n false m = (if m = n then false else mx_Zd inn i (n + 1) m) := by
  by_cases e : m = n
  · subst e; rw [va_up_self, if_pos rfl]
  · rw [va_up_ne _ _ e, if_neg e]
    unfold mx_Zd
    have : decide (n ≤ m) = decide (n + 1 ≤ m) := by
      by_cases h : n ≤ m
      · have h2 : n + 1 ≤ m := by omega
        simp [h, h2]
      · have h2 : ¬ n + 1 ≤ m := by omega
        simp [h, h2]
    rw [this]
theorem mx_Zd_n {inn : Nat → Bool} {i n : Nat} (hi : inn i = false) (hn : n / 16 = i) : mx_Zd inn i (n + 1) n = false := by
  unfold mx_Zd
  have h2 : ¬ n + 1 ≤ n := by omega
  simp [hn, hi, h2]
theorem mx_Zd_at {inn : Nat → Bool} {i n : Nat} (hn : n / 16 = i) : mx_Zd inn i n n = true := by
  unfold mx_Zd
  simp [hn]
theorem mx_Zd_eq {inn : Nat → Bool} {i n : Nat} (hi : inn i = false) (hn : n / 16 = i) (m : Nat) : va_up (mx_Zd inn i n) n false m = mx_Zd inn i (n + 1) m := by
  rw [mx_Zd_step hi]
  by_cases e : m = n
  · subst e; rw [if_pos rfl, mx_Zd_n hi hn]
  · rw [if_neg e]
theorem mx_DI_pos {X : GX} (hX : mx_WF X) {i n p : Nat} {inn : Nat → Bool} {ah af la : Nat → Option Nat} {su : Nat → Int} {S S2 L : List Nat} {E : Nat → Prop} (hn : n / 16 = i) (hu : n % 16 < mx_m X i) (hp : mx_p X n = p) (ha : 0 < mx_a X n) (h : mx_DI X i n inn ah af la su S L E)
    (hS : ∀ j, j ∈ S → j ∈ S2) (hS2 : su p - mx_a X n < mx_f X p → p ∈ S2) : mx_DI X i (n + 1) inn ah af la (va_up su p (su p - mx_a X n)) S2 L E := by
  obtain ⟨h1, h2, h3, h4, h5, h6, h7, h8, h9, h10⟩ := h
  have hu2 : n % 16 < mx_m X (n / 16) := by rw [hn]; exact hu
  have hz := mx_Zd_eq h2 hn
  refine ⟨h1, h2, h3, mx_QI_congr (fun m _ hm => ?_) h4, mx_SI_congr (fun m _ => hz m) (mx_SI_leave hX hp hu2 (mx_Zd_at hn) h5), h6, h7, h8, fun m i2 a b c d e f => ?_, fun p2 hp2 hs => ?_⟩
  · have e : m ≠ n := fun e => by subst e; omega
    rw [← hz m, va_up_ne _ _ e]
  · have e2 : m ≠ n := fun e => by subst e; omega
    exact h9 m i2 a (by omega) c d e f
  · by_cases e : p2 = p
    · subst e
      rw [va_up_self] at hs
      exact Or.inl (hS2 hs)
    · rw [va_up_ne _ _ e] at hs
      rcases h10 p2 hp2 hs with q | q
      · exact Or.inl (hS _ q)
      · exact Or.inr q
theorem mx_DI_beh {X : GX} (hX : mx_WF X) {i n m p : Nat} {inn : Nat → Bool} {ah af la : Nat → Option Nat} {su : Nat → Int} {S L : List Nat} {E : Nat → Prop} (hn : n / 16 = i) (hu : n % 16 < mx_m X i) (hp : mx_p X n = p) (ha : mx_a X n < 0) (h : mx_DI X i n inn ah af la su S L E)
    (hm : mx_q X (mx_Zd inn i n) p m) (hnm : n < m) : mx_No X (m / 16) ∧ m / 16 < 200 ∧ m < 3200 := by
  obtain ⟨h1, h2, h3, h4, h5, h6, h7, h8, h9, h10⟩ := h
  obtain ⟨m1, m2, m3, m4⟩ := hm
  have hu2 : n % 16 < mx_m X (n / 16) := by rw [hn]; exact hu
  have e1 := mx_net_m hX hu2
  have e2 := mx_net_m hX m1
  have hN := (mx_used hX m1)
  have hl := hX.n
  rw [hp, hn] at e1
  rw [m2] at e2
  refine ⟨mx_behind (h6 i h3 h2) ?_ h3 (p := p) (by rw [e1]; exact ha) (by rw [e2]; exact m3), by omega, hN.2.1⟩
  have hle : i ≤ m / 16 := by omega
  have hne : i ≠ m / 16 := by
    intro e
    have w1 : 16 * (m / 16) + m % 16 = m := Nat.div_add_mod m 16
    have w2 : 16 * (n / 16) + n % 16 = n := Nat.div_add_mod n 16
    rw [hn] at w2
    rw [← e] at w1 m1
    have := hX.one (i := i) hu m1 (by rw [w1, w2, hp, m2])
    omega
  omega
theorem mx_DI_neg {X : GX} (hX : mx_WF X) {i n p : Nat} {inn : Nat → Bool} {ah af la : Nat → Option Nat} {su : Nat → Int} {S L L2 : List Nat} {E : Nat → Prop} (hn : n / 16 = i) (hu : n % 16 < mx_m X i) (hp : mx_p X n = p) (ha : mx_a X n < 0) (h : mx_DI X i n inn ah af la su S L E)
    (hL : ∀ j, j ∈ L → j ∈ L2) (hL2 : ∀ j, j ∈ L2 → mx_No X j) (hall : ∀ m, mx_q X (mx_Zd inn i n) p m → n < m → m / 16 ∈ L2) :
    mx_DI X i (n + 1) inn (mx_leH ah (af n) (ah n)) (mx_leA af (af n) (ah n)) (va_up la p (mx_leL (la p) (af n) (ah n))) (va_up su p (su p - mx_a X n)) S L2 E := by
  obtain ⟨h1, h2, h3, h4, h5, h6, h7, h8, h9, h10⟩ := h
  have hu2 : n % 16 < mx_m X (n / 16) := by rw [hn]; exact hu
  have hz := mx_Zd_eq h2 hn
  have hpl : p < 300 := by rw [← hp]; exact (mx_used hX hu2).2.2.1
  refine ⟨h1, h2, h3, mx_QI_congr (fun m _ _ => hz m) (mx_QI_leave hpl ⟨hu2, hp, ha, mx_Zd_at hn⟩ h4), mx_SI_congr (fun m _ => hz m) (mx_SI_leave hX hp hu2 (mx_Zd_at hn) h5), h6, hL2, fun j i2 q a b c d e f g => hL _ (h8 j i2 q a b c d e f g), fun m i2 a b c d e f => ?_, fun p2 hp2 hs => ?_⟩
  · by_cases e2 : m = n
    · subst e2
      rw [hp] at e
      obtain ⟨k, hk, hpk, hak⟩ := mx_net_neg hX e
      have hm16 := hX.m i2
      have d1 : (16 * i2 + k) / 16 = i2 := by omega
      have d2 : (16 * i2 + k) % 16 = k := by omega
      have := hall (16 * i2 + k) ⟨by rw [d1, d2]; exact hk, hpk, hak, by unfold mx_Zd; rw [d1, f]; rfl⟩ (by omega)
      rw [d1] at this
      exact this
    · exact hL _ (h9 m i2 a (by omega) c d e f)
  · by_cases e : p2 = p
    · subst e
      rw [va_up_self] at hs
      exact h10 p2 hp2 (by omega)
    · rw [va_up_ne _ _ e] at hs
      exact h10 p2 hp2 hs
theorem mx_MI_sol {X : GX} (hX : mx_WF X) {inn : Nat → Bool} {ah af la : Nat → Option Nat} {su : Nat → Int} (h : mx_MI X inn ah af la su [] [] (fun _ => False)) : mx_Sol X inn ∧ ∀ p, p < 300 → su p = mx_tot X inn p := by
  obtain ⟨h1, h2, h3, h4, h5, h6, h7⟩ := h
  have hs : ∀ p, p < 300 → su p = mx_tot X inn p := fun p hp => by rw [h3 p hp, mx_sZ_tot hX]
  refine ⟨mx_Sol_of ⟨h1, fun p hp => ?_, fun j i p hji ht n1 n2 hi => ?_⟩ h4, hs⟩
  · rw [← hs p hp]
    apply Classical.byContradiction
    intro hc
    rcases h7 p hp (by omega) with q | q
    · cases q
    · exact q
  · cases hj : inn j with
    | true => rfl
    | false => exact absurd (h6 j i p hji ht hj n1 n2 hi) (by simp)
/-- a short position: its last taker is there, and is in no good set -/
theorem mx_MI_last {X : GX} (hX : mx_WF X) {inn : Nat → Bool} {ah af la : Nat → Option Nat} {su : Nat → Int} {S L : List Nat} {E : Nat → Prop} {p : Nat} (hp : p < 300) (h : mx_MI X inn ah af la su S L E) (hs : su p < mx_f X p) :
    ∃ m, la p = some m ∧ m < 3200 ∧ m / 16 < 200 ∧ mx_No X (m / 16) ∧ inn (m / 16) = true := by
  obtain ⟨h1, h2, h3, h4, h5, h6, h7⟩ := h
  rw [h3 p hp, mx_sZ_tot hX] at hs
  obtain ⟨t, ht, hc, hn⟩ := mx_taker hX hp hs
  obtain ⟨k, hk, hpk, hak⟩ := mx_net_neg hX hn
  have hm16 := hX.m t
  have d1 : (16 * t + k) / 16 = t := by omega
  have d2 : (16 * t + k) % 16 = k := by omega
  have hq : mx_q X (mx_Zi inn) p (16 * t + k) := ⟨by rw [d1, d2]; exact hk, hpk, hak, by unfold mx_Zi; rw [d1]; exact hc⟩
  have hl := (h2 p hp).1
  cases hm : la p with
  | none => rw [hm] at hl; exact absurd hq (hl _)
  | some m =>
    rw [hm] at hl
    obtain ⟨⟨m1, m2, m3, m4⟩, hmax⟩ := hl
    have hu := mx_used hX m1
    have hN := hX.n
    have e2 := mx_net_m hX m1
    rw [m2] at e2
    refine ⟨m, rfl, hu.2.1, by omega, mx_last_no hp h4 hs (by rw [e2]; exact m3) (fun i hi hin hci hneg => ?_) h1, m4⟩
    obtain ⟨k2, hk2, hpk2, hak2⟩ := mx_net_neg hX hneg
    have hm162 := hX.m i
    have d3 : (16 * i + k2) / 16 = i := by omega
    have d4 : (16 * i + k2) % 16 = k2 := by omega
    have := hmax (16 * i + k2) ⟨by rw [d3, d4]; exact hk2, hpk2, hak2, by unfold mx_Zi; rw [d3]; exact hci⟩
    omega
/-! the beginning: nets enter by their number -/
def mx_Zb (X : GX) (n : Nat) : Nat → Bool := fun m => mx_t X (m / 16) && decide (m < n)
theorem mx_QI_0 {X : GX} {ah af la : Nat → Option Nat} (h : ∀ p, p < 300 → la p = none) : mx_QI X (fun _ => false) ah af la := by
  intro p hp
  rw [h p hp]
  exact ⟨fun k hk => (by cases hk.2.2.2), fun m hm => (by cases hm.2.2.2)⟩
theorem mx_SI_0 {X : GX} {su : Nat → Int} (h : ∀ p, p < 300 → su p = mx_v X p) : mx_SI X (fun _ => false) su := by
  intro p hp
  unfold mx_sZ
  rw [h p hp, mx_sum_zero 3200 (fun j _ => if_neg (fun h => by cases h.2.2))]
  omega
theorem mx_Zb_0 (X : GX) : ∀ m, (fun _ : Nat => false) m = mx_Zb X (16 * 0) m := by
  intro m
  unfold mx_Zb
  simp
theorem mx_Zb_up {X : GX} {n : Nat} (ht : mx_t X (n / 16) = true) (m : Nat) : va_up (mx_Zb X n) n true m = mx_Zb X (n + 1) m := by
  unfold mx_Zb
  by_cases e : m = n
  · subst e
    rw [va_up_self, ht]
    simp
  · rw [va_up_ne _ _ e]
    have : decide (m < n) = decide (m < n + 1) := by
      by_cases h : m < n
      · have h2 : m < n + 1 := by omega
        simp [h, h2]
      · have h2 : ¬ m < n + 1 := by omega
        simp [h, h2]
    rw [this]
theorem mx_Zb_n {X : GX} (n : Nat) : mx_Zb X n n = false := by
  unfold mx_Zb
  simp
theorem mx_Zb_lt {X : GX} {n p m : Nat} (h : mx_q X (mx_Zb X n) p m) : m < n := by
  have := h.2.2.2
  unfold mx_Zb at this
  simp at this
  exact this.2
theorem mx_Zb_next {X : GX} {i n : Nat} (h1 : 16 * i ≤ n) (h2 : n = 16 * i + mx_m X i ∨ mx_t X i = false) (h3 : n ≤ 16 * i + mx_m X i) (hm : mx_m X i ≤ 16) (m : Nat) (hu : m % 16 < mx_m X (m / 16)) : mx_Zb X n m = mx_Zb X (16 * (i + 1)) m := by
  unfold mx_Zb
  by_cases e : m / 16 = i
  · rw [e] at hu ⊢
    rcases h2 with h2 | h2
    · have a : m < n := by omega
      have b : m < 16 * (i + 1) := by omega
      simp [a, b]
    · rw [h2]; rfl
  · have : decide (m < n) = decide (m < 16 * (i + 1)) := by
      by_cases h : m < n
      · have h2 : m < 16 * (i + 1) := by omega
        simp [h, h2]
      · have h2 : ¬ m < 16 * (i + 1) := by omega
        simp [h, h2]
    rw [this]
theorem mx_Zb_end {X : GX} (hX : mx_WF X) (m : Nat) (hu : m % 16 < mx_m X (m / 16)) : mx_Zb X (16 * mx_n X) m = mx_Zi (mx_t X) m := by
  unfold mx_Zb mx_Zi
  have := (mx_used hX hu).1
  have b : m < 16 * mx_n X := by omega
  simp [b]
theorem mx_MI_begin {X : GX} (hX : mx_WF X) {ah af la : Nat → Option Nat} {su : Nat → Int} {S : List Nat} (hq : mx_QI X (mx_Zb X (16 * mx_n X)) ah af la) (hs : mx_SI X (mx_Zb X (16 * mx_n X)) su) (hS : ∀ p, p < 300 → su p < mx_f X p → p ∈ S) : mx_MI X (mx_t X) ah af la su S [] (fun _ => False) := by
  refine ⟨fun i h => h, mx_QI_congr (fun m hm _ => mx_Zb_end hX m hm) hq, mx_SI_congr (mx_Zb_end hX) hs, fun i h1 h2 => ?_, fun i h => (by cases h), fun j i p hji ht hj => ?_, fun p hp h => Or.inl (hS p hp h)⟩
  · rw [h1] at h2; cases h2
  · rw [ht] at hj; cases hj
end
section
/-! ROWS with numbers in their forms: nI of a Nat, mx_b of a Bool, mx_o of an Option, mx_l of an Int; and the worlds -/
theorem mx_l_fit (x : Int64) : mx_fit x.toInt := ⟨by have := x.le_toInt; omega, by have := x.toInt_lt; omega⟩
section GDR
variable {p : Program} {l : Launch} {e : Env} {R : Room} {s : State} {m : MethodId} {args : Array Value} {below : List Frame} {meth : Method} {c : Code} {H : Heap} {locs : List Loc} {cells slots : Nat} {Q : State → Prop}
variable {cc : ByteArray} {pc : Nat} {ls : Array Slot} {rest : List Value}
theorem gd_iadd (hx : p.tables.exec = Jvm.exec) (hb : c.code = cc) {a b : Nat} (hdg : decode cc pc = .ok (.iadd, 1)) (k : W p l e R s m args below meth c H locs cells slots Q (F0 m (pc + 1) ls (.int (nI (a + b)) :: rest))) : W p l e R s m args below meth c H locs cells slots Q (F0 m pc ls (.int (nI b) :: .int (nI a) :: rest)) := by
  refine lv_iadd hx hb hdg ?_
  rw [nI_add]; exact k
theorem gd_isub (hx : p.tables.exec = Jvm.exec) (hb : c.code = cc) {a b : Nat} (hdg : decode cc pc = .ok (.isub, 1)) (h : b ≤ a) (k : W p l e R s m args below meth c H locs cells slots Q (F0 m (pc + 1) ls (.int (nI (a - b)) :: rest))) : W p l e R s m args below meth c H locs cells slots Q (F0 m pc ls (.int (nI b) :: .int (nI a) :: rest)) := by
  refine lv_isub hx hb hdg ?_
  rw [pk_sub h]; exact k
theorem gd_imul (hx : p.tables.exec = Jvm.exec) (hb : c.code = cc) {a b : Nat} (hdg : decode cc pc = .ok (.imul, 1)) (k : W p l e R s m args below meth c H locs cells slots Q (F0 m (pc + 1) ls (.int (nI (a * b)) :: rest))) : W p l e R s m args below meth c H locs cells slots Q (F0 m pc ls (.int (nI b) :: .int (nI a) :: rest)) := by
  refine lv_imul hx hb hdg ?_
  rw [pk_mul]; exact k
theorem gd_idiv (hx : p.tables.exec = Jvm.exec) (hb : c.code = cc) {a : Nat} (hdg : decode cc pc = .ok (.idiv, 1)) (h : a < 2 ^ 31) (k : W p l e R s m args below meth c H locs cells slots Q (F0 m (pc + 1) ls (.int (nI (a / 16)) :: rest))) : W p l e R s m args below meth c H locs cells slots Q (F0 m pc ls (.int (nI 16) :: .int (nI a) :: rest)) := by
  refine lv_idiv hx hb hdg (by decide) ?_
  rw [pk_div h (by decide) (by decide)]; exact k
theorem gd_ladd (hx : p.tables.exec = Jvm.exec) (hb : c.code = cc) {a b : Int} (hdg : decode cc pc = .ok (.ladd, 1)) (k : W p l e R s m args below meth c H locs cells slots Q (F0 m (pc + 1) ls (.long (mx_l (a + b)) :: rest))) : W p l e R s m args below meth c H locs cells slots Q (F0 m pc ls (.long (mx_l b) :: .long (mx_l a) :: rest)) := by
  refine lv_ladd hx hb hdg ?_
  rw [mx_l_add]; exact k
theorem gd_lsub (hx : p.tables.exec = Jvm.exec) (hb : c.code = cc) {a b : Int} (hdg : decode cc pc = .ok (.lsub, 1)) (k : W p l e R s m args below meth c H locs cells slots Q (F0 m (pc + 1) ls (.long (mx_l (a - b)) :: rest))) : W p l e R s m args below meth c H locs cells slots Q (F0 m pc ls (.long (mx_l b) :: .long (mx_l a) :: rest)) := by
  refine lv_lsub hx hb hdg ?_
  rw [mx_l_sub]; exact k
theorem gd_lneg (hx : p.tables.exec = Jvm.exec) (hb : c.code = cc) {a : Int} (hdg : decode cc pc = .ok (.lneg, 1)) (k : W p l e R s m args below meth c H locs cells slots Q (F0 m (pc + 1) ls (.long (mx_l (-a)) :: rest))) : W p l e R s m args below meth c H locs cells slots Q (F0 m pc ls (.long (mx_l a) :: rest)) := by
  refine lv_lneg hx hb hdg ?_
  rw [mx_l_neg]; exact k
theorem gd_ge (hx : p.tables.exec = Jvm.exec) (hb : c.code = cc) {a b : Nat} {off : Int} {tgt : Nat} (hdg : decode cc pc = .ok (.if_icmp .ge off, 3)) (ht : (pc : Int) + off = (tgt : Int)) (ha : a < 2 ^ 31) (hb2 : b < 2 ^ 31)
    (kt : b ≤ a → W p l e R s m args below meth c H locs cells slots Q (F0 m tgt ls rest)) (kf : a < b → W p l e R s m args below meth c H locs cells slots Q (F0 m (pc + 3) ls rest)) : W p l e R s m args below meth c H locs cells slots Q (F0 m pc ls (.int (nI b) :: .int (nI a) :: rest)) :=
  lv_icmp_ge hx hb hdg ht (fun h => kt ((nI_leI hb2 ha).mp h)) (fun h => kf (Nat.lt_of_not_le fun q => h ((nI_leI hb2 ha).mpr q)))
theorem gd_ne (hx : p.tables.exec = Jvm.exec) (hb : c.code = cc) {a b : Nat} {off : Int} {tgt : Nat} (hdg : decode cc pc = .ok (.if_icmp .ne off, 3)) (ht : (pc : Int) + off = (tgt : Int)) (ha : a < 2 ^ 31) (hb2 : b < 2 ^ 31)
    (kt : a ≠ b → W p l e R s m args below meth c H locs cells slots Q (F0 m tgt ls rest)) (kf : a = b → W p l e R s m args below meth c H locs cells slots Q (F0 m (pc + 3) ls rest)) : W p l e R s m args below meth c H locs cells slots Q (F0 m pc ls (.int (nI b) :: .int (nI a) :: rest)) :=
  lv_icmp_ne hx hb hdg ht (fun h => kt (fun q => h ((nI_eq ha hb2).mpr q))) (fun h => kf ((nI_eq ha hb2).mp h))
theorem gd_eq (hx : p.tables.exec = Jvm.exec) (hb : c.code = cc) {a b : Nat} {off : Int} {tgt : Nat} (hdg : decode cc pc = .ok (.if_icmp .eq off, 3)) (ht : (pc : Int) + off = (tgt : Int)) (ha : a < 2 ^ 31) (hb2 : b < 2 ^ 31)
    (kt : a = b → W p l e R s m args below meth c H locs cells slots Q (F0 m tgt ls rest)) (kf : a ≠ b → W p l e R s m args below meth c H locs cells slots Q (F0 m (pc + 3) ls rest)) : W p l e R s m args below meth c H locs cells slots Q (F0 m pc ls (.int (nI b) :: .int (nI a) :: rest)) :=
  lv_icmp_eq hx hb hdg ht (fun h => kt ((nI_eq ha hb2).mp h)) (fun h => kf (fun q => h ((nI_eq ha hb2).mpr q)))
theorem mx_o_none {o : Option Nat} (ho : ∀ k, o = some k → k < 2 ^ 31) (h : mx_o o = mx_o none) : o = none := by
  cases o with
  | none => rfl
  | some k =>
    have h1 := nI_toInt (ho k rfl)
    have h2 : nI k = -1 := h
    rw [h2] at h1
    have h3 : (-1 : Int32).toInt = -1 := by decide
    omega
theorem gd_ne1 (hx : p.tables.exec = Jvm.exec) (hb : c.code = cc) {o : Option Nat} {off : Int} {tgt : Nat} (hdg : decode cc pc = .ok (.if_icmp .ne off, 3)) (ht : (pc : Int) + off = (tgt : Int)) (ho : ∀ k, o = some k → k < 2 ^ 31)
    (kt : ∀ k, o = some k → W p l e R s m args below meth c H locs cells slots Q (F0 m tgt ls rest)) (kf : o = none → W p l e R s m args below meth c H locs cells slots Q (F0 m (pc + 3) ls rest)) : W p l e R s m args below meth c H locs cells slots Q (F0 m pc ls (.int (mx_o none) :: .int (mx_o o) :: rest)) := by
  refine lv_icmp_ne hx hb hdg ht (fun h => ?_) (fun h => kf (mx_o_none ho h))
  cases o with
  | none => exact absurd rfl h
  | some k => exact kt k rfl
theorem gd_eq1 (hx : p.tables.exec = Jvm.exec) (hb : c.code = cc) {o : Option Nat} {off : Int} {tgt : Nat} (hdg : decode cc pc = .ok (.if_icmp .eq off, 3)) (ht : (pc : Int) + off = (tgt : Int)) (ho : ∀ k, o = some k → k < 2 ^ 31)
    (kt : o = none → W p l e R s m args below meth c H locs cells slots Q (F0 m tgt ls rest)) (kf : ∀ k, o = some k → W p l e R s m args below meth c H locs cells slots Q (F0 m (pc + 3) ls rest)) : W p l e R s m args below meth c H locs cells slots Q (F0 m pc ls (.int (mx_o none) :: .int (mx_o o) :: rest)) := by
  refine lv_icmp_eq hx hb hdg ht (fun h => kt (mx_o_none ho h)) (fun h => ?_)
  cases o with
  | none => exact absurd rfl h
  | some k => exact kf k rfl
theorem gd_ifeq (hx : p.tables.exec = Jvm.exec) (hb : c.code = cc) {b : Bool} {off : Int} {tgt : Nat} (hdg : decode cc pc = .ok (.ifCond .eq off, 3)) (ht : (pc : Int) + off = (tgt : Int))
    (kt : b = false → W p l e R s m args below meth c H locs cells slots Q (F0 m tgt ls rest)) (kf : b = true → W p l e R s m args below meth c H locs cells slots Q (F0 m (pc + 3) ls rest)) : W p l e R s m args below meth c H locs cells slots Q (F0 m pc ls (.int (mx_b b) :: rest)) := by
  refine lv_if_eq hx hb hdg ht (fun h => kt ?_) (fun h => kf ?_)
  · cases b with
    | false => rfl
    | true => exact absurd h (by decide)
  · cases b with
    | false => exact absurd rfl h
    | true => rfl
theorem gd_ifne (hx : p.tables.exec = Jvm.exec) (hb : c.code = cc) {b : Bool} {off : Int} {tgt : Nat} (hdg : decode cc pc = .ok (.ifCond .ne off, 3)) (ht : (pc : Int) + off = (tgt : Int))
    (kt : b = true → W p l e R s m args below meth c H locs cells slots Q (F0 m tgt ls rest)) (kf : b = false → W p l e R s m args below meth c H locs cells slots Q (F0 m (pc + 3) ls rest)) : W p l e R s m args below meth c H locs cells slots Q (F0 m pc ls (.int (mx_b b) :: rest)) := by
  refine lv_if_ne hx hb hdg ht (fun h => kt ?_) (fun h => kf ?_)
  · cases b with
    | false => exact absurd rfl h
    | true => rfl
  · cases b with
    | false => rfl
    | true => exact absurd h (by decide)
theorem gd_ifne0 (hx : p.tables.exec = Jvm.exec) (hb : c.code = cc) {a : Nat} {off : Int} {tgt : Nat} (hdg : decode cc pc = .ok (.ifCond .ne off, 3)) (ht : (pc : Int) + off = (tgt : Int)) (ha : a < 2 ^ 31)
    (kt : a ≠ 0 → W p l e R s m args below meth c H locs cells slots Q (F0 m tgt ls rest)) (kf : a = 0 → W p l e R s m args below meth c H locs cells slots Q (F0 m (pc + 3) ls rest)) : W p l e R s m args below meth c H locs cells slots Q (F0 m pc ls (.int (nI a) :: rest)) := by
  refine lv_if_ne hx hb hdg ht (fun h => kt (fun q => h (by rw [q]; rfl))) (fun h => kf ?_)
  exact (nI_eq ha (by decide)).mp (show nI a = nI 0 from h)
theorem mx_cmp_lt {x y : Int64} : lg_cmp x y < 0 ↔ x < y := by
  unfold lg_cmp
  rcases lg_tri x y with h | h | h
  · have h1 := lg_lt_not h
    have h2 := lg_lt_ne h
    simp [h1, h2, h]
  · subst h
    simp
  · have h1 := lg_lt_not h
    simp [h, h1]
theorem mx_cmp_eq {x y : Int64} : lg_cmp x y = 0 ↔ x = y := by
  unfold lg_cmp
  rcases lg_tri x y with h | h | h
  · have h1 := lg_lt_not h
    have h2 := lg_lt_ne h
    simp [h1, h2]
  · subst h
    simp
  · have h2 : ¬ x = y := fun q => lg_lt_ne h q.symm
    simp [h, h2]
theorem mx_cmp_gt {x y : Int64} : 0 < lg_cmp x y ↔ y < x := by
  unfold lg_cmp
  rcases lg_tri x y with h | h | h
  · have h1 := lg_lt_not h
    have h2 := lg_lt_ne h
    simp [h1, h2]
  · subst h
    simp
  · simp [h]
theorem mx_i32_le {x : Int32} : 0 ≤ x ↔ ¬ x < 0 := by
  rw [Int32.le_iff_toInt_le, Int32.lt_iff_toInt_lt]; omega
theorem mx_i32_le2 {x : Int32} : x ≤ 0 ↔ ¬ 0 < x := by
  rw [Int32.le_iff_toInt_le, Int32.lt_iff_toInt_lt]; omega
theorem gd_lge (hx : p.tables.exec = Jvm.exec) (hb : c.code = cc) {a b : Int} {off : Int} {tgt : Nat} (hd1 : decode cc pc = .ok (.lcmp, 1)) (hd2 : decode cc (pc + 1) = .ok (.ifCond .ge off, 3)) (ht : ((pc + 1 : Nat) : Int) + off = (tgt : Int)) (ha : mx_fit a) (hb2 : mx_fit b)
    (kt : b ≤ a → W p l e R s m args below meth c H locs cells slots Q (F0 m tgt ls rest)) (kf : a < b → W p l e R s m args below meth c H locs cells slots Q (F0 m (pc + 1 + 3) ls rest)) : W p l e R s m args below meth c H locs cells slots Q (F0 m pc ls (.long (mx_l b) :: .long (mx_l a) :: rest)) := by
  refine W.lcmp hx hb hd1 (lv_if_ge hx hb hd2 ht (fun h => kt ?_) (fun h => kf ?_))
  · rw [mx_i32_le, mx_cmp_lt, mx_l_lt ha hb2] at h; omega
  · rw [mx_i32_le, mx_cmp_lt, mx_l_lt ha hb2] at h; omega
theorem gd_llt (hx : p.tables.exec = Jvm.exec) (hb : c.code = cc) {a b : Int} {off : Int} {tgt : Nat} (hd1 : decode cc pc = .ok (.lcmp, 1)) (hd2 : decode cc (pc + 1) = .ok (.ifCond .lt off, 3)) (ht : ((pc + 1 : Nat) : Int) + off = (tgt : Int)) (ha : mx_fit a) (hb2 : mx_fit b)
    (kt : a < b → W p l e R s m args below meth c H locs cells slots Q (F0 m tgt ls rest)) (kf : b ≤ a → W p l e R s m args below meth c H locs cells slots Q (F0 m (pc + 1 + 3) ls rest)) : W p l e R s m args below meth c H locs cells slots Q (F0 m pc ls (.long (mx_l b) :: .long (mx_l a) :: rest)) := by
  refine W.lcmp hx hb hd1 (lv_if_lt hx hb hd2 ht (fun h => kt ?_) (fun h => kf ?_))
  · rw [mx_cmp_lt, mx_l_lt ha hb2] at h; omega
  · rw [mx_cmp_lt, mx_l_lt ha hb2] at h; omega
theorem gd_lgt (hx : p.tables.exec = Jvm.exec) (hb : c.code = cc) {a b : Int} {off : Int} {tgt : Nat} (hd1 : decode cc pc = .ok (.lcmp, 1)) (hd2 : decode cc (pc + 1) = .ok (.ifCond .gt off, 3)) (ht : ((pc + 1 : Nat) : Int) + off = (tgt : Int)) (ha : mx_fit a) (hb2 : mx_fit b)
    (kt : b < a → W p l e R s m args below meth c H locs cells slots Q (F0 m tgt ls rest)) (kf : a ≤ b → W p l e R s m args below meth c H locs cells slots Q (F0 m (pc + 1 + 3) ls rest)) : W p l e R s m args below meth c H locs cells slots Q (F0 m pc ls (.long (mx_l b) :: .long (mx_l a) :: rest)) := by
  refine W.lcmp hx hb hd1 (lv_if_gt hx hb hd2 ht (fun h => kt ?_) (fun h => kf ?_))
  · rw [mx_cmp_gt, mx_l_lt hb2 ha] at h; omega
  · rw [mx_cmp_gt, mx_l_lt hb2 ha] at h; omega
theorem gd_lle (hx : p.tables.exec = Jvm.exec) (hb : c.code = cc) {a b : Int} {off : Int} {tgt : Nat} (hd1 : decode cc pc = .ok (.lcmp, 1)) (hd2 : decode cc (pc + 1) = .ok (.ifCond .le off, 3)) (ht : ((pc + 1 : Nat) : Int) + off = (tgt : Int)) (ha : mx_fit a) (hb2 : mx_fit b)
    (kt : a ≤ b → W p l e R s m args below meth c H locs cells slots Q (F0 m tgt ls rest)) (kf : b < a → W p l e R s m args below meth c H locs cells slots Q (F0 m (pc + 1 + 3) ls rest)) : W p l e R s m args below meth c H locs cells slots Q (F0 m pc ls (.long (mx_l b) :: .long (mx_l a) :: rest)) := by
  refine W.lcmp hx hb hd1 (lv_if_le hx hb hd2 ht (fun h => kt ?_) (fun h => kf ?_))
  · rw [mx_i32_le2, mx_cmp_gt, mx_l_lt hb2 ha] at h; omega
  · rw [mx_i32_le2, mx_cmp_gt, mx_l_lt hb2 ha] at h; omega
theorem gd_lne (hx : p.tables.exec = Jvm.exec) (hb : c.code = cc) {a b : Int} {off : Int} {tgt : Nat} (hd1 : decode cc pc = .ok (.lcmp, 1)) (hd2 : decode cc (pc + 1) = .ok (.ifCond .ne off, 3)) (ht : ((pc + 1 : Nat) : Int) + off = (tgt : Int)) (ha : mx_fit a) (hb2 : mx_fit b)
    (kt : a ≠ b → W p l e R s m args below meth c H locs cells slots Q (F0 m tgt ls rest)) (kf : a = b → W p l e R s m args below meth c H locs cells slots Q (F0 m (pc + 1 + 3) ls rest)) : W p l e R s m args below meth c H locs cells slots Q (F0 m pc ls (.long (mx_l b) :: .long (mx_l a) :: rest)) := by
  refine W.lcmp hx hb hd1 (lv_if_ne hx hb hd2 ht (fun h => kt ?_) (fun h => kf ?_))
  · rw [mx_cmp_eq, mx_l_eq ha hb2] at h; exact h
  · rw [mx_cmp_eq, mx_l_eq ha hb2] at h; exact h
theorem gd_leq (hx : p.tables.exec = Jvm.exec) (hb : c.code = cc) {x y : Int64} {off : Int} {tgt : Nat} (hd1 : decode cc pc = .ok (.lcmp, 1)) (hd2 : decode cc (pc + 1) = .ok (.ifCond .eq off, 3)) (ht : ((pc + 1 : Nat) : Int) + off = (tgt : Int)) (he : x = y)
    (kt : W p l e R s m args below meth c H locs cells slots Q (F0 m tgt ls rest)) : W p l e R s m args below meth c H locs cells slots Q (F0 m pc ls (.long y :: .long x :: rest)) := by
  refine W.lcmp hx hb hd1 (lv_if_eq hx hb hd2 ht (fun _ => kt) (fun h => absurd (mx_cmp_eq.mpr he) h))
end GDR
theorem gd_inc1 (e : Nat) : nI e + Int32.ofInt 1 = nI (e + 1) := nI_1 e
theorem gd_inc6 (e : Nat) : nI e + Int32.ofInt 6 = nI (e + 6) := nI_add e 6
/-! stores: the new contents -/
theorem gd_hz {f : Nat → Bool} {k : Nat} {x : Int32} (v : Bool) (h : x = mx_b v) : upd (fun i => mx_b (f i)) k (vp_nar .boolean x) = fun i => mx_b (va_up f k v i) := by
  have e : vp_nar .boolean x = mx_b v := by subst h; cases v <;> decide +kernel
  rw [e]
  funext i
  unfold upd va_up
  split <;> rfl
theorem gd_hb {f : Nat → Nat} {k : Nat} {x : Int32} (v : Nat) (hv : v < 128) (h : x = nI v) : upd (fun i => nI (f i)) k (vp_nar .byte x) = fun i => nI (va_up f k v i) := by
  have e : vp_nar .byte x = nI v := by
    subst h
    rw [vp_nar_byte]
    exact lg_i2b_small (by rw [nI_toInt (by omega)]; omega) (by rw [nI_toInt (by omega)]; omega)
  rw [e]
  funext i
  unfold upd va_up
  split <;> rfl
theorem gd_i2s {v : Nat} (hv : v < 32768) : (nI v).toInt16.toInt32 = nI v := by
  apply Int32.toInt_inj.mp
  rw [lg_i2s_toInt, nI_toInt (by omega)]
  exact Int.bmod_eq_of_le (by omega) (by omega)
theorem gd_i2b {v : Nat} (hv : v < 128) : (nI v).toInt8.toInt32 = nI v := lg_i2b_small (by rw [nI_toInt (by omega)]; omega) (by rw [nI_toInt (by omega)]; omega)
theorem gd_nars {v : Nat} (hv : v < 32768) : vp_nar .short (nI v) = nI v := by rw [vp_nar_short]; exact gd_i2s hv
theorem gd_hs {f : Nat → Nat} {k : Nat} {x : Int32} (v : Nat) (hv : v < 32768) (h : x = nI v) : upd (fun i => nI (f i)) k (vp_nar .short x) = fun i => nI (va_up f k v i) := by
  subst h
  rw [gd_nars hv]
  funext i
  unfold upd va_up
  split <;> rfl
theorem gd_hi {f : Nat → Nat} {k : Nat} (v : Nat) : upd (fun i => nI (f i)) k (nI v) = fun i => nI (va_up f k v i) := by
  funext i
  unfold upd va_up
  split <;> rfl
theorem gd_ho {f : Nat → Option Nat} {k : Nat} {x : Int32} (v : Option Nat) (h : x = mx_o v) : upd (fun i => mx_o (f i)) k x = fun i => mx_o (va_up f k v i) := by
  subst h
  funext i
  unfold upd va_up
  split <;> rfl
theorem gd_hl {f : Nat → Int} {k : Nat} (v : Int) : vp_updL (fun i => mx_l (f i)) k (mx_l v) = fun i => mx_l (va_up f k v i) := by
  funext i
  unfold vp_updL va_up
  split <;> rfl
/-! worlds -/
abbrev wP (a r h : Nat) (ct : Nat → ClassId) (cap : Nat) (row : Nat → Int32) (L : List Nat) : va_W :=
  [(a, .inr (3, [.ref r, .ref h, .int (nI L.length)])), (r, .inl (ct 2, cap, .inl row)), (h, .inl (ct 0, cap, .inl (fun v => mx_b (decide (v ∈ L)))))]
abbrev wA (a v f : Nat) (ct : Nat → ClassId) (X : GX) : va_W :=
  [(a, .inr (1, [.ref v, .ref f])), (v, .inl (ct 4, 300, .inr (.inl (fun p => mx_l (mx_v X p))))), (f, .inl (ct 4, 300, .inr (.inl (fun p => mx_l (mx_f X p)))))]
abbrev wG (q : Nat → Nat) (ct : Nat → ClassId) (X : GX) (inn : Nat → Bool) (ah af la : Nat → Option Nat) (su : Nat → Int) (sr : Nat → Int32) (S : List Nat) (dr : Nat → Int32) (L : List Nat) : va_W :=
  [(q 0, .inr (2, [.ref (q 16), .int (nI 200), .ref (q 1), .ref (q 2), .ref (q 3), .ref (q 4), .ref (q 5), .ref (q 6), .ref (q 7), .ref (q 8), .ref (q 9), .ref (q 10), .ref (q 13), .int (nI (mx_n X))])),
   (q 1, .inl (ct 0, 200, .inl (fun i => mx_b (mx_t X i)))),
   (q 2, .inl (ct 0, 200, .inl (fun i => mx_b (inn i)))),
   (q 3, .inl (ct 1, 200, .inl (fun i => nI (mx_m X i)))),
   (q 4, .inl (ct 2, 3200, .inl (fun i => nI (mx_p X i)))),
   (q 5, .inl (ct 4, 3200, .inr (.inl (fun i => mx_l (mx_a X i))))),
   (q 6, .inl (ct 3, 3200, .inl (fun i => mx_o (ah i)))),
   (q 7, .inl (ct 3, 3200, .inl (fun i => mx_o (af i)))),
   (q 8, .inl (ct 3, 300, .inl (fun i => mx_o (la i)))),
   (q 9, .inl (ct 4, 300, .inr (.inl (fun i => mx_l (su i))))),
   (q 10, .inr (3, [.ref (q 11), .ref (q 12), .int (nI S.length)])), (q 11, .inl (ct 2, 300, .inl sr)), (q 12, .inl (ct 0, 300, .inl (fun v => mx_b (decide (v ∈ S))))),
   (q 13, .inr (3, [.ref (q 14), .ref (q 15), .int (nI L.length)])), (q 14, .inl (ct 2, 200, .inl dr)), (q 15, .inl (ct 0, 200, .inl (fun v => mx_b (decide (v ∈ L))))),
   (q 16, .inr (1, [.ref (q 17), .ref (q 18)])), (q 17, .inl (ct 4, 300, .inr (.inl (fun p => mx_l (mx_v X p))))), (q 18, .inl (ct 4, 300, .inr (.inl (fun p => mx_l (mx_f X p)))))]
abbrev wX (q : Nat → Nat) (ct : Nat → ClassId) (X : GX) (inn : Nat → Bool) (ah af la : Nat → Option Nat) (su : Nat → Int) (sr : Nat → Int32) (S : List Nat) (dr : Nat → Int32) (L : List Nat) : va_W :=
  wG q ct X inn ah af la su sr S dr L ++ [(q 19, .inr (0, [.ref (q 16), .ref (q 0)]))]
abbrev wM (q : Nat → Nat) (ct : Nat → ClassId) (X : GX) (ch : Nat → Bool) : va_W :=
  [(q 0, .inr (4, [.ref (q 1), .ref (q 2), .int (nI (mx_n X)), .ref (q 3), .ref (q 4), .ref (q 5), .ref (q 6), .ref (q 7)])),
   (q 1, .inl (ct 4, 300, .inr (.inl (fun p => mx_l (mx_v X p))))),
   (q 2, .inl (ct 4, 300, .inr (.inl (fun p => mx_l (mx_f X p))))),
   (q 3, .inl (ct 0, 200, .inl (fun i => mx_b (mx_t X i)))),
   (q 4, .inl (ct 0, 200, .inl (fun i => mx_b (ch i)))),
   (q 5, .inl (ct 3, 200, .inl (fun i => nI (mx_m X i)))),
   (q 6, .inl (ct 3, 3200, .inl (fun i => nI (mx_p X i)))),
   (q 7, .inl (ct 4, 3200, .inr (.inl (fun i => mx_l (mx_a X i)))))]
end
section
/-! PURE: what the desk's calls answer, and that two data that agree where it counts answer alike -/
def mx_isT (X : GX) (x : Int32) : Bool := decide (0 ≤ x.toInt) && (decide (x.toInt < mx_n X) && mx_t X x.toInt.toNat)
theorem mx_isT_neg {X : GX} {x : Int32} (h : x < 0) : mx_isT X x = false := by
  unfold mx_isT
  rw [Int32.lt_iff_toInt_lt, Int32.toInt_zero] at h
  rw [decide_eq_false (by omega)]
  rfl
theorem mx_isT_nI {X : GX} {j : Nat} (hj : j < 2 ^ 31) : mx_isT X (nI j) = (decide (j < mx_n X) && mx_t X j) := by
  unfold mx_isT
  rw [nI_toInt hj, decide_eq_true (by omega : (0 : Int) ≤ (j : Int))]
  have e : decide ((j : Int) < (mx_n X : Int)) = decide (j < mx_n X) := by
    by_cases h : j < mx_n X
    · rw [decide_eq_true h, decide_eq_true (by omega)]
    · rw [decide_eq_false h, decide_eq_false (by omega)]
  rw [e]
  simp
def mx_isP (x : Int32) : Bool := decide (0 ≤ x.toInt) && decide (x.toInt < 300)
theorem mx_isP_neg {x : Int32} (h : x < 0) : mx_isP x = false := by
  unfold mx_isP
  rw [Int32.lt_iff_toInt_lt, Int32.toInt_zero] at h
  rw [decide_eq_false (by omega)]
  rfl
theorem mx_isP_nI {j : Nat} (hj : j < 2 ^ 31) : mx_isP (nI j) = decide (j < 300) := by
  unfold mx_isP
  rw [nI_toInt hj, decide_eq_true (by omega : (0 : Int) ≤ (j : Int))]
  by_cases h : j < 300
  · rw [decide_eq_true h, decide_eq_true (by omega)]; rfl
  · rw [decide_eq_false h, decide_eq_false (by omega)]; rfl
theorem mx_isP_of {x : Int32} (h : mx_isP x = true) : ∃ j, j < 300 ∧ x = nI j := by
  by_cases hx : x < 0
  · rw [mx_isP_neg hx] at h; cases h
  · obtain ⟨j, hj, rfl⟩ := nI_of hx
    rw [mx_isP_nI hj] at h
    exact ⟨j, of_decide_eq_true h, rfl⟩
theorem mx_isT_of {X : GX} {x : Int32} (h : mx_isT X x = true) : ∃ j, j < mx_n X ∧ mx_t X j = true ∧ x = nI j := by
  by_cases hx : x < 0
  · rw [mx_isT_neg hx] at h; cases h
  · obtain ⟨j, hj, rfl⟩ := nI_of hx
    rw [mx_isT_nI hj] at h
    simp at h
    exact ⟨j, h.1, h.2, rfl⟩
/-- where a net was found -/
def mx_fd (X : GX) (i p : Nat) (o : Option Nat) : Prop := match o with
  | none => ∀ k, k < mx_m X i → mx_p X (16 * i + k) ≠ p
  | some n => ∃ k, k < mx_m X i ∧ n = 16 * i + k ∧ mx_p X (16 * i + k) = p
noncomputable def mx_fi (X : GX) (i p : Nat) : Option Nat := @dite (Option Nat) (∃ k, k < mx_m X i ∧ mx_p X (16 * i + k) = p) (Classical.propDecidable _) (fun h => some h.choose) (fun _ => none)
theorem mx_fi_at {X : GX} (h : mx_WF X) {i k p : Nat} (hk : k < mx_m X i) (hp : mx_p X (16 * i + k) = p) : mx_fi X i p = some k := by
  have hx : ∃ k, k < mx_m X i ∧ mx_p X (16 * i + k) = p := ⟨k, hk, hp⟩
  unfold mx_fi
  rw [dif_pos hx]
  have h1 := hx.choose_spec
  have : hx.choose = k := h.one h1.1 hk (by rw [h1.2, hp])
  rw [this]
theorem mx_fi_no {X : GX} {i p : Nat} (hn : ∀ k, k < mx_m X i → mx_p X (16 * i + k) ≠ p) : mx_fi X i p = none := by
  unfold mx_fi
  rw [dif_neg]
  rintro ⟨k, hk, hp⟩
  exact hn k hk hp
theorem mx_fi_or {X : GX} (i p : Nat) : (∃ k, k < mx_m X i ∧ mx_p X (16 * i + k) = p) ∨ (∀ k, k < mx_m X i → mx_p X (16 * i + k) ≠ p) := by
  by_cases hx : ∃ k, k < mx_m X i ∧ mx_p X (16 * i + k) = p
  · exact Or.inl hx
  · exact Or.inr (fun k hk e => hx ⟨k, hk, e⟩)
def mx_set (X : GX) (k p : Nat) (v : Int) : GX := (mx_n X, mx_t X, mx_m X, va_up (mx_p X) k p, va_up (mx_a X) k v, mx_v X, mx_f X)
def mx_del (X : GX) (i k : Nat) : GX := (mx_n X, mx_t X, va_up (mx_m X) i (mx_m X i - 1), va_up (mx_p X) k (mx_p X (16 * i + (mx_m X i - 1))), va_up (mx_a X) k (mx_a X (16 * i + (mx_m X i - 1))), mx_v X, mx_f X)
def mx_app (X : GX) (i p : Nat) (v : Int) : GX := (mx_n X, mx_t X, va_up (mx_m X) i (mx_m X i + 1), va_up (mx_p X) (16 * i + mx_m X i) p, va_up (mx_a X) (16 * i + mx_m X i) v, mx_v X, mx_f X)
noncomputable def mx_netF (X : GX) (i p : Nat) (z : Int) : Bool × GX := match mx_fi X i p with
  | some k => if mx_a X (16 * i + k) + z = 0 then (true, mx_del X i (16 * i + k)) else (true, mx_set X (16 * i + k) p (mx_a X (16 * i + k) + z))
  | none => if z = 0 then (true, X) else if mx_m X i = 16 then (false, X) else (true, mx_app X i p z)
/-- two data agree where it counts -/
def mx_Rel (X Y : GX) : Prop := mx_n X = mx_n Y ∧ (∀ i, mx_t X i = mx_t Y i) ∧ (∀ i, mx_m X i = mx_m Y i) ∧ (∀ i k, k < mx_m X i → mx_p X (16 * i + k) = mx_p Y (16 * i + k) ∧ mx_a X (16 * i + k) = mx_a Y (16 * i + k)) ∧ ∀ p, p < 300 → mx_v X p = mx_v Y p ∧ mx_f X p = mx_f Y p
theorem mx_Rel.rf (X : GX) : mx_Rel X X := ⟨rfl, fun _ => rfl, fun _ => rfl, fun _ _ _ => ⟨rfl, rfl⟩, fun _ _ => ⟨rfl, rfl⟩⟩
theorem mx_Rel.sm {X Y : GX} (h : mx_Rel X Y) : mx_Rel Y X := by
  obtain ⟨h1, h2, h3, h4, h5⟩ := h
  exact ⟨h1.symm, fun i => (h2 i).symm, fun i => (h3 i).symm, fun i k hk => by rw [← h3 i] at hk; exact ⟨(h4 i k hk).1.symm, (h4 i k hk).2.symm⟩, fun p hp => ⟨(h5 p hp).1.symm, (h5 p hp).2.symm⟩⟩
theorem mx_Rel.tr {X Y Z : GX} (h : mx_Rel X Y) (g : mx_Rel Y Z) : mx_Rel X Z := by
  obtain ⟨h1, h2, h3, h4, h5⟩ := h
  obtain ⟨g1, g2, g3, g4, g5⟩ := g
  refine ⟨h1.trans g1, fun i => (h2 i).trans (g2 i), fun i => (h3 i).trans (g3 i), fun i k hk => ?_, fun p hp => ⟨(h5 p hp).1.trans (g5 p hp).1, (h5 p hp).2.trans (g5 p hp).2⟩⟩
  have hk2 : k < mx_m Y i := by rw [← h3 i]; exact hk
  exact ⟨(h4 i k hk).1.trans (g4 i k hk2).1, (h4 i k hk).2.trans (g4 i k hk2).2⟩
theorem mx_Rel.wf {X Y : GX} (h : mx_Rel X Y) (hX : mx_WF X) : mx_WF Y := by
  obtain ⟨h1, h2, h3, h4, h5⟩ := h
  refine ⟨by rw [← h1]; exact hX.n, fun i => by rw [← h3]; exact hX.m i, fun i hi => ?_, fun i k hk => ?_, fun i k k2 hk hk2 e => ?_, fun p hp => ?_⟩
  · rw [← h1] at hi
    rw [← h2, ← h3]
    exact hX.out hi
  · rw [← h3] at hk
    rw [← (h4 i k hk).1, ← (h4 i k hk).2]
    exact hX.net hk
  · rw [← h3] at hk hk2
    rw [← (h4 i k hk).1, ← (h4 i k2 hk2).1] at e
    exact hX.one hk hk2 e
  · rw [← (h5 p hp).1, ← (h5 p hp).2]
    exact hX.pl hp
theorem mx_Rel.net {X Y : GX} (h : mx_Rel X Y) (i p : Nat) : mx_net X i p = mx_net Y i p := by
  obtain ⟨h1, h2, h3, h4, h5⟩ := h
  unfold mx_net
  rw [← h3 i]
  refine mx_sum_congr _ (fun k hk => ?_)
  rw [(h4 i k hk).1, (h4 i k hk).2]
theorem mx_Rel.tot {X Y : GX} (h : mx_Rel X Y) (S : Nat → Bool) {p : Nat} (hp : p < 300) : mx_tot X S p = mx_tot Y S p := by
  unfold mx_tot
  rw [(h.2.2.2.2 p hp).1, h.1]
  rw [mx_sum_congr (g := fun i => if S i = true then mx_net Y i p else 0) _ (fun j _ => by rw [h.net])]
theorem mx_Rel.feas {X Y : GX} (h : mx_Rel X Y) {S : Nat → Bool} (hS : mx_Feas X S) : mx_Feas Y S := by
  refine ⟨fun i hi => by rw [← h.2.1]; exact hS.1 i hi, fun p hp => by rw [← (h.2.2.2.2 p hp).2, ← h.tot S hp]; exact hS.2.1 p hp, fun j i p hji ht n1 n2 hi => ?_⟩
  rw [← h.net] at n1 n2
  rw [← h.2.1] at ht
  exact hS.2.2 j i p hji ht n1 n2 hi
theorem mx_Rel.sol {X Y : GX} (h : mx_Rel X Y) {S : Nat → Bool} (hS : mx_Sol X S) : mx_Sol Y S := ⟨h.feas hS.1, fun T hT => hS.2 T (h.sm.feas hT)⟩
theorem mx_Rel.fi {X Y : GX} (h : mx_Rel X Y) (hX : mx_WF X) (i p : Nat) : mx_fi X i p = mx_fi Y i p := by
  rcases mx_fi_or (X := X) i p with ⟨k, hk, hp⟩ | hn
  · rw [mx_fi_at hX hk hp, mx_fi_at (h.wf hX) (k := k) (by rw [← h.2.2.1]; exact hk) (by rw [← (h.2.2.2.1 i k hk).1]; exact hp)]
  · rw [mx_fi_no hn, mx_fi_no (fun k hk => by rw [← h.2.2.1] at hk; rw [← (h.2.2.2.1 i k hk).1]; exact hn k hk)]
theorem mx_Rel.isT {X Y : GX} (h : mx_Rel X Y) (x : Int32) : mx_isT X x = mx_isT Y x := by
  unfold mx_isT
  rw [h.1, h.2.1]
theorem mx_vu {α : Type} {f g : Nat → α} {k j : Nat} {v w : α} (h : f j = g j) (hv : v = w) : va_up f k v j = va_up g k w j := by
  by_cases e : j = k
  · subst e; rw [va_up_self, va_up_self]; exact hv
  · rw [va_up_ne _ _ e, va_up_ne _ _ e]; exact h
theorem mx_Rel.set {X Y : GX} (h : mx_Rel X Y) (k p : Nat) (v : Int) : mx_Rel (mx_set X k p v) (mx_set Y k p v) := by
  obtain ⟨h1, h2, h3, h4, h5⟩ := h
  exact ⟨h1, h2, h3, fun i j hj => ⟨mx_vu (h4 i j hj).1 rfl, mx_vu (h4 i j hj).2 rfl⟩, h5⟩
theorem mx_Rel.del {X Y : GX} (h : mx_Rel X Y) (i k : Nat) (hm : 0 < mx_m X i) : mx_Rel (mx_del X i k) (mx_del Y i k) := by
  obtain ⟨h1, h2, h3, h4, h5⟩ := h
  refine ⟨h1, h2, fun j => mx_vu (h3 j) (by rw [h3]), fun j k2 hk => ?_, h5⟩
  have hk2 : k2 < mx_m X j := by
    have hk : k2 < va_up (mx_m X) i (mx_m X i - 1) j := hk
    by_cases e : j = i
    · subst e; rw [va_up_self] at hk; omega
    · rw [va_up_ne _ _ e] at hk; exact hk
  have h6 := h4 i (mx_m X i - 1) (by omega)
  exact ⟨mx_vu (h4 j k2 hk2).1 (by rw [← h3]; exact h6.1), mx_vu (h4 j k2 hk2).2 (by rw [← h3]; exact h6.2)⟩
theorem mx_Rel.app {X Y : GX} (h : mx_Rel X Y) (hX : mx_WF X) (i p : Nat) (v : Int) (hm : mx_m X i < 16) : mx_Rel (mx_app X i p v) (mx_app Y i p v) := by
  obtain ⟨h1, h2, h3, h4, h5⟩ := h
  refine ⟨h1, h2, fun j => mx_vu (h3 j) (by rw [h3]), fun j k2 hk => ?_, h5⟩
  have hk : k2 < va_up (mx_m X) i (mx_m X i + 1) j := hk
  show va_up (mx_p X) (16 * i + mx_m X i) p (16 * j + k2) = va_up (mx_p Y) (16 * i + mx_m Y i) p (16 * j + k2) ∧ va_up (mx_a X) (16 * i + mx_m X i) v (16 * j + k2) = va_up (mx_a Y) (16 * i + mx_m Y i) v (16 * j + k2)
  rw [← h3 i]
  by_cases e : 16 * j + k2 = 16 * i + mx_m X i
  · rw [e, va_up_self, va_up_self, va_up_self, va_up_self]; exact ⟨rfl, rfl⟩
  · rw [va_up_ne _ _ e, va_up_ne _ _ e, va_up_ne _ _ e, va_up_ne _ _ e]
    refine h4 j k2 ?_
    by_cases e2 : j = i
    · subst e2; rw [va_up_self] at hk; omega
    · rw [va_up_ne _ _ e2] at hk; exact hk
theorem mx_netF_rel {X Y : GX} (h : mx_Rel X Y) (hX : mx_WF X) (i p : Nat) (z : Int) : (mx_netF X i p z).1 = (mx_netF Y i p z).1 ∧ mx_Rel (mx_netF X i p z).2 (mx_netF Y i p z).2 := by
  unfold mx_netF
  rw [← h.fi hX]
  rcases mx_fi_or (X := X) i p with ⟨k, hk, hp⟩ | hn
  · rw [mx_fi_at hX hk hp]
    show (if _ then _ else _ : Bool × GX).1 = (if _ then _ else _ : Bool × GX).1 ∧ mx_Rel (if _ then _ else _ : Bool × GX).2 (if _ then _ else _ : Bool × GX).2
    rw [← (h.2.2.2.1 i k hk).2]
    by_cases hz : mx_a X (16 * i + k) + z = 0
    · rw [if_pos hz, if_pos hz]
      exact ⟨rfl, h.del i _ (by omega)⟩
    · rw [if_neg hz, if_neg hz]
      exact ⟨rfl, h.set _ _ _⟩
  · rw [mx_fi_no hn]
    show (if _ then _ else _ : Bool × GX).1 = (if _ then _ else _ : Bool × GX).1 ∧ mx_Rel (if _ then _ else _ : Bool × GX).2 (if _ then _ else _ : Bool × GX).2
    by_cases hz : z = 0
    · rw [if_pos hz, if_pos hz]
      exact ⟨rfl, h⟩
    · rw [if_neg hz, if_neg hz, ← h.2.2.1 i]
      by_cases hm : mx_m X i = 16
      · rw [if_pos hm, if_pos hm]
        exact ⟨rfl, h⟩
      · rw [if_neg hm, if_neg hm]
        have := hX.m i
        exact ⟨rfl, h.app hX i p z (by omega)⟩
theorem mx_ix {i j k k2 : Nat} (h1 : k < 16) (h2 : k2 < 16) (h : 16 * i + k = 16 * j + k2) : i = j ∧ k = k2 := by omega
theorem mx_WF_set {X : GX} (hX : mx_WF X) {i k p : Nat} {v : Int} (hk : k < mx_m X i) (hp : mx_p X (16 * i + k) = p) (hv : v ≠ 0) (h1 : -1000000000000000 ≤ v) (h2 : v ≤ 1000000000000000) : mx_WF (mx_set X (16 * i + k) p v) := by
  have e1 : ∀ m, va_up (mx_p X) (16 * i + k) p m = mx_p X m := by
    intro m
    by_cases e : m = 16 * i + k
    · subst e; rw [va_up_self, hp]
    · rw [va_up_ne _ _ e]
  refine ⟨hX.n, hX.m, fun j hj => hX.out hj, fun j k2 hk2 => ?_, fun j k2 k3 hk2 hk3 e => ?_, fun p hp => hX.pl hp⟩
  · show va_up (mx_p X) (16 * i + k) p (16 * j + k2) < 300 ∧ va_up (mx_a X) (16 * i + k) v (16 * j + k2) ≠ 0 ∧ _ ≤ va_up (mx_a X) (16 * i + k) v (16 * j + k2) ∧ va_up (mx_a X) (16 * i + k) v (16 * j + k2) ≤ _
    rw [e1]
    have h3 := hX.net hk2
    by_cases e : 16 * j + k2 = 16 * i + k
    · rw [e, va_up_self]
      rw [e] at h3
      exact ⟨h3.1, hv, h1, h2⟩
    · rw [va_up_ne _ _ e]
      exact h3
  · have e : va_up (mx_p X) (16 * i + k) p (16 * j + k2) = va_up (mx_p X) (16 * i + k) p (16 * j + k3) := e
    rw [e1, e1] at e
    exact hX.one hk2 hk3 e
theorem mx_WF_del {X : GX} (hX : mx_WF X) {i k : Nat} (hk : k < mx_m X i) : mx_WF (mx_del X i (16 * i + k)) := by
  have hm := hX.m i
  have hl : mx_m X i - 1 < mx_m X i := by omega
  have key : ∀ j k2, k2 < va_up (mx_m X) i (mx_m X i - 1) j → ∃ k3, k3 < mx_m X j ∧ va_up (mx_p X) (16 * i + k) (mx_p X (16 * i + (mx_m X i - 1))) (16 * j + k2) = mx_p X (16 * j + k3) ∧ va_up (mx_a X) (16 * i + k) (mx_a X (16 * i + (mx_m X i - 1))) (16 * j + k2) = mx_a X (16 * j + k3) ∧ (k3 = k2 ∨ (j = i ∧ k2 = k ∧ k3 = mx_m X i - 1)) := by
    intro j k2 h2
    have hk2 : k2 < mx_m X j := by
      by_cases e : j = i
      · subst e; rw [va_up_self] at h2; omega
      · rw [va_up_ne _ _ e] at h2; exact h2
    have hm2 := hX.m j
    by_cases e : 16 * j + k2 = 16 * i + k
    · obtain ⟨e2, e3⟩ := mx_ix (by omega) (by omega) e
      subst e2
      refine ⟨mx_m X j - 1, hl, ?_, ?_, Or.inr ⟨rfl, e3, rfl⟩⟩
      · rw [e, va_up_self]
      · rw [e, va_up_self]
    · exact ⟨k2, hk2, va_up_ne _ _ e, va_up_ne _ _ e, Or.inl rfl⟩
  refine ⟨hX.n, fun j => ?_, fun j hj => ?_, fun j k2 hk2 => ?_, fun j k2 k3 hk2 hk3 e => ?_, fun p hp => hX.pl hp⟩
  · show va_up (mx_m X) i (mx_m X i - 1) j ≤ 16
    by_cases e : j = i
    · subst e; rw [va_up_self]; omega
    · rw [va_up_ne _ _ e]; exact hX.m j
  · show mx_t X j = false ∧ va_up (mx_m X) i (mx_m X i - 1) j = 0
    have h3 := hX.out hj
    refine ⟨h3.1, ?_⟩
    by_cases e : j = i
    · subst e; omega
    · rw [va_up_ne _ _ e]; exact h3.2
  · obtain ⟨k3, h3, e1, e2, -⟩ := key j k2 hk2
    show va_up (mx_p X) _ _ (16 * j + k2) < 300 ∧ va_up (mx_a X) _ _ (16 * j + k2) ≠ 0 ∧ _ ≤ va_up (mx_a X) _ _ (16 * j + k2) ∧ va_up (mx_a X) _ _ (16 * j + k2) ≤ _
    rw [e1, e2]
    exact hX.net h3
  · obtain ⟨a3, a1, a2, -, a4⟩ := key j k2 hk2
    obtain ⟨b3, b1, b2, -, b4⟩ := key j k3 hk3
    have e : va_up (mx_p X) _ _ (16 * j + k2) = va_up (mx_p X) _ _ (16 * j + k3) := e
    rw [a2, b2] at e
    have h5 := hX.one a1 b1 e
    have hk2 : k2 < va_up (mx_m X) i (mx_m X i - 1) j := hk2
    have hk3 : k3 < va_up (mx_m X) i (mx_m X i - 1) j := hk3
    rcases a4 with a4 | ⟨a4, a5, a6⟩ <;> rcases b4 with b4 | ⟨b4, b5, b6⟩
    · omega
    · subst b4; rw [va_up_self] at hk2; omega
    · subst a4; rw [va_up_self] at hk3; omega
    · omega
theorem mx_WF_app {X : GX} (hX : mx_WF X) {i p : Nat} {v : Int} (hi : i < mx_n X) (hm : mx_m X i < 16) (hp : p < 300) (hn : ∀ k, k < mx_m X i → mx_p X (16 * i + k) ≠ p) (hv : v ≠ 0) (h1 : -1000000000000000 ≤ v) (h2 : v ≤ 1000000000000000) : mx_WF (mx_app X i p v) := by
  have key : ∀ j k2, k2 < va_up (mx_m X) i (mx_m X i + 1) j → (j = i ∧ k2 = mx_m X i ∧ va_up (mx_p X) (16 * i + mx_m X i) p (16 * j + k2) = p ∧ va_up (mx_a X) (16 * i + mx_m X i) v (16 * j + k2) = v) ∨ (k2 < mx_m X j ∧ va_up (mx_p X) (16 * i + mx_m X i) p (16 * j + k2) = mx_p X (16 * j + k2) ∧ va_up (mx_a X) (16 * i + mx_m X i) v (16 * j + k2) = mx_a X (16 * j + k2)) := by
    intro j k2 h3
    have hm2 := hX.m j
    by_cases e : 16 * j + k2 = 16 * i + mx_m X i
    · have hk16 : k2 < 16 := by
        by_cases e2 : j = i
        · subst e2; rw [va_up_self] at h3; omega
        · rw [va_up_ne _ _ e2] at h3; omega
      obtain ⟨e2, e3⟩ := mx_ix hk16 hm e
      refine Or.inl ⟨e2, e3, ?_, ?_⟩
      · rw [e, va_up_self]
      · rw [e, va_up_self]
    · refine Or.inr ⟨?_, va_up_ne _ _ e, va_up_ne _ _ e⟩
      by_cases e2 : j = i
      · subst e2; rw [va_up_self] at h3; omega
      · rw [va_up_ne _ _ e2] at h3; exact h3
  refine ⟨hX.n, fun j => ?_, fun j hj => ?_, fun j k2 hk2 => ?_, fun j k2 k3 hk2 hk3 e => ?_, fun p hp => hX.pl hp⟩
  · show va_up (mx_m X) i (mx_m X i + 1) j ≤ 16
    by_cases e : j = i
    · subst e; rw [va_up_self]; omega
    · rw [va_up_ne _ _ e]; exact hX.m j
  · have hj : mx_n X ≤ j := hj
    show mx_t X j = false ∧ va_up (mx_m X) i (mx_m X i + 1) j = 0
    rw [va_up_ne _ _ (by omega)]
    exact hX.out hj
  · show va_up (mx_p X) _ _ (16 * j + k2) < 300 ∧ va_up (mx_a X) _ _ (16 * j + k2) ≠ 0 ∧ _ ≤ va_up (mx_a X) _ _ (16 * j + k2) ∧ va_up (mx_a X) _ _ (16 * j + k2) ≤ _
    rcases key j k2 hk2 with ⟨-, -, e1, e2⟩ | ⟨h3, e1, e2⟩
    · rw [e1, e2]; exact ⟨hp, hv, h1, h2⟩
    · rw [e1, e2]; exact hX.net h3
  · have e9 : va_up (mx_p X) _ _ (16 * j + k2) = va_up (mx_p X) _ _ (16 * j + k3) := e
    rcases key j k2 hk2 with ⟨a1, a2, a3, -⟩ | ⟨a1, a2, -⟩ <;> rcases key j k3 hk3 with ⟨b1, b2, b3, -⟩ | ⟨b1, b2, -⟩
    · omega
    · rw [a3, b2] at e9
      subst a1
      exact absurd e9.symm (hn k3 b1)
    · rw [a2, b3] at e9
      subst b1
      exact absurd e9 (hn k2 a1)
    · rw [a2, b2] at e9
      exact hX.one a1 b1 e9
theorem mx_netF_wf {X : GX} (hX : mx_WF X) {i p : Nat} {z : Int} (hi : i < mx_n X) (hp : p < 300) (h1 : -1000000000000000 ≤ mx_net X i p + z) (h2 : mx_net X i p + z ≤ 1000000000000000) : mx_WF (mx_netF X i p z).2 := by
  unfold mx_netF
  rcases mx_fi_or (X := X) i p with ⟨k, hk, hpk⟩ | hn
  · rw [mx_fi_at hX hk hpk]
    rw [mx_net_at hX hk hpk] at h1 h2
    show mx_WF (if _ then _ else _ : Bool × GX).2
    by_cases hz : mx_a X (16 * i + k) + z = 0
    · rw [if_pos hz]; exact mx_WF_del hX hk
    · rw [if_neg hz]; exact mx_WF_set hX hk hpk hz h1 h2
  · rw [mx_fi_no hn]
    rw [mx_net_no hn] at h1 h2
    show mx_WF (if _ then _ else _ : Bool × GX).2
    by_cases hz : z = 0
    · rw [if_pos hz]; exact hX
    · rw [if_neg hz]
      by_cases hm : mx_m X i = 16
      · rw [if_pos hm]; exact hX
      · rw [if_neg hm]
        have := hX.m i
        exact mx_WF_app hX hi (by omega) hp hn hz (by omega) (by omega)
/-! the other calls -/
def mx_addX (X : GX) : GX := (mx_n X + 1, va_up (mx_t X) (mx_n X) true, mx_m X, mx_p X, mx_a X, mx_v X, mx_f X)
def mx_goX (X : GX) (i : Nat) : GX := (mx_n X, va_up (mx_t X) i false, mx_m X, mx_p X, mx_a X, mx_v X, mx_f X)
def mx_plX (X : GX) (p : Nat) (v f : Int) : GX := (mx_n X, mx_t X, mx_m X, mx_p X, mx_a X, va_up (mx_v X) p v, va_up (mx_f X) p f)
theorem mx_addX_rel {X Y : GX} (h : mx_Rel X Y) : mx_Rel (mx_addX X) (mx_addX Y) := by
  obtain ⟨h1, h2, h3, h4, h5⟩ := h
  refine ⟨by show mx_n X + 1 = mx_n Y + 1; rw [h1], fun i => ?_, h3, h4, h5⟩
  show va_up (mx_t X) (mx_n X) true i = va_up (mx_t Y) (mx_n Y) true i
  rw [← h1]; exact mx_vu (h2 i) rfl
theorem mx_goX_rel {X Y : GX} (h : mx_Rel X Y) (i : Nat) : mx_Rel (mx_goX X i) (mx_goX Y i) := by
  obtain ⟨h1, h2, h3, h4, h5⟩ := h
  exact ⟨h1, fun j => mx_vu (h2 j) rfl, h3, h4, h5⟩
theorem mx_plX_rel {X Y : GX} (h : mx_Rel X Y) (p : Nat) (v f : Int) : mx_Rel (mx_plX X p v f) (mx_plX Y p v f) := by
  obtain ⟨h1, h2, h3, h4, h5⟩ := h
  exact ⟨h1, h2, h3, h4, fun j hj => ⟨mx_vu (h5 j hj).1 rfl, mx_vu (h5 j hj).2 rfl⟩⟩
theorem mx_addX_wf {X : GX} (hX : mx_WF X) (hn : mx_n X < 200) : mx_WF (mx_addX X) := by
  refine ⟨by show mx_n X + 1 ≤ 200; omega, hX.m, fun i hi => ?_, fun i k hk => hX.net hk, fun i k k2 hk hk2 e => hX.one hk hk2 e, fun p hp => hX.pl hp⟩
  have hi : mx_n X + 1 ≤ i := hi
  show va_up (mx_t X) (mx_n X) true i = false ∧ mx_m X i = 0
  rw [va_up_ne _ _ (by omega)]
  exact hX.out (by omega)
theorem mx_goX_wf {X : GX} (hX : mx_WF X) (j : Nat) : mx_WF (mx_goX X j) := by
  refine ⟨hX.n, hX.m, fun i hi => ?_, fun i k hk => hX.net hk, fun i k k2 hk hk2 e => hX.one hk hk2 e, fun p hp => hX.pl hp⟩
  have hi : mx_n X ≤ i := hi
  show va_up (mx_t X) j false i = false ∧ mx_m X i = 0
  refine ⟨?_, (hX.out hi).2⟩
  by_cases e : i = j
  · subst e; exact va_up_self _ _ _
  · rw [va_up_ne _ _ e]; exact (hX.out hi).1
theorem mx_plX_wf {X : GX} (hX : mx_WF X) {p : Nat} {v f : Int} (h1 : -1000000000000000000 ≤ f) (h2 : f ≤ v) (h3 : v ≤ 1000000000000000000) : mx_WF (mx_plX X p v f) := by
  refine ⟨hX.n, hX.m, fun i hi => hX.out hi, fun i k hk => hX.net hk, fun i k k2 hk hk2 e => hX.one hk hk2 e, fun p2 hp2 => ?_⟩
  show _ ≤ va_up (mx_f X) p f p2 ∧ va_up (mx_f X) p f p2 ≤ va_up (mx_v X) p v p2 ∧ va_up (mx_v X) p v p2 ≤ _
  by_cases e : p2 = p
  · subst e; rw [va_up_self, va_up_self]; exact ⟨h1, h2, h3⟩
  · rw [va_up_ne _ _ e, va_up_ne _ _ e]; exact hX.pl hp2
def mx_X0 : GX := (0, fun _ => false, fun _ => 0, fun _ => 0, fun _ => 0, fun _ => 0, fun _ => 0)
theorem mx_X0_wf : mx_WF mx_X0 := by
  refine ⟨by decide, fun i => Nat.zero_le _, fun i _ => ⟨rfl, rfl⟩, fun i k hk => absurd hk (Nat.not_lt_zero _), fun i k k2 hk => absurd hk (Nat.not_lt_zero _), fun p _ => ?_⟩
  show (-1000000000000000000 : Int) ≤ 0 ∧ (0 : Int) ≤ 0 ∧ (0 : Int) ≤ 1000000000000000000
  decide
/-- the data behind a performance -/
def mx_Pf (X : GX) (S : Nat → Bool) (Y : GX) : Prop := mx_n Y = mx_n X ∧ (∀ i, mx_t Y i = (mx_t X i && !S i)) ∧ (∀ i, mx_m Y i = mx_m X i) ∧ (∀ i k, k < mx_m X i → mx_p Y (16 * i + k) = mx_p X (16 * i + k) ∧ mx_a Y (16 * i + k) = mx_a X (16 * i + k)) ∧ ∀ p, p < 300 → mx_v Y p = mx_tot X S p ∧ mx_f Y p = mx_f X p
theorem mx_Pf_rel {X X2 Y Y2 : GX} {S : Nat → Bool} (h : mx_Rel X X2) (h1 : mx_Pf X S Y) (h2 : mx_Pf X2 S Y2) : mx_Rel Y Y2 := by
  obtain ⟨a1, a2, a3, a4, a5⟩ := h1
  obtain ⟨b1, b2, b3, b4, b5⟩ := h2
  refine ⟨by rw [a1, b1, h.1], fun i => by rw [a2, b2, h.2.1], fun i => by rw [a3, b3, h.2.2.1], fun i k hk => ?_, fun p hp => ?_⟩
  · rw [a3] at hk
    have hk2 : k < mx_m X2 i := by rw [← h.2.2.1]; exact hk
    rw [(a4 i k hk).1, (a4 i k hk).2, (b4 i k hk2).1, (b4 i k hk2).2]
    exact h.2.2.2.1 i k hk
  · rw [(a5 p hp).1, (a5 p hp).2, (b5 p hp).1, (b5 p hp).2, h.tot S hp]
    exact ⟨rfl, (h.2.2.2.2 p hp).2⟩
theorem mx_Pf_wf {X Y : GX} {S : Nat → Bool} (hX : mx_WF X) (h : mx_Pf X S Y) (hS : mx_Feas X S) (hb : ∀ p, p < 300 → mx_tot X S p ≤ 1000000000000000000) : mx_WF Y := by
  obtain ⟨a1, a2, a3, a4, a5⟩ := h
  refine ⟨by rw [a1]; exact hX.n, fun i => by rw [a3]; exact hX.m i, fun i hi => ?_, fun i k hk => ?_, fun i k k2 hk hk2 e => ?_, fun p hp => ?_⟩
  · rw [a1] at hi
    rw [a2, a3, (hX.out hi).1]
    exact ⟨rfl, (hX.out hi).2⟩
  · rw [a3] at hk
    rw [(a4 i k hk).1, (a4 i k hk).2]
    exact hX.net hk
  · rw [a3] at hk hk2
    rw [(a4 i k hk).1, (a4 i k2 hk2).1] at e
    exact hX.one hk hk2 e
  · rw [(a5 p hp).1, (a5 p hp).2]
    exact ⟨(hX.pl hp).1, hS.2.1 p hp, hb p hp⟩
end
section
/-! PURE: what the walks of enter, leave, drop, dropAll, solve ask -/
def mx_en (X : GX) (n : Nat) (ah af la : Nat → Option Nat) : (Nat → Option Nat) × (Nat → Option Nat) × (Nat → Option Nat) :=
  if 0 < mx_a X n then (ah, af, la) else (va_up ah n (la (mx_p X n)), mx_enA af (la (mx_p X n)) n, va_up la (mx_p X n) (some n))
theorem mx_vs {α : Type} (f : Nat → α) (k : Nat) : va_up f k (f k) = f := by
  funext j
  by_cases e : j = k
  · subst e; exact va_up_self _ _ _
  · exact va_up_ne _ _ e
/-- the traversal behind net n: o is the next one, L2 what is on the stack -/
def mx_TI (X : GX) (P : Nat → Prop) (n : Nat) (o : Option Nat) (L L2 : List Nat) : Prop :=
  (∀ c, o = some c → P c ∧ n < c) ∧ (∀ m, P m → n < m → (∀ c, o = some c → m < c) → m / 16 ∈ L2) ∧ (∀ j, j ∈ L → j ∈ L2) ∧ ∀ j, j ∈ L2 → mx_No X j
theorem mx_TI_start {X : GX} {P : Nat → Prop} {n : Nat} {o : Option Nat} {L : List Nat} (hx : mx_nx P n o) (hL : ∀ j, j ∈ L → mx_No X j) : mx_TI X P n o L L := by
  refine ⟨fun c hc => ?_, fun m hm hnm hc => ?_, fun _ h => h, hL⟩
  · subst hc; exact ⟨hx.1, hx.2.1⟩
  · cases o with
    | none => have := hx m hm; omega
    | some c =>
      have h1 := hc c rfl
      have h2 := hx.2.2 m hm hnm
      omega
theorem mx_TI_step {X : GX} {P : Nat → Prop} {n c : Nat} {o : Option Nat} {L L2 : List Nat} (h : mx_TI X P n (some c) L L2) (hx : mx_nx P c o) (hN : mx_No X (c / 16)) : mx_TI X P n o L (mx_pp L2 (c / 16)) := by
  obtain ⟨h1, h2, h3, h4⟩ := h
  have hc := h1 c rfl
  refine ⟨fun c2 hc2 => ?_, fun m hm hnm hc2 => ?_, fun j hj => mx_pp_mem.mpr (Or.inl (h3 j hj)), fun j hj => ?_⟩
  · subst hc2; exact ⟨hx.1, by have := hx.2.1; omega⟩
  · rcases Nat.lt_trichotomy m c with q | q | q
    · exact mx_pp_mem.mpr (Or.inl (h2 m hm hnm (fun c3 e => by cases e; exact q)))
    · subst q; exact mx_pp_mem.mpr (Or.inr rfl)
    · cases o with
      | none => have := hx m hm; omega
      | some c3 =>
        have g1 := hc2 c3 rfl
        have g2 := hx.2.2 m hm q
        omega
  · rcases mx_pp_mem.mp hj with q | q
    · exact h4 j q
    · rw [q]; exact hN
theorem mx_DI_fit {X : GX} (hX : mx_WF X) {i n : Nat} {inn : Nat → Bool} {ah af la : Nat → Option Nat} {su : Nat → Int} {S L : List Nat} {E : Nat → Prop} (hn : n / 16 = i) (hu : n % 16 < mx_m X i) (h : mx_DI X i n inn ah af la su S L E) : mx_fit (su (mx_p X n) - mx_a X n) := by
  have hu2 : n % 16 < mx_m X (n / 16) := by rw [hn]; exact hu
  have hpl := (mx_used hX hu2).2.2.1
  have := mx_SI_leave hX rfl hu2 (mx_Zd_at hn) h.2.2.2.2.1 (mx_p X n) hpl
  rw [va_up_self] at this
  rw [this]
  exact mx_sZ_fit hX _ hpl
theorem mx_DI_lv {X : GX} (hX : mx_WF X) {i n : Nat} {inn : Nat → Bool} {ah af la : Nat → Option Nat} {su : Nat → Int} {S L : List Nat} {E : Nat → Prop} (hn : n / 16 = i) (hu : n % 16 < mx_m X i) (ha : mx_a X n < 0) (h : mx_DI X i n inn ah af la su S L E) :
    mx_nx (mx_q X (mx_Zd inn i n) (mx_p X n)) n (af n) ∧ (∀ k, af n = some k → k < 3200 ∧ k ≠ n) ∧ (∀ k, ah n = some k → k < 3200) := by
  have hu2 : n % 16 < mx_m X (n / 16) := by rw [hn]; exact hu
  have hpl := (mx_used hX hu2).2.2.1
  obtain ⟨hx, hv⟩ := (h.2.2.2.1 (mx_p X n) hpl).2 n ⟨hu2, rfl, ha, mx_Zd_at hn⟩
  refine ⟨hx, fun k hk => ?_, fun k hk => ?_⟩
  · rw [hk] at hx
    exact ⟨(mx_used hX hx.1.1).2.1, by have := hx.2.1; omega⟩
  · rw [hk] at hv
    exact (mx_used hX hv.1.1).2.1
theorem mx_DI_nx {X : GX} (hX : mx_WF X) {i n c : Nat} {inn : Nat → Bool} {ah af la : Nat → Option Nat} {su : Nat → Int} {S L : List Nat} {E : Nat → Prop} (hn : n / 16 = i) (hu : n % 16 < mx_m X i) (h : mx_DI X i n inn ah af la su S L E) (hc : mx_q X (mx_Zd inn i n) (mx_p X n) c) : mx_nx (mx_q X (mx_Zd inn i n) (mx_p X n)) c (af c) := by
  have hu2 : n % 16 < mx_m X (n / 16) := by rw [hn]; exact hu
  have hpl := (mx_used hX hu2).2.2.1
  exact ((h.2.2.2.1 (mx_p X n) hpl).2 c hc).1
theorem mx_DI_No {X : GX} {i n : Nat} {inn : Nat → Bool} {ah af la : Nat → Option Nat} {su : Nat → Int} {S L : List Nat} {E : Nat → Prop} (h : mx_DI X i n inn ah af la su S L E) : ∀ j, j ∈ L → mx_No X j := h.2.2.2.2.2.2.1
theorem mx_MI_fit {X : GX} (hX : mx_WF X) {inn : Nat → Bool} {ah af la : Nat → Option Nat} {su : Nat → Int} {S L : List Nat} {E : Nat → Prop} (h : mx_MI X inn ah af la su S L E) {p : Nat} (hp : p < 300) : mx_fit (su p) := by
  rw [h.2.2.1 p hp]; exact mx_sZ_fit hX _ hp
theorem mx_f_fit {X : GX} (hX : mx_WF X) {p : Nat} (hp : p < 300) : mx_fit (mx_f X p) := by
  have := hX.pl hp
  unfold mx_fit; omega
theorem mx_v_fit {X : GX} (hX : mx_WF X) {p : Nat} (hp : p < 300) : mx_fit (mx_v X p) := by
  have := hX.pl hp
  unfold mx_fit; omega
/-- a short position comes off the stack, and goes back as one that is looked at -/
theorem mx_MI_popS {X : GX} {inn : Nat → Bool} {ah af la : Nat → Option Nat} {su : Nat → Int} {S L : List Nat} {p : Nat} (h : mx_MI X inn ah af la su (S ++ [p]) L (fun _ => False)) : mx_MI X inn ah af la su S L (fun x => x = p) := by
  obtain ⟨h1, h2, h3, h4, h5, h6, h7⟩ := h
  refine ⟨h1, h2, h3, h4, h5, h6, fun x hx hs => ?_⟩
  rcases h7 x hx hs with q | q
  · rcases List.mem_append.mp q with q | q
    · exact Or.inl q
    · exact Or.inr (List.mem_singleton.mp q)
  · exact q.elim
theorem mx_MI_done {X : GX} {inn : Nat → Bool} {ah af la : Nat → Option Nat} {su : Nat → Int} {S L : List Nat} {p : Nat} (h : mx_MI X inn ah af la su S L (fun x => x = p)) (hp : mx_f X p ≤ su p) : mx_MI X inn ah af la su S L (fun _ => False) := by
  obtain ⟨h1, h2, h3, h4, h5, h6, h7⟩ := h
  refine ⟨h1, h2, h3, h4, h5, h6, fun x hx hs => ?_⟩
  rcases h7 x hx hs with q | q
  · exact Or.inl q
  · subst q; omega
theorem mx_up_sub {inn : Nat → Bool} {i j : Nat} (h : va_up inn i false j = true) : inn j = true := by
  by_cases e : j = i
  · subst e; rw [va_up_self] at h; cases h
  · rw [va_up_ne _ _ e] at h; exact h
theorem mx_cnt_up {inn : Nat → Bool} {i : Nat} (hi : inn i = true) (hl : i < 200) : mx_cnt (va_up inn i false) 200 < mx_cnt inn 200 := mx_cnt_lt (S := va_up inn i false) (T := inn) (k := i) (fun _ h => mx_up_sub h) hi (va_up_self _ _ _) 200 hl
theorem mx_last_ex {α : Type} (L : List α) (h : L.length ≠ 0) : ∃ (L2 : List α) (v : α), L = L2 ++ [v] := by
  have hne : L ≠ [] := fun e => h (by rw [e]; rfl)
  exact ⟨L.dropLast, L.getLast hne, (List.dropLast_concat_getLast hne).symm⟩
abbrev GU : Type := (Nat → Option Nat) × (Nat → Option Nat) × (Nat → Option Nat) × (Nat → Int) × (Nat → Int32) × List Nat × (Nat → Int32) × List Nat
abbrev wGu (q : Nat → Nat) (ct : Nat → ClassId) (X : GX) (inn : Nat → Bool) (u : GU) : va_W := wG q ct X inn u.1 u.2.1 u.2.2.1 u.2.2.2.1 u.2.2.2.2.1 u.2.2.2.2.2.1 u.2.2.2.2.2.2.1 u.2.2.2.2.2.2.2
def mx_MU (X : GX) (inn : Nat → Bool) (u : GU) (E : Nat → Prop) : Prop := mx_MI X inn u.1 u.2.1 u.2.2.1 u.2.2.2.1 u.2.2.2.2.2.1 u.2.2.2.2.2.2.2 E ∧ mx_pOk 300 u.2.2.2.2.1 u.2.2.2.2.2.1 ∧ mx_pOk 200 u.2.2.2.2.2.2.1 u.2.2.2.2.2.2.2
end
section
/-! PURE: the answers of the desk's calls -/
def mx_in (z b : Int) : Bool := decide (-b ≤ z) && decide (z ≤ b)
theorem mx_in_iff {z b : Int} : mx_in z b = true ↔ (-b ≤ z ∧ z ≤ b) := by
  unfold mx_in
  simp
def mx_plF (X : GX) (x : Int32) (v f : Int) : Bool × GX := if mx_isP x = true ∧ mx_in v 1000000000000000000 = true ∧ mx_in f 1000000000000000000 = true ∧ f ≤ v then (true, mx_plX X x.toInt.toNat v f) else (false, X)
noncomputable def mx_netG (X : GX) (x y : Int32) (z : Int) : Bool × GX := if mx_isT X x = true ∧ mx_isP y = true ∧ mx_in z 2000000000000000 = true ∧ mx_in (mx_net X x.toInt.toNat y.toInt.toNat + z) 1000000000000000 = true then mx_netF X x.toInt.toNat y.toInt.toNat z else (false, X)
def mx_goF (X : GX) (x : Int32) : Bool × GX := if mx_isT X x = true then (true, mx_goX X x.toInt.toNat) else (false, X)
def mx_inF (n : Nat) (inn : Nat → Bool) (x : Int32) : Bool := decide (0 ≤ x.toInt) && (decide (x.toInt < n) && inn x.toInt.toNat)
def mx_vF (X : GX) (x : Int32) : Int := if mx_isP x = true then mx_v X x.toInt.toNat else 0
def mx_nF (X : GX) (x y : Int32) : Int := if mx_isT X x = true ∧ mx_isP y = true then mx_net X x.toInt.toNat y.toInt.toNat else 0
def mx_cF (n a b : Nat) (x : Int32) : Int32 := if x = 0 then nI n else if x = nI 1 then nI a else if x = nI 2 then nI b else mx_o none
theorem mx_ti {j : Nat} (h : j < 2 ^ 31) : (nI j).toInt.toNat = j := by rw [nI_toInt h]; rfl
theorem mx_inF_neg {n : Nat} {inn : Nat → Bool} {x : Int32} (h : x < 0) : mx_inF n inn x = false := by
  unfold mx_inF
  rw [Int32.lt_iff_toInt_lt, Int32.toInt_zero] at h
  rw [decide_eq_false (by omega)]
  rfl
theorem mx_inF_nI {n : Nat} {inn : Nat → Bool} {j : Nat} (hj : j < 2 ^ 31) : mx_inF n inn (nI j) = (decide (j < n) && inn j) := by
  unfold mx_inF
  rw [nI_toInt hj, decide_eq_true (by omega : (0 : Int) ≤ (j : Int))]
  have e : decide ((j : Int) < (n : Int)) = decide (j < n) := by
    by_cases h : j < n
    · rw [decide_eq_true h, decide_eq_true (by omega)]
    · rw [decide_eq_false h, decide_eq_false (by omega)]
  rw [e]
  simp
theorem mx_inF_ext {n : Nat} {inn : Nat → Bool} (hn : n ≤ 200) (h : ∀ i, n ≤ i → inn i = false) (x : Int32) : mx_inF n inn x = mx_inF 200 inn x := by
  by_cases hx : x < 0
  · rw [mx_inF_neg hx, mx_inF_neg hx]
  · obtain ⟨j, hj, rfl⟩ := nI_of hx
    rw [mx_inF_nI hj, mx_inF_nI hj]
    by_cases h1 : j < n
    · rw [decide_eq_true h1, decide_eq_true (by omega : j < 200)]
    · rw [decide_eq_false h1, h j (by omega)]; simp
theorem mx_plF_rel {X Y : GX} (h : mx_Rel X Y) (x : Int32) (v f : Int) : (mx_plF X x v f).1 = (mx_plF Y x v f).1 ∧ mx_Rel (mx_plF X x v f).2 (mx_plF Y x v f).2 := by
  unfold mx_plF
  split
  · exact ⟨rfl, mx_plX_rel h _ _ _⟩
  · exact ⟨rfl, h⟩
theorem mx_plF_wf {X : GX} (h : mx_WF X) (x : Int32) (v f : Int) : mx_WF (mx_plF X x v f).2 := by
  unfold mx_plF
  split
  · next hc =>
    have h2 := mx_in_iff.mp hc.2.1
    have h3 := mx_in_iff.mp hc.2.2.1
    exact mx_plX_wf h h3.1 hc.2.2.2 h2.2
  · exact h
theorem mx_goF_rel {X Y : GX} (h : mx_Rel X Y) (x : Int32) : (mx_goF X x).1 = (mx_goF Y x).1 ∧ mx_Rel (mx_goF X x).2 (mx_goF Y x).2 := by
  unfold mx_goF
  rw [← h.isT]
  split
  · exact ⟨rfl, mx_goX_rel h _⟩
  · exact ⟨rfl, h⟩
theorem mx_goF_wf {X : GX} (h : mx_WF X) (x : Int32) : mx_WF (mx_goF X x).2 := by
  unfold mx_goF
  split
  · exact mx_goX_wf h _
  · exact h
theorem mx_goF_n {X : GX} (x : Int32) : mx_n (mx_goF X x).2 = mx_n X := by
  unfold mx_goF
  split <;> rfl
theorem mx_plF_n {X : GX} (x : Int32) (v f : Int) : mx_n (mx_plF X x v f).2 = mx_n X := by
  unfold mx_plF
  split <;> rfl
theorem mx_netF_n {X : GX} (i p : Nat) (z : Int) : mx_n (mx_netF X i p z).2 = mx_n X := by
  unfold mx_netF
  cases mx_fi X i p with
  | none =>
    show mx_n (if _ then _ else _ : Bool × GX).2 = _
    split
    · rfl
    · split <;> rfl
  | some k =>
    show mx_n (if _ then _ else _ : Bool × GX).2 = _
    split <;> rfl
theorem mx_netG_n {X : GX} (x y : Int32) (z : Int) : mx_n (mx_netG X x y z).2 = mx_n X := by
  unfold mx_netG
  split
  · exact mx_netF_n _ _ _
  · rfl
theorem mx_netG_rel {X Y : GX} (h : mx_Rel X Y) (hX : mx_WF X) (x y : Int32) (z : Int) : (mx_netG X x y z).1 = (mx_netG Y x y z).1 ∧ mx_Rel (mx_netG X x y z).2 (mx_netG Y x y z).2 := by
  unfold mx_netG
  rw [← h.isT, ← h.net]
  split
  · exact mx_netF_rel h hX _ _ _
  · exact ⟨rfl, h⟩
theorem mx_netG_wf {X : GX} (h : mx_WF X) (x y : Int32) (z : Int) : mx_WF (mx_netG X x y z).2 := by
  unfold mx_netG
  split
  · next hc =>
    obtain ⟨i, hi, -, rfl⟩ := mx_isT_of hc.1
    obtain ⟨j, hj, rfl⟩ := mx_isP_of hc.2.1
    have hn := h.n
    have h4 := mx_in_iff.mp hc.2.2.2
    rw [mx_ti (by omega), mx_ti (by omega)] at h4 ⊢
    exact mx_netF_wf h hi hj h4.1 h4.2
  · exact h
theorem mx_nF_rel {X Y : GX} (h : mx_Rel X Y) (x y : Int32) : mx_nF X x y = mx_nF Y x y := by
  unfold mx_nF
  rw [← h.isT, ← h.net]
theorem mx_vF_rel {X Y : GX} (h : mx_Rel X Y) (x : Int32) : mx_vF X x = mx_vF Y x := by
  unfold mx_vF
  split
  · next hc =>
    obtain ⟨j, hj, rfl⟩ := mx_isP_of hc
    rw [mx_ti (by omega)]
    exact (h.2.2.2.2 j hj).1
  · rfl
end
section
theorem d_P_isEmpty_0 : decode b_P_isEmpty 0 = .ok (.aload_n 0, 1) := by decide +kernel
theorem d_P_isEmpty_1 : decode b_P_isEmpty 1 = .ok (.getfield 17, 3) := by decide +kernel
theorem d_P_isEmpty_4 : decode b_P_isEmpty 4 = .ok (.ifCond .ne 7, 3) := by decide +kernel
theorem d_P_isEmpty_7 : decode b_P_isEmpty 7 = .ok (.iconst 1, 1) := by decide +kernel
theorem d_P_isEmpty_8 : decode b_P_isEmpty 8 = .ok (.goto 4, 3) := by decide +kernel
theorem d_P_isEmpty_11 : decode b_P_isEmpty 11 = .ok (.iconst 0, 1) := by decide +kernel
theorem d_P_isEmpty_12 : decode b_P_isEmpty 12 = .ok (.ireturn, 1) := by decide +kernel
theorem d_P_push_0 : decode b_P_push 0 = .ok (.aload_n 0, 1) := by decide +kernel
theorem d_P_push_1 : decode b_P_push 1 = .ok (.getfield 13, 3) := by decide +kernel
theorem d_P_push_4 : decode b_P_push 4 = .ok (.iload_n 1, 1) := by decide +kernel
theorem d_P_push_5 : decode b_P_push 5 = .ok (.baload, 1) := by decide +kernel
theorem d_P_push_6 : decode b_P_push 6 = .ok (.ifCond .eq 4, 3) := by decide +kernel
theorem d_P_push_9 : decode b_P_push 9 = .ok (.return_, 1) := by decide +kernel
theorem d_P_push_10 : decode b_P_push 10 = .ok (.aload_n 0, 1) := by decide +kernel
theorem d_P_push_11 : decode b_P_push 11 = .ok (.getfield 13, 3) := by decide +kernel
theorem d_P_push_14 : decode b_P_push 14 = .ok (.iload_n 1, 1) := by decide +kernel
theorem d_P_push_15 : decode b_P_push 15 = .ok (.iconst 1, 1) := by decide +kernel
theorem d_P_push_16 : decode b_P_push 16 = .ok (.bastore, 1) := by decide +kernel
theorem d_P_push_17 : decode b_P_push 17 = .ok (.aload_n 0, 1) := by decide +kernel
theorem d_P_push_18 : decode b_P_push 18 = .ok (.getfield 7, 3) := by decide +kernel
theorem d_P_push_21 : decode b_P_push 21 = .ok (.aload_n 0, 1) := by decide +kernel
theorem d_P_push_22 : decode b_P_push 22 = .ok (.getfield 17, 3) := by decide +kernel
theorem d_P_push_25 : decode b_P_push 25 = .ok (.iload_n 1, 1) := by decide +kernel
theorem d_P_push_26 : decode b_P_push 26 = .ok (.i2s, 1) := by decide +kernel
theorem d_P_push_27 : decode b_P_push 27 = .ok (.sastore, 1) := by decide +kernel
theorem d_P_push_28 : decode b_P_push 28 = .ok (.aload_n 0, 1) := by decide +kernel
theorem d_P_push_29 : decode b_P_push 29 = .ok (.dup, 1) := by decide +kernel
theorem d_P_push_30 : decode b_P_push 30 = .ok (.getfield 17, 3) := by decide +kernel
theorem d_P_push_33 : decode b_P_push 33 = .ok (.iconst 1, 1) := by decide +kernel
theorem d_P_push_34 : decode b_P_push 34 = .ok (.iadd, 1) := by decide +kernel
theorem d_P_push_35 : decode b_P_push 35 = .ok (.putfield 17, 3) := by decide +kernel
theorem d_P_push_38 : decode b_P_push 38 = .ok (.return_, 1) := by decide +kernel
theorem d_P_pop_0 : decode b_P_pop 0 = .ok (.aload_n 0, 1) := by decide +kernel
theorem d_P_pop_1 : decode b_P_pop 1 = .ok (.dup, 1) := by decide +kernel
theorem d_P_pop_2 : decode b_P_pop 2 = .ok (.getfield 17, 3) := by decide +kernel
theorem d_P_pop_5 : decode b_P_pop 5 = .ok (.iconst 1, 1) := by decide +kernel
theorem d_P_pop_6 : decode b_P_pop 6 = .ok (.isub, 1) := by decide +kernel
theorem d_P_pop_7 : decode b_P_pop 7 = .ok (.putfield 17, 3) := by decide +kernel
theorem d_P_pop_10 : decode b_P_pop 10 = .ok (.aload_n 0, 1) := by decide +kernel
theorem d_P_pop_11 : decode b_P_pop 11 = .ok (.getfield 13, 3) := by decide +kernel
theorem d_P_pop_14 : decode b_P_pop 14 = .ok (.aload_n 0, 1) := by decide +kernel
theorem d_P_pop_15 : decode b_P_pop 15 = .ok (.getfield 7, 3) := by decide +kernel
theorem d_P_pop_18 : decode b_P_pop 18 = .ok (.aload_n 0, 1) := by decide +kernel
theorem d_P_pop_19 : decode b_P_pop 19 = .ok (.getfield 17, 3) := by decide +kernel
theorem d_P_pop_22 : decode b_P_pop 22 = .ok (.saload, 1) := by decide +kernel
theorem d_P_pop_23 : decode b_P_pop 23 = .ok (.iconst 0, 1) := by decide +kernel
theorem d_P_pop_24 : decode b_P_pop 24 = .ok (.bastore, 1) := by decide +kernel
theorem d_P_pop_25 : decode b_P_pop 25 = .ok (.aload_n 0, 1) := by decide +kernel
theorem d_P_pop_26 : decode b_P_pop 26 = .ok (.getfield 7, 3) := by decide +kernel
theorem d_P_pop_29 : decode b_P_pop 29 = .ok (.aload_n 0, 1) := by decide +kernel
theorem d_P_pop_30 : decode b_P_pop 30 = .ok (.getfield 17, 3) := by decide +kernel
theorem d_P_pop_33 : decode b_P_pop 33 = .ok (.saload, 1) := by decide +kernel
theorem d_P_pop_34 : decode b_P_pop 34 = .ok (.ireturn, 1) := by decide +kernel
theorem d_A_value_0 : decode b_A_value 0 = .ok (.aload_n 0, 1) := by decide +kernel
theorem d_A_value_1 : decode b_A_value 1 = .ok (.getfield 9, 3) := by decide +kernel
theorem d_A_value_4 : decode b_A_value 4 = .ok (.iload_n 1, 1) := by decide +kernel
theorem d_A_value_5 : decode b_A_value 5 = .ok (.laload, 1) := by decide +kernel
theorem d_A_value_6 : decode b_A_value 6 = .ok (.lreturn, 1) := by decide +kernel
theorem d_A_floor_0 : decode b_A_floor 0 = .ok (.aload_n 0, 1) := by decide +kernel
theorem d_A_floor_1 : decode b_A_floor 1 = .ok (.getfield 13, 3) := by decide +kernel
theorem d_A_floor_4 : decode b_A_floor 4 = .ok (.iload_n 1, 1) := by decide +kernel
theorem d_A_floor_5 : decode b_A_floor 5 = .ok (.laload, 1) := by decide +kernel
theorem d_A_floor_6 : decode b_A_floor 6 = .ok (.lreturn, 1) := by decide +kernel
abbrev rm_P_isEmpty : Room := { frames := 0, cells := 0, slots := 0, locals := 0 }
abbrev rm_P_push : Room := { frames := 0, cells := 0, slots := 0, locals := 0 }
abbrev rm_P_pop : Room := { frames := 0, cells := 0, slots := 0, locals := 0 }
abbrev rm_A_value : Room := { frames := 0, cells := 0, slots := 0, locals := 0 }
abbrev rm_A_floor : Room := { frames := 0, cells := 0, slots := 0, locals := 0 }
set_option maxHeartbeats 4000000 in
set_option maxRecDepth 100000 in
/-- Pile.isEmpty -/
theorem c_P_isEmpty (l : Launch) (D : va_G) (ct : Nat → ClassId) (sz : Nat) (a r h cap : Nat) (row : Nat → Int32) (L : List Nat) (hL : L.length ≤ 300) : gd_ctI l y_P_isEmpty k_P_isEmpty rm_P_isEmpty D ct [.ref a] sz (wP a r h ct cap row L) (S := Unit) (fun r u => r = mx_b (decide (L.length = 0))) (fun u => wP a r h ct cap row L) := by
  refine gd_entI (by decide +kernel) rfl (Nat.le_of_ble_eq_true rfl) (fun p e s m below meth c Q A ls cx hw hl hret => ?_)
  have hx := cx.1
  have hb := cx.2.1
  have hl : lv_has ls 1 [(0, .ref a)] := hl
  refine lv_aload_n hx hb d_P_isEmpty_0 rfl (lv_at hl 0 rfl) ?_
  refine gd_get (v := .int (nI ((L).length))) i_P cx hw 0 rfl rfl 2 (by decide) tw_44 rfl rfl d_P_isEmpty_1 ?_
  refine gd_ifne0 (tgt := 11) hx hb d_P_isEmpty_4 (by decide) (by omega) (fun h4 => ?_) (fun h4 => ?_)
  · refine lv_iconst (v := nI 0) hx hb d_P_isEmpty_11 (by decide) ?_
    exact hret _ () _ _ _ _ rfl d_P_isEmpty_12 (by simp [mx_b, h4] <;> rfl) hw
  · refine lv_iconst (v := nI 1) hx hb d_P_isEmpty_7 (by decide) ?_
    refine lv_goto (tgt := 12) hx hb d_P_isEmpty_8 (by decide) ?_
    exact hret _ () _ _ _ _ rfl d_P_isEmpty_12 (by simp [mx_b, h4] <;> rfl) hw
set_option maxHeartbeats 4000000 in
set_option maxRecDepth 100000 in
/-- Pile.push: the number comes on top, if it is not there -/
theorem c_P_push (l : Launch) (D : va_G) (ct : Nat → ClassId) (sz : Nat) (a r h cap : Nat) (row : Nat → Int32) (L : List Nat) (v : Nat) (hcap : cap ≤ 300) (hv : v < cap) (hP : mx_pOk cap row L) : gd_ctV l y_P_push k_P_push rm_P_push D ct [.ref a, .int (nI v)] sz (wP a r h ct cap row L) (S := (Nat → Int32)) (fun u => mx_pOk cap u (mx_pp L v)) (fun u => wP a r h ct cap u (mx_pp L v)) 0 0 := by
  refine gd_entV (by decide +kernel) rfl (Nat.le_of_ble_eq_true rfl) (fun p e s m below meth c Q A ls cx hmn hw hl hret => ?_)
  have hx := cx.1
  have hb := cx.2.1
  have hl : lv_has ls 2 [(0, .ref a), (1, .int (nI v))] := hl
  refine lv_aload_n hx hb d_P_push_0 rfl (lv_at hl 0 rfl) ?_
  refine gd_get (v := .ref h) i_P cx hw 0 rfl rfl 1 (by decide) tw_43 rfl rfl d_P_push_1 ?_
  refine lv_iload_n hx hb d_P_push_4 rfl (lv_at hl 1 rfl) ?_
  refine gd_zld (v := mx_b (decide (v ∈ L))) cx hw 2 rfl (by omega) (by omega) rfl d_P_push_5 ?_
  refine gd_ifeq (tgt := 10) hx hb d_P_push_6 (by decide) (fun h6 => ?_) (fun h6 => ?_)
  · have hn : v ∉ L := of_decide_eq_false h6
    have hlen := hP.room hv hn
    refine lv_aload_n hx hb d_P_push_10 rfl (lv_at hl 0 rfl) ?_
    refine gd_get (v := .ref h) i_P cx hw 0 rfl rfl 1 (by decide) tw_43 rfl rfl d_P_push_11 ?_
    refine lv_iload_n hx hb d_P_push_14 rfl (lv_at hl 1 rfl) ?_
    refine lv_iconst (v := nI 1) hx hb d_P_push_15 (by decide) ?_
    refine gd_zst (g := fun i9 => mx_b ((va_up (fun w8 => decide (w8 ∈ L)) v true) i9)) (wn := [(a, .inr (3, [.ref r, .ref h, .int (nI ((L).length))])), (r, .inl (ct 2, cap, .inl row)), (h, .inl (ct 0, cap, .inl (fun w9 => mx_b ((va_up (fun w8 => decide (w8 ∈ L)) v true) w9))))]) cx hw 2 rfl (by omega) (by omega) (gd_hz true (by decide)) rfl d_P_push_16 (fun H locs hw => ?_)
    refine lv_aload_n hx hb d_P_push_17 rfl (lv_at hl 0 rfl) ?_
    refine gd_get (v := .ref r) i_P cx hw 0 rfl rfl 0 (by decide) tw_42 rfl rfl d_P_push_18 ?_
    refine lv_aload_n hx hb d_P_push_21 rfl (lv_at hl 0 rfl) ?_
    refine gd_get (v := .int (nI ((L).length))) i_P cx hw 0 rfl rfl 2 (by decide) tw_44 rfl rfl d_P_push_22 ?_
    refine lv_iload_n hx hb d_P_push_25 rfl (lv_at hl 1 rfl) ?_
    refine lv_i2s (v := nI v) hx hb d_P_push_26 (gd_i2s (by omega)) ?_
    refine gd_sst (g := upd row ((L).length) (nI v)) (wn := [(a, .inr (3, [.ref r, .ref h, .int (nI ((L).length))])), (r, .inl (ct 2, cap, .inl (upd row ((L).length) (nI v)))), (h, .inl (ct 0, cap, .inl (fun w9 => mx_b ((va_up (fun w8 => decide (w8 ∈ L)) v true) w9))))]) cx hw 1 rfl (by omega) (by omega) (by rw [gd_nars (by omega)]) rfl d_P_push_27 (fun H locs hw => ?_)
    refine lv_aload_n hx hb d_P_push_28 rfl (lv_at hl 0 rfl) ?_
    refine lv_dup hx hb d_P_push_29 rfl ?_
    refine gd_get (v := .int (nI ((L).length))) i_P cx hw 0 rfl rfl 2 (by decide) tw_44 rfl rfl d_P_push_30 ?_
    refine lv_iconst (v := nI 1) hx hb d_P_push_33 (by decide) ?_
    refine gd_iadd hx hb d_P_push_34 ?_
    refine gd_put (ty := .int) (wn := [(a, .inr (3, [.ref r, .ref h, .int (nI (((L).length) + 1))])), (r, .inl (ct 2, cap, .inl (upd row ((L).length) (nI v)))), (h, .inl (ct 0, cap, .inl (fun w9 => mx_b ((va_up (fun w8 => decide (w8 ∈ L)) v true) w9))))]) i_P t_P t_P_ok n_P cx hw 0 rfl rfl 2 (by decide) tw_44 rfl rfl (by decide +kernel) rfl rfl (Nat.le_of_ble_eq_true rfl) rfl d_P_push_35 (fun H locs hw => ?_)
    have e1 : mx_pp L v = L ++ [v] := if_neg hn
    have e3 : (L ++ [v]).length = L.length + 1 := by simp
    have e4 : (fun w => mx_b (decide (w ∈ L ++ [v]))) = fun w => mx_b ((va_up (fun v => decide (v ∈ L)) v true) w) := by rw [mx_has_push]
    refine hret (upd row L.length (nI v)) _ _ _ _ _ _ (Nat.le_refl _) (Nat.le_refl _) d_P_push_38 (by rw [e1]; exact hP.push hv hn) ?_
    rw [e1]
    show gd_Ws D A s [(a, .inr (3, [.ref r, .ref h, .int (nI (L ++ [v]).length)])), (r, .inl (ct 2, cap, .inl (upd row L.length (nI v)))), (h, .inl (ct 0, cap, .inl (fun w => mx_b (decide (w ∈ L ++ [v])))))] H locs
    rw [e3, e4]
    exact hw
  · have hm : v ∈ L := of_decide_eq_true h6
    have e1 : mx_pp L v = L := if_pos hm
    exact hret row _ _ _ _ _ _ (Nat.le_refl _) (Nat.le_refl _) d_P_push_9 (by rw [e1]; exact hP) (by rw [e1]; exact hw)
set_option maxHeartbeats 4000000 in
set_option maxRecDepth 100000 in
/-- Pile.pop: the top one goes -/
theorem c_P_pop (l : Launch) (D : va_G) (ct : Nat → ClassId) (sz : Nat) (a r h cap : Nat) (row : Nat → Int32) (L : List Nat) (v : Nat) (hcap : cap ≤ 300) (hP : mx_pOk cap row (L ++ [v])) : gd_ctI l y_P_pop k_P_pop rm_P_pop D ct [.ref a] sz (wP a r h ct cap row (L ++ [v])) (S := Unit) (fun r u => r = nI v) (fun u => wP a r h ct cap row L) := by
  refine gd_entI (by decide +kernel) rfl (Nat.le_of_ble_eq_true rfl) (fun p e s m below meth c Q A ls cx hw hl hret => ?_)
  have hx := cx.1
  have hb := cx.2.1
  have hl : lv_has ls 1 [(0, .ref a)] := hl
  obtain ⟨hP2, hrow, hv, hnv, hlt⟩ := hP.pop
  have e3 : (L ++ [v]).length - 1 = L.length := by simp
  have e5 : (L ++ [v]).length = L.length + 1 := by simp
  refine lv_aload_n hx hb d_P_pop_0 rfl (lv_at hl 0 rfl) ?_
  refine lv_dup hx hb d_P_pop_1 rfl ?_
  refine gd_get (v := .int (nI ((L ++ [v]).length))) i_P cx hw 0 rfl rfl 2 (by decide) tw_44 rfl rfl d_P_pop_2 ?_
  refine lv_iconst (v := nI 1) hx hb d_P_pop_5 (by decide) ?_
  refine gd_isub hx hb d_P_pop_6 (by omega) ?_
  refine gd_put (ty := .int) (wn := [(a, .inr (3, [.ref r, .ref h, .int (nI (((L ++ [v]).length) - 1))])), (r, .inl (ct 2, cap, .inl row)), (h, .inl (ct 0, cap, .inl (fun w9 => mx_b ((fun w8 => decide (w8 ∈ L ++ [v])) w9))))]) i_P t_P t_P_ok n_P cx hw 0 rfl rfl 2 (by decide) tw_44 rfl rfl (by decide +kernel) rfl rfl (Nat.le_of_ble_eq_true rfl) rfl d_P_pop_7 (fun H locs hw => ?_)
  refine lv_aload_n hx hb d_P_pop_10 rfl (lv_at hl 0 rfl) ?_
  refine gd_get (v := .ref h) i_P cx hw 0 rfl rfl 1 (by decide) tw_43 rfl rfl d_P_pop_11 ?_
  refine lv_aload_n hx hb d_P_pop_14 rfl (lv_at hl 0 rfl) ?_
  refine gd_get (v := .ref r) i_P cx hw 0 rfl rfl 0 (by decide) tw_42 rfl rfl d_P_pop_15 ?_
  refine lv_aload_n hx hb d_P_pop_18 rfl (lv_at hl 0 rfl) ?_
  refine gd_get (v := .int (nI (((L ++ [v]).length) - 1))) i_P cx hw 0 rfl rfl 2 (by decide) tw_44 rfl rfl d_P_pop_19 ?_
  refine gd_sld (v := nI v) cx hw 1 rfl (by omega) (by omega) (by rw [e3]; exact hrow) d_P_pop_22 ?_
  refine lv_iconst (v := nI 0) hx hb d_P_pop_23 (by decide) ?_
  refine gd_zst (g := fun i9 => mx_b ((va_up (fun w8 => decide (w8 ∈ L ++ [v])) v false) i9)) (wn := [(a, .inr (3, [.ref r, .ref h, .int (nI (((L ++ [v]).length) - 1))])), (r, .inl (ct 2, cap, .inl row)), (h, .inl (ct 0, cap, .inl (fun w9 => mx_b ((va_up (fun w8 => decide (w8 ∈ L ++ [v])) v false) w9))))]) cx hw 2 rfl (by omega) (by omega) (gd_hz false (by decide)) rfl d_P_pop_24 (fun H locs hw => ?_)
  refine lv_aload_n hx hb d_P_pop_25 rfl (lv_at hl 0 rfl) ?_
  refine gd_get (v := .ref r) i_P cx hw 0 rfl rfl 0 (by decide) tw_42 rfl rfl d_P_pop_26 ?_
  refine lv_aload_n hx hb d_P_pop_29 rfl (lv_at hl 0 rfl) ?_
  refine gd_get (v := .int (nI (((L ++ [v]).length) - 1))) i_P cx hw 0 rfl rfl 2 (by decide) tw_44 rfl rfl d_P_pop_30 ?_
  refine gd_sld (v := nI v) cx hw 1 rfl (by omega) (by omega) (by rw [e3]; exact hrow) d_P_pop_33 ?_
  refine hret _ () _ _ _ _ rfl d_P_pop_34 rfl ?_
  have e4 : (fun w => mx_b (decide (w ∈ L))) = fun w => mx_b ((va_up (fun w => decide (w ∈ L ++ [v])) v false) w) := by rw [mx_has_pop hnv]
  show gd_Ws D A s [(a, .inr (3, [.ref r, .ref h, .int (nI L.length)])), (r, .inl (ct 2, cap, .inl row)), (h, .inl (ct 0, cap, .inl (fun w => mx_b (decide (w ∈ L)))))] H locs
  rw [e4, ← e3]
  exact hw
set_option maxHeartbeats 4000000 in
set_option maxRecDepth 100000 in
/-- Places.value -/
theorem c_A_value (l : Launch) (D : va_G) (ct : Nat → ClassId) (sz : Nat) (a v f : Nat) (X : GX) (p : Nat) (hp : p < 300) : gd_ctL l y_A_value k_A_value rm_A_value D ct [.ref a, .int (nI p)] sz (wA a v f ct X) (S := Unit) (fun r u => r = mx_l (mx_v X p)) (fun u => wA a v f ct X) := by
  refine gd_entL (by decide +kernel) rfl (Nat.le_of_ble_eq_true rfl) (fun p0 e s m below meth c Q A ls cx hw hl hret => ?_)
  have hx := cx.1
  have hb := cx.2.1
  have hl : lv_has ls 2 [(0, .ref a), (1, .int (nI p))] := hl
  refine lv_aload_n hx hb d_A_value_0 rfl (lv_at hl 0 rfl) ?_
  refine gd_get (v := .ref v) i_A cx hw 0 rfl rfl 0 (by decide) tw_20 rfl rfl d_A_value_1 ?_
  refine lv_iload_n hx hb d_A_value_4 rfl (lv_at hl 1 rfl) ?_
  refine gd_lld (v := mx_l (mx_v X p)) cx hw 1 rfl (by omega) (by decide) rfl d_A_value_5 ?_
  exact hret _ () _ _ _ _ d_A_value_6 rfl hw
set_option maxHeartbeats 4000000 in
set_option maxRecDepth 100000 in
/-- Places.floor -/
theorem c_A_floor (l : Launch) (D : va_G) (ct : Nat → ClassId) (sz : Nat) (a v f : Nat) (X : GX) (p : Nat) (hp : p < 300) : gd_ctL l y_A_floor k_A_floor rm_A_floor D ct [.ref a, .int (nI p)] sz (wA a v f ct X) (S := Unit) (fun r u => r = mx_l (mx_f X p)) (fun u => wA a v f ct X) := by
  refine gd_entL (by decide +kernel) rfl (Nat.le_of_ble_eq_true rfl) (fun p0 e s m below meth c Q A ls cx hw hl hret => ?_)
  have hx := cx.1
  have hb := cx.2.1
  have hl : lv_has ls 2 [(0, .ref a), (1, .int (nI p))] := hl
  refine lv_aload_n hx hb d_A_floor_0 rfl (lv_at hl 0 rfl) ?_
  refine gd_get (v := .ref f) i_A cx hw 0 rfl rfl 1 (by decide) tw_22 rfl rfl d_A_floor_1 ?_
  refine lv_iload_n hx hb d_A_floor_4 rfl (lv_at hl 1 rfl) ?_
  refine gd_lld (v := mx_l (mx_f X p)) cx hw 2 rfl (by omega) (by decide) rfl d_A_floor_5 ?_
  exact hret _ () _ _ _ _ d_A_floor_6 rfl hw
end
section
theorem d_G_isFull_0 : decode b_G_isFull 0 = .ok (.aload_n 0, 1) := by decide +kernel
theorem d_G_isFull_1 : decode b_G_isFull 1 = .ok (.getfield 61, 3) := by decide +kernel
theorem d_G_isFull_4 : decode b_G_isFull 4 = .ok (.aload_n 0, 1) := by decide +kernel
theorem d_G_isFull_5 : decode b_G_isFull 5 = .ok (.getfield 13, 3) := by decide +kernel
theorem d_G_isFull_8 : decode b_G_isFull 8 = .ok (.if_icmp .ne 7, 3) := by decide +kernel
theorem d_G_isFull_11 : decode b_G_isFull 11 = .ok (.iconst 1, 1) := by decide +kernel
theorem d_G_isFull_12 : decode b_G_isFull 12 = .ok (.goto 4, 3) := by decide +kernel
theorem d_G_isFull_15 : decode b_G_isFull 15 = .ok (.iconst 0, 1) := by decide +kernel
theorem d_G_isFull_16 : decode b_G_isFull 16 = .ok (.ireturn, 1) := by decide +kernel
theorem d_G_add_0 : decode b_G_add 0 = .ok (.aload_n 0, 1) := by decide +kernel
theorem d_G_add_1 : decode b_G_add 1 = .ok (.getfield 17, 3) := by decide +kernel
theorem d_G_add_4 : decode b_G_add 4 = .ok (.aload_n 0, 1) := by decide +kernel
theorem d_G_add_5 : decode b_G_add 5 = .ok (.getfield 61, 3) := by decide +kernel
theorem d_G_add_8 : decode b_G_add 8 = .ok (.iconst 1, 1) := by decide +kernel
theorem d_G_add_9 : decode b_G_add 9 = .ok (.bastore, 1) := by decide +kernel
theorem d_G_add_10 : decode b_G_add 10 = .ok (.aload_n 0, 1) := by decide +kernel
theorem d_G_add_11 : decode b_G_add 11 = .ok (.getfield 21, 3) := by decide +kernel
theorem d_G_add_14 : decode b_G_add 14 = .ok (.aload_n 0, 1) := by decide +kernel
theorem d_G_add_15 : decode b_G_add 15 = .ok (.getfield 61, 3) := by decide +kernel
theorem d_G_add_18 : decode b_G_add 18 = .ok (.iconst 0, 1) := by decide +kernel
theorem d_G_add_19 : decode b_G_add 19 = .ok (.bastore, 1) := by decide +kernel
theorem d_G_add_20 : decode b_G_add 20 = .ok (.aload_n 0, 1) := by decide +kernel
theorem d_G_add_21 : decode b_G_add 21 = .ok (.getfield 24, 3) := by decide +kernel
theorem d_G_add_24 : decode b_G_add 24 = .ok (.aload_n 0, 1) := by decide +kernel
theorem d_G_add_25 : decode b_G_add 25 = .ok (.getfield 61, 3) := by decide +kernel
theorem d_G_add_28 : decode b_G_add 28 = .ok (.iconst 0, 1) := by decide +kernel
theorem d_G_add_29 : decode b_G_add 29 = .ok (.bastore, 1) := by decide +kernel
theorem d_G_add_30 : decode b_G_add 30 = .ok (.aload_n 0, 1) := by decide +kernel
theorem d_G_add_31 : decode b_G_add 31 = .ok (.dup, 1) := by decide +kernel
theorem d_G_add_32 : decode b_G_add 32 = .ok (.getfield 61, 3) := by decide +kernel
theorem d_G_add_35 : decode b_G_add 35 = .ok (.iconst 1, 1) := by decide +kernel
theorem d_G_add_36 : decode b_G_add 36 = .ok (.iadd, 1) := by decide +kernel
theorem d_G_add_37 : decode b_G_add 37 = .ok (.putfield 61, 3) := by decide +kernel
theorem d_G_add_40 : decode b_G_add 40 = .ok (.aload_n 0, 1) := by decide +kernel
theorem d_G_add_41 : decode b_G_add 41 = .ok (.getfield 61, 3) := by decide +kernel
theorem d_G_add_44 : decode b_G_add 44 = .ok (.iconst 1, 1) := by decide +kernel
theorem d_G_add_45 : decode b_G_add 45 = .ok (.isub, 1) := by decide +kernel
theorem d_G_add_46 : decode b_G_add 46 = .ok (.ireturn, 1) := by decide +kernel
theorem d_G_isThere_0 : decode b_G_isThere 0 = .ok (.iload_n 1, 1) := by decide +kernel
theorem d_G_isThere_1 : decode b_G_isThere 1 = .ok (.ifCond .lt 24, 3) := by decide +kernel
theorem d_G_isThere_4 : decode b_G_isThere 4 = .ok (.iload_n 1, 1) := by decide +kernel
theorem d_G_isThere_5 : decode b_G_isThere 5 = .ok (.aload_n 0, 1) := by decide +kernel
theorem d_G_isThere_6 : decode b_G_isThere 6 = .ok (.getfield 61, 3) := by decide +kernel
theorem d_G_isThere_9 : decode b_G_isThere 9 = .ok (.if_icmp .ge 16, 3) := by decide +kernel
theorem d_G_isThere_12 : decode b_G_isThere 12 = .ok (.aload_n 0, 1) := by decide +kernel
theorem d_G_isThere_13 : decode b_G_isThere 13 = .ok (.getfield 17, 3) := by decide +kernel
theorem d_G_isThere_16 : decode b_G_isThere 16 = .ok (.iload_n 1, 1) := by decide +kernel
theorem d_G_isThere_17 : decode b_G_isThere 17 = .ok (.baload, 1) := by decide +kernel
theorem d_G_isThere_18 : decode b_G_isThere 18 = .ok (.ifCond .eq 7, 3) := by decide +kernel
theorem d_G_isThere_21 : decode b_G_isThere 21 = .ok (.iconst 1, 1) := by decide +kernel
theorem d_G_isThere_22 : decode b_G_isThere 22 = .ok (.goto 4, 3) := by decide +kernel
theorem d_G_isThere_25 : decode b_G_isThere 25 = .ok (.iconst 0, 1) := by decide +kernel
theorem d_G_isThere_26 : decode b_G_isThere 26 = .ok (.ireturn, 1) := by decide +kernel
theorem d_G_find_0 : decode b_G_find 0 = .ok (.bipush 16, 2) := by decide +kernel
theorem d_G_find_2 : decode b_G_find 2 = .ok (.iload_n 1, 1) := by decide +kernel
theorem d_G_find_3 : decode b_G_find 3 = .ok (.imul, 1) := by decide +kernel
theorem d_G_find_4 : decode b_G_find 4 = .ok (.istore_n 3, 1) := by decide +kernel
theorem d_G_find_5 : decode b_G_find 5 = .ok (.iload_n 3, 1) := by decide +kernel
theorem d_G_find_6 : decode b_G_find 6 = .ok (.bipush 16, 2) := by decide +kernel
theorem d_G_find_8 : decode b_G_find 8 = .ok (.iload_n 1, 1) := by decide +kernel
theorem d_G_find_9 : decode b_G_find 9 = .ok (.imul, 1) := by decide +kernel
theorem d_G_find_10 : decode b_G_find 10 = .ok (.aload_n 0, 1) := by decide +kernel
theorem d_G_find_11 : decode b_G_find 11 = .ok (.getfield 24, 3) := by decide +kernel
theorem d_G_find_14 : decode b_G_find 14 = .ok (.iload_n 1, 1) := by decide +kernel
theorem d_G_find_15 : decode b_G_find 15 = .ok (.baload, 1) := by decide +kernel
theorem d_G_find_16 : decode b_G_find 16 = .ok (.iadd, 1) := by decide +kernel
theorem d_G_find_17 : decode b_G_find 17 = .ok (.if_icmp .ge 21, 3) := by decide +kernel
theorem d_G_find_20 : decode b_G_find 20 = .ok (.aload_n 0, 1) := by decide +kernel
theorem d_G_find_21 : decode b_G_find 21 = .ok (.getfield 28, 3) := by decide +kernel
theorem d_G_find_24 : decode b_G_find 24 = .ok (.iload_n 3, 1) := by decide +kernel
theorem d_G_find_25 : decode b_G_find 25 = .ok (.saload, 1) := by decide +kernel
theorem d_G_find_26 : decode b_G_find 26 = .ok (.iload_n 2, 1) := by decide +kernel
theorem d_G_find_27 : decode b_G_find 27 = .ok (.if_icmp .ne 5, 3) := by decide +kernel
theorem d_G_find_30 : decode b_G_find 30 = .ok (.iload_n 3, 1) := by decide +kernel
theorem d_G_find_31 : decode b_G_find 31 = .ok (.ireturn, 1) := by decide +kernel
theorem d_G_find_32 : decode b_G_find 32 = .ok (.iinc 3 1, 3) := by decide +kernel
theorem d_G_find_35 : decode b_G_find 35 = .ok (.goto (-30), 3) := by decide +kernel
theorem d_G_find_38 : decode b_G_find 38 = .ok (.iconst (-1), 1) := by decide +kernel
theorem d_G_find_39 : decode b_G_find 39 = .ok (.ireturn, 1) := by decide +kernel
theorem d_G_netOf_0 : decode b_G_netOf 0 = .ok (.aload_n 0, 1) := by decide +kernel
theorem d_G_netOf_1 : decode b_G_netOf 1 = .ok (.iload_n 1, 1) := by decide +kernel
theorem d_G_netOf_2 : decode b_G_netOf 2 = .ok (.iload_n 2, 1) := by decide +kernel
theorem d_G_netOf_3 : decode b_G_netOf 3 = .ok (.invokevirtual 64, 3) := by decide +kernel
theorem d_G_netOf_6 : decode b_G_netOf 6 = .ok (.istore_n 3, 1) := by decide +kernel
theorem d_G_netOf_7 : decode b_G_netOf 7 = .ok (.iload_n 3, 1) := by decide +kernel
theorem d_G_netOf_8 : decode b_G_netOf 8 = .ok (.iconst (-1), 1) := by decide +kernel
theorem d_G_netOf_9 : decode b_G_netOf 9 = .ok (.if_icmp .ne 7, 3) := by decide +kernel
theorem d_G_netOf_12 : decode b_G_netOf 12 = .ok (.lconst 0, 1) := by decide +kernel
theorem d_G_netOf_13 : decode b_G_netOf 13 = .ok (.goto 9, 3) := by decide +kernel
theorem d_G_netOf_16 : decode b_G_netOf 16 = .ok (.aload_n 0, 1) := by decide +kernel
theorem d_G_netOf_17 : decode b_G_netOf 17 = .ok (.getfield 32, 3) := by decide +kernel
theorem d_G_netOf_20 : decode b_G_netOf 20 = .ok (.iload_n 3, 1) := by decide +kernel
theorem d_G_netOf_21 : decode b_G_netOf 21 = .ok (.laload, 1) := by decide +kernel
theorem d_G_netOf_22 : decode b_G_netOf 22 = .ok (.lreturn, 1) := by decide +kernel
theorem d_G_net_0 : decode b_G_net 0 = .ok (.aload_n 0, 1) := by decide +kernel
theorem d_G_net_1 : decode b_G_net 1 = .ok (.iload_n 1, 1) := by decide +kernel
theorem d_G_net_2 : decode b_G_net 2 = .ok (.iload_n 2, 1) := by decide +kernel
theorem d_G_net_3 : decode b_G_net 3 = .ok (.invokevirtual 64, 3) := by decide +kernel
theorem d_G_net_6 : decode b_G_net 6 = .ok (.istore 5, 2) := by decide +kernel
theorem d_G_net_8 : decode b_G_net 8 = .ok (.iload 5, 2) := by decide +kernel
theorem d_G_net_10 : decode b_G_net 10 = .ok (.iconst (-1), 1) := by decide +kernel
theorem d_G_net_11 : decode b_G_net 11 = .ok (.if_icmp .eq 35, 3) := by decide +kernel
theorem d_G_net_14 : decode b_G_net 14 = .ok (.aload_n 0, 1) := by decide +kernel
theorem d_G_net_15 : decode b_G_net 15 = .ok (.getfield 32, 3) := by decide +kernel
theorem d_G_net_18 : decode b_G_net 18 = .ok (.iload 5, 2) := by decide +kernel
theorem d_G_net_20 : decode b_G_net 20 = .ok (.dup2, 1) := by decide +kernel
theorem d_G_net_21 : decode b_G_net 21 = .ok (.laload, 1) := by decide +kernel
theorem d_G_net_22 : decode b_G_net 22 = .ok (.lload_n 3, 1) := by decide +kernel
theorem d_G_net_23 : decode b_G_net 23 = .ok (.ladd, 1) := by decide +kernel
theorem d_G_net_24 : decode b_G_net 24 = .ok (.lastore, 1) := by decide +kernel
theorem d_G_net_25 : decode b_G_net 25 = .ok (.aload_n 0, 1) := by decide +kernel
theorem d_G_net_26 : decode b_G_net 26 = .ok (.getfield 32, 3) := by decide +kernel
theorem d_G_net_29 : decode b_G_net 29 = .ok (.iload 5, 2) := by decide +kernel
theorem d_G_net_31 : decode b_G_net 31 = .ok (.laload, 1) := by decide +kernel
theorem d_G_net_32 : decode b_G_net 32 = .ok (.lconst 0, 1) := by decide +kernel
theorem d_G_net_33 : decode b_G_net 33 = .ok (.lcmp, 1) := by decide +kernel
theorem d_G_net_34 : decode b_G_net 34 = .ok (.ifCond .ne 10, 3) := by decide +kernel
theorem d_G_net_37 : decode b_G_net 37 = .ok (.aload_n 0, 1) := by decide +kernel
theorem d_G_net_38 : decode b_G_net 38 = .ok (.iload_n 1, 1) := by decide +kernel
theorem d_G_net_39 : decode b_G_net 39 = .ok (.iload 5, 2) := by decide +kernel
theorem d_G_net_41 : decode b_G_net 41 = .ok (.invokevirtual 68, 3) := by decide +kernel
theorem d_G_net_44 : decode b_G_net 44 = .ok (.iconst 1, 1) := by decide +kernel
theorem d_G_net_45 : decode b_G_net 45 = .ok (.ireturn, 1) := by decide +kernel
theorem d_G_net_46 : decode b_G_net 46 = .ok (.lload_n 3, 1) := by decide +kernel
theorem d_G_net_47 : decode b_G_net 47 = .ok (.lconst 0, 1) := by decide +kernel
theorem d_G_net_48 : decode b_G_net 48 = .ok (.lcmp, 1) := by decide +kernel
theorem d_G_net_49 : decode b_G_net 49 = .ok (.ifCond .ne 5, 3) := by decide +kernel
theorem d_G_net_52 : decode b_G_net 52 = .ok (.iconst 1, 1) := by decide +kernel
theorem d_G_net_53 : decode b_G_net 53 = .ok (.ireturn, 1) := by decide +kernel
theorem d_G_net_54 : decode b_G_net 54 = .ok (.aload_n 0, 1) := by decide +kernel
theorem d_G_net_55 : decode b_G_net 55 = .ok (.getfield 24, 3) := by decide +kernel
theorem d_G_net_58 : decode b_G_net 58 = .ok (.iload_n 1, 1) := by decide +kernel
theorem d_G_net_59 : decode b_G_net 59 = .ok (.baload, 1) := by decide +kernel
theorem d_G_net_60 : decode b_G_net 60 = .ok (.bipush 16, 2) := by decide +kernel
theorem d_G_net_62 : decode b_G_net 62 = .ok (.if_icmp .ne 5, 3) := by decide +kernel
theorem d_G_net_65 : decode b_G_net 65 = .ok (.iconst 0, 1) := by decide +kernel
theorem d_G_net_66 : decode b_G_net 66 = .ok (.ireturn, 1) := by decide +kernel
theorem d_G_net_67 : decode b_G_net 67 = .ok (.bipush 16, 2) := by decide +kernel
theorem d_G_net_69 : decode b_G_net 69 = .ok (.iload_n 1, 1) := by decide +kernel
theorem d_G_net_70 : decode b_G_net 70 = .ok (.imul, 1) := by decide +kernel
theorem d_G_net_71 : decode b_G_net 71 = .ok (.aload_n 0, 1) := by decide +kernel
theorem d_G_net_72 : decode b_G_net 72 = .ok (.getfield 24, 3) := by decide +kernel
theorem d_G_net_75 : decode b_G_net 75 = .ok (.iload_n 1, 1) := by decide +kernel
theorem d_G_net_76 : decode b_G_net 76 = .ok (.baload, 1) := by decide +kernel
theorem d_G_net_77 : decode b_G_net 77 = .ok (.iadd, 1) := by decide +kernel
theorem d_G_net_78 : decode b_G_net 78 = .ok (.istore 5, 2) := by decide +kernel
theorem d_G_net_80 : decode b_G_net 80 = .ok (.aload_n 0, 1) := by decide +kernel
theorem d_G_net_81 : decode b_G_net 81 = .ok (.getfield 28, 3) := by decide +kernel
theorem d_G_net_84 : decode b_G_net 84 = .ok (.iload 5, 2) := by decide +kernel
theorem d_G_net_86 : decode b_G_net 86 = .ok (.iload_n 2, 1) := by decide +kernel
theorem d_G_net_87 : decode b_G_net 87 = .ok (.i2s, 1) := by decide +kernel
theorem d_G_net_88 : decode b_G_net 88 = .ok (.sastore, 1) := by decide +kernel
theorem d_G_net_89 : decode b_G_net 89 = .ok (.aload_n 0, 1) := by decide +kernel
theorem d_G_net_90 : decode b_G_net 90 = .ok (.getfield 32, 3) := by decide +kernel
theorem d_G_net_93 : decode b_G_net 93 = .ok (.iload 5, 2) := by decide +kernel
theorem d_G_net_95 : decode b_G_net 95 = .ok (.lload_n 3, 1) := by decide +kernel
theorem d_G_net_96 : decode b_G_net 96 = .ok (.lastore, 1) := by decide +kernel
theorem d_G_net_97 : decode b_G_net 97 = .ok (.aload_n 0, 1) := by decide +kernel
theorem d_G_net_98 : decode b_G_net 98 = .ok (.getfield 24, 3) := by decide +kernel
theorem d_G_net_101 : decode b_G_net 101 = .ok (.iload_n 1, 1) := by decide +kernel
theorem d_G_net_102 : decode b_G_net 102 = .ok (.dup2, 1) := by decide +kernel
theorem d_G_net_103 : decode b_G_net 103 = .ok (.baload, 1) := by decide +kernel
theorem d_G_net_104 : decode b_G_net 104 = .ok (.iconst 1, 1) := by decide +kernel
theorem d_G_net_105 : decode b_G_net 105 = .ok (.iadd, 1) := by decide +kernel
theorem d_G_net_106 : decode b_G_net 106 = .ok (.i2b, 1) := by decide +kernel
theorem d_G_net_107 : decode b_G_net 107 = .ok (.bastore, 1) := by decide +kernel
theorem d_G_net_108 : decode b_G_net 108 = .ok (.iconst 1, 1) := by decide +kernel
theorem d_G_net_109 : decode b_G_net 109 = .ok (.ireturn, 1) := by decide +kernel
theorem d_G_forget_0 : decode b_G_forget 0 = .ok (.aload_n 0, 1) := by decide +kernel
theorem d_G_forget_1 : decode b_G_forget 1 = .ok (.getfield 24, 3) := by decide +kernel
theorem d_G_forget_4 : decode b_G_forget 4 = .ok (.iload_n 1, 1) := by decide +kernel
theorem d_G_forget_5 : decode b_G_forget 5 = .ok (.dup2, 1) := by decide +kernel
theorem d_G_forget_6 : decode b_G_forget 6 = .ok (.baload, 1) := by decide +kernel
theorem d_G_forget_7 : decode b_G_forget 7 = .ok (.iconst 1, 1) := by decide +kernel
theorem d_G_forget_8 : decode b_G_forget 8 = .ok (.isub, 1) := by decide +kernel
theorem d_G_forget_9 : decode b_G_forget 9 = .ok (.i2b, 1) := by decide +kernel
theorem d_G_forget_10 : decode b_G_forget 10 = .ok (.bastore, 1) := by decide +kernel
theorem d_G_forget_11 : decode b_G_forget 11 = .ok (.aload_n 0, 1) := by decide +kernel
theorem d_G_forget_12 : decode b_G_forget 12 = .ok (.getfield 28, 3) := by decide +kernel
theorem d_G_forget_15 : decode b_G_forget 15 = .ok (.iload_n 2, 1) := by decide +kernel
theorem d_G_forget_16 : decode b_G_forget 16 = .ok (.aload_n 0, 1) := by decide +kernel
theorem d_G_forget_17 : decode b_G_forget 17 = .ok (.getfield 28, 3) := by decide +kernel
theorem d_G_forget_20 : decode b_G_forget 20 = .ok (.bipush 16, 2) := by decide +kernel
theorem d_G_forget_22 : decode b_G_forget 22 = .ok (.iload_n 1, 1) := by decide +kernel
theorem d_G_forget_23 : decode b_G_forget 23 = .ok (.imul, 1) := by decide +kernel
theorem d_G_forget_24 : decode b_G_forget 24 = .ok (.aload_n 0, 1) := by decide +kernel
theorem d_G_forget_25 : decode b_G_forget 25 = .ok (.getfield 24, 3) := by decide +kernel
theorem d_G_forget_28 : decode b_G_forget 28 = .ok (.iload_n 1, 1) := by decide +kernel
theorem d_G_forget_29 : decode b_G_forget 29 = .ok (.baload, 1) := by decide +kernel
theorem d_G_forget_30 : decode b_G_forget 30 = .ok (.iadd, 1) := by decide +kernel
theorem d_G_forget_31 : decode b_G_forget 31 = .ok (.saload, 1) := by decide +kernel
theorem d_G_forget_32 : decode b_G_forget 32 = .ok (.sastore, 1) := by decide +kernel
theorem d_G_forget_33 : decode b_G_forget 33 = .ok (.aload_n 0, 1) := by decide +kernel
theorem d_G_forget_34 : decode b_G_forget 34 = .ok (.getfield 32, 3) := by decide +kernel
theorem d_G_forget_37 : decode b_G_forget 37 = .ok (.iload_n 2, 1) := by decide +kernel
theorem d_G_forget_38 : decode b_G_forget 38 = .ok (.aload_n 0, 1) := by decide +kernel
theorem d_G_forget_39 : decode b_G_forget 39 = .ok (.getfield 32, 3) := by decide +kernel
theorem d_G_forget_42 : decode b_G_forget 42 = .ok (.bipush 16, 2) := by decide +kernel
theorem d_G_forget_44 : decode b_G_forget 44 = .ok (.iload_n 1, 1) := by decide +kernel
theorem d_G_forget_45 : decode b_G_forget 45 = .ok (.imul, 1) := by decide +kernel
theorem d_G_forget_46 : decode b_G_forget 46 = .ok (.aload_n 0, 1) := by decide +kernel
theorem d_G_forget_47 : decode b_G_forget 47 = .ok (.getfield 24, 3) := by decide +kernel
theorem d_G_forget_50 : decode b_G_forget 50 = .ok (.iload_n 1, 1) := by decide +kernel
theorem d_G_forget_51 : decode b_G_forget 51 = .ok (.baload, 1) := by decide +kernel
theorem d_G_forget_52 : decode b_G_forget 52 = .ok (.iadd, 1) := by decide +kernel
theorem d_G_forget_53 : decode b_G_forget 53 = .ok (.laload, 1) := by decide +kernel
theorem d_G_forget_54 : decode b_G_forget 54 = .ok (.lastore, 1) := by decide +kernel
theorem d_G_forget_55 : decode b_G_forget 55 = .ok (.return_, 1) := by decide +kernel
abbrev rm_G_isFull : Room := { frames := 0, cells := 0, slots := 0, locals := 0 }
abbrev rm_G_isThere : Room := { frames := 0, cells := 0, slots := 0, locals := 0 }
abbrev rm_G_find : Room := { frames := 0, cells := 0, slots := 0, locals := 0 }
abbrev rm_G_netOf : Room := { frames := 1, cells := 0, slots := 0, locals := 23 }
abbrev rm_G_add : Room := { frames := 0, cells := 0, slots := 0, locals := 0 }
abbrev rm_G_forget : Room := { frames := 0, cells := 0, slots := 0, locals := 0 }
abbrev rm_G_net : Room := { frames := 1, cells := 0, slots := 0, locals := 23 }
theorem cv_G_64 : gd_CV R_G 64 R_G y_G_find k_G_find 2 := gd_cv tw_146 tw_147 tw_148 tw_3 tw_149 (by decide +kernel)
theorem cv_G_68 : gd_CV R_G 68 R_G y_G_forget k_G_forget 2 := gd_cv tw_155 tw_157 ts_G_forget tw_3 tw_158 (by decide +kernel)
set_option maxHeartbeats 4000000 in
set_option maxRecDepth 100000 in
/-- Grid.isFull -/
theorem c_G_isFull (l : Launch) (D : va_G) (ct : Nat → ClassId) (sz : Nat) (q : Nat → Nat) (X : GX) (inn : Nat → Bool) (ah af la : Nat → Option Nat) (su : Nat → Int) (sr : Nat → Int32) (S : List Nat) (dr : Nat → Int32) (L : List Nat) (hn : mx_n X ≤ 200) : gd_ctI l y_G_isFull k_G_isFull rm_G_isFull D ct [.ref (q 0)] sz (wG q ct X inn ah af la su sr S dr L) (S := Unit) (fun r u => r = mx_b (decide (mx_n X = 200))) (fun u => wG q ct X inn ah af la su sr S dr L) := by
  refine gd_entI (by decide +kernel) rfl (Nat.le_of_ble_eq_true rfl) (fun p e s m below meth c Q A ls cx hw hl hret => ?_)
  have hx := cx.1
  have hb := cx.2.1
  have hl : lv_has ls 1 [(0, .ref (q 0))] := hl
  refine lv_aload_n hx hb d_G_isFull_0 rfl (lv_at hl 0 rfl) ?_
  refine gd_get (v := .int (nI (mx_n X))) i_G cx hw 0 rfl rfl 13 (by decide) tw_72 rfl rfl d_G_isFull_1 ?_
  refine lv_aload_n hx hb d_G_isFull_4 rfl (lv_at hl 0 rfl) ?_
  refine gd_get (v := .int (nI 200)) i_G cx hw 0 rfl rfl 1 (by decide) tw_57 rfl rfl d_G_isFull_5 ?_
  refine gd_ne (tgt := 15) hx hb d_G_isFull_8 (by decide) (by omega) (by omega) (fun h8 => ?_) (fun h8 => ?_)
  · refine lv_iconst (v := nI 0) hx hb d_G_isFull_15 (by decide) ?_
    exact hret _ () _ _ _ _ rfl d_G_isFull_16 (by simp [mx_b, h8] <;> rfl) hw
  · refine lv_iconst (v := nI 1) hx hb d_G_isFull_11 (by decide) ?_
    refine lv_goto (tgt := 16) hx hb d_G_isFull_12 (by decide) ?_
    exact hret _ () _ _ _ _ rfl d_G_isFull_16 (by simp [mx_b, h8] <;> rfl) hw
set_option maxHeartbeats 4000000 in
set_option maxRecDepth 100000 in
/-- Grid.isThere -/
theorem c_G_isThere (l : Launch) (D : va_G) (ct : Nat → ClassId) (sz : Nat) (q : Nat → Nat) (X : GX) (inn : Nat → Bool) (ah af la : Nat → Option Nat) (su : Nat → Int) (sr : Nat → Int32) (S : List Nat) (dr : Nat → Int32) (L : List Nat) (x : Int32) (hn : mx_n X ≤ 200) : gd_ctI l y_G_isThere k_G_isThere rm_G_isThere D ct [.ref (q 0), .int x] sz (wG q ct X inn ah af la su sr S dr L) (S := Unit) (fun r u => r = mx_b (mx_isT X x)) (fun u => wG q ct X inn ah af la su sr S dr L) := by
  refine gd_entI (by decide +kernel) rfl (Nat.le_of_ble_eq_true rfl) (fun p e s m below meth c Q A ls cx hw hl hret => ?_)
  have hx := cx.1
  have hb := cx.2.1
  have hl : lv_has ls 2 [(0, .ref (q 0)), (1, .int x)] := hl
  refine lv_iload_n hx hb d_G_isThere_0 rfl (lv_at hl 1 rfl) ?_
  refine lv_if_lt (tgt := 25) hx hb d_G_isThere_1 (by decide) (fun h1 => ?_) (fun h1 => ?_)
  · refine lv_iconst (v := nI 0) hx hb d_G_isThere_25 (by decide) ?_
    exact hret _ () _ _ _ _ rfl d_G_isThere_26 (by rw [mx_isT_neg h1]; rfl) hw
  · obtain ⟨j, hj, rfl⟩ := nI_of h1
    refine lv_iload_n hx hb d_G_isThere_4 rfl (lv_at hl 1 rfl) ?_
    refine lv_aload_n hx hb d_G_isThere_5 rfl (lv_at hl 0 rfl) ?_
    refine gd_get (v := .int (nI (mx_n X))) i_G cx hw 0 rfl rfl 13 (by decide) tw_72 rfl rfl d_G_isThere_6 ?_
    refine gd_ge (tgt := 25) hx hb d_G_isThere_9 (by decide) (by omega) (by omega) (fun h9 => ?_) (fun h9 => ?_)
    · refine lv_iconst (v := nI 0) hx hb d_G_isThere_25 (by decide) ?_
      exact hret _ () _ _ _ _ rfl d_G_isThere_26 (by rw [mx_isT_nI hj, decide_eq_false (by omega)]; rfl) hw
    · refine lv_aload_n hx hb d_G_isThere_12 rfl (lv_at hl 0 rfl) ?_
      refine gd_get (v := .ref (q 1)) i_G cx hw 0 rfl rfl 2 (by decide) tw_58 rfl rfl d_G_isThere_13 ?_
      refine lv_iload_n hx hb d_G_isThere_16 rfl (lv_at hl 1 rfl) ?_
      refine gd_zld (v := mx_b (mx_t X j)) cx hw 1 rfl (by omega) (by decide) rfl d_G_isThere_17 ?_
      refine gd_ifeq (tgt := 25) hx hb d_G_isThere_18 (by decide) (fun h18 => ?_) (fun h18 => ?_)
      · refine lv_iconst (v := nI 0) hx hb d_G_isThere_25 (by decide) ?_
        exact hret _ () _ _ _ _ rfl d_G_isThere_26 (by rw [mx_isT_nI hj, decide_eq_true (by omega), h18]; rfl) hw
      · refine lv_iconst (v := nI 1) hx hb d_G_isThere_21 (by decide) ?_
        refine lv_goto (tgt := 26) hx hb d_G_isThere_22 (by decide) ?_
        exact hret _ () _ _ _ _ rfl d_G_isThere_26 (by rw [mx_isT_nI hj, decide_eq_true (by omega), h18]; rfl) hw
set_option maxHeartbeats 4000000 in
set_option maxRecDepth 100000 in
/-- Grid.find -/
theorem c_G_find (l : Launch) (D : va_G) (ct : Nat → ClassId) (sz : Nat) (q : Nat → Nat) (X : GX) (inn : Nat → Bool) (ah af la : Nat → Option Nat) (su : Nat → Int) (sr : Nat → Int32) (S : List Nat) (dr : Nat → Int32) (L : List Nat) (i po : Nat) (hX : mx_WF X) (hi : i < 200) (hpo : po < 300) : gd_ctI l y_G_find k_G_find rm_G_find D ct [.ref (q 0), .int (nI i), .int (nI po)] sz (wG q ct X inn ah af la su sr S dr L) (S := (Option Nat)) (fun r u => r = mx_o u ∧ mx_fd X i po u) (fun u => wG q ct X inn ah af la su sr S dr L) := by
  refine gd_entI (by decide +kernel) rfl (Nat.le_of_ble_eq_true rfl) (fun p e s m below meth c Q A ls cx hw hl hret => ?_)
  have hx := cx.1
  have hb := cx.2.1
  have hl : lv_has ls 4 [(0, .ref (q 0)), (1, .int (nI i)), (2, .int (nI po))] := hl
  have hm16 := hX.m i
  have loop : ∀ (d k : Nat), k + d = mx_m X i → (∀ j, j < k → mx_p X (16 * i + j) ≠ po) → ∀ (H : Heap) (locs : List Loc) (ls : Array Slot), gd_Ws D A s (wG q ct X inn ah af la su sr S dr L) H locs → lv_has ls 4 [(3, .int (nI (16 * i + k))), (0, .ref (q 0)), (1, .int (nI i)), (2, .int (nI po))] → W p l e rm_G_find s m [.ref (q 0), .int (nI i), .int (nI po)].toArray below meth c H locs 0 0 Q (F0 m 5 ls []) := by
    intro d
    induction d with
    | zero =>
      intro k hk hno H locs ls hw hl
      refine lv_iload_n hx hb d_G_find_5 rfl (lv_at hl 0 rfl) ?_
      refine lv_bipush (v := nI 16) hx hb d_G_find_6 (by decide) ?_
      refine lv_iload_n hx hb d_G_find_8 rfl (lv_at hl 2 rfl) ?_
      refine gd_imul hx hb d_G_find_9 ?_
      refine lv_aload_n hx hb d_G_find_10 rfl (lv_at hl 1 rfl) ?_
      refine gd_get (v := .ref (q 3)) i_G cx hw 0 rfl rfl 4 (by decide) tw_62 rfl rfl d_G_find_11 ?_
      refine lv_iload_n hx hb d_G_find_14 rfl (lv_at hl 2 rfl) ?_
      refine gd_bld (v := nI (mx_m X i)) cx hw 3 rfl (by omega) (by decide) rfl d_G_find_15 ?_
      refine gd_iadd hx hb d_G_find_16 ?_
      refine gd_ge (tgt := 38) hx hb d_G_find_17 (by decide) (by omega) (by omega) (fun h17 => ?_) (fun h17 => ?_)
      · refine lv_iconst (v := mx_o none) hx hb d_G_find_38 (by decide) ?_
        exact hret _ none _ _ _ _ rfl d_G_find_39 ⟨rfl, fun j hj => hno j (by omega)⟩ hw
      · omega
    | succ d ih =>
      intro k hk hno H locs ls hw hl
      refine lv_iload_n hx hb d_G_find_5 rfl (lv_at hl 0 rfl) ?_
      refine lv_bipush (v := nI 16) hx hb d_G_find_6 (by decide) ?_
      refine lv_iload_n hx hb d_G_find_8 rfl (lv_at hl 2 rfl) ?_
      refine gd_imul hx hb d_G_find_9 ?_
      refine lv_aload_n hx hb d_G_find_10 rfl (lv_at hl 1 rfl) ?_
      refine gd_get (v := .ref (q 3)) i_G cx hw 0 rfl rfl 4 (by decide) tw_62 rfl rfl d_G_find_11 ?_
      refine lv_iload_n hx hb d_G_find_14 rfl (lv_at hl 2 rfl) ?_
      refine gd_bld (v := nI (mx_m X i)) cx hw 3 rfl (by omega) (by decide) rfl d_G_find_15 ?_
      refine gd_iadd hx hb d_G_find_16 ?_
      refine gd_ge (tgt := 38) hx hb d_G_find_17 (by decide) (by omega) (by omega) (fun h17 => ?_) (fun h17 => ?_)
      · omega
      · have hpk := (hX.net (i := i) (k := k) (by omega)).1
        refine lv_aload_n hx hb d_G_find_20 rfl (lv_at hl 1 rfl) ?_
        refine gd_get (v := .ref (q 4)) i_G cx hw 0 rfl rfl 5 (by decide) tw_63 rfl rfl d_G_find_21 ?_
        refine lv_iload_n hx hb d_G_find_24 rfl (lv_at hl 0 rfl) ?_
        refine gd_sld (v := nI (mx_p X (16 * i + k))) cx hw 4 rfl (by omega) (by decide) rfl d_G_find_25 ?_
        refine lv_iload_n hx hb d_G_find_26 rfl (lv_at hl 3 rfl) ?_
        refine gd_ne (tgt := 32) hx hb d_G_find_27 (by decide) (by omega) (by omega) (fun h27 => ?_) (fun h27 => ?_)
        · refine lv_iinc (v := nI ((16 * i + k) + 1)) (lv' := [(3, .int (nI ((16 * i + k) + 1))), (0, .ref (q 0)), (1, .int (nI i)), (2, .int (nI po))]) hx hb d_G_find_32 hl (k := 0) rfl (gd_inc1 _) (by decide) rfl (fun ls hl => ?_)
          refine lv_goto (tgt := 5) hx hb d_G_find_35 (by decide) ?_
          exact ih (k + 1) (by omega) (fun j hj => by
            by_cases e : j = k
            · subst e; exact h27
            · exact hno j (by omega)) H locs ls hw (lv_sub hl [0, 1, 2, 3] rfl)
        · refine lv_iload_n hx hb d_G_find_30 rfl (lv_at hl 0 rfl) ?_
          exact hret _ (some (16 * i + k)) _ _ _ _ rfl d_G_find_31 ⟨rfl, k, by omega, rfl, h27⟩ hw
  refine lv_bipush (v := nI 16) hx hb d_G_find_0 (by decide) ?_
  refine lv_iload_n hx hb d_G_find_2 rfl (lv_at hl 1 rfl) ?_
  refine gd_imul hx hb d_G_find_3 ?_
  refine lv_istore_n (lv' := [(3, .int (nI (16 * i))), (0, .ref (q 0)), (1, .int (nI i)), (2, .int (nI po))]) hx hb d_G_find_4 rfl hl (by decide) rfl (fun ls hl => ?_)
  exact loop (mx_m X i) 0 (by omega) (fun j hj => by omega) _ _ ls hw (lv_sub hl [0, 1, 2, 3] rfl)
set_option maxHeartbeats 4000000 in
set_option maxRecDepth 100000 in
/-- Grid.netOf -/
theorem c_G_netOf (l : Launch) (D : va_G) (ct : Nat → ClassId) (sz : Nat) (q : Nat → Nat) (X : GX) (inn : Nat → Bool) (ah af la : Nat → Option Nat) (su : Nat → Int) (sr : Nat → Int32) (S : List Nat) (dr : Nat → Int32) (L : List Nat) (i po : Nat) (hX : mx_WF X) (hi : i < 200) (hpo : po < 300) : gd_ctL l y_G_netOf k_G_netOf rm_G_netOf D ct [.ref (q 0), .int (nI i), .int (nI po)] sz (wG q ct X inn ah af la su sr S dr L) (S := Unit) (fun r u => r = mx_l (mx_net X i po)) (fun u => wG q ct X inn ah af la su sr S dr L) := by
  refine gd_entL (by decide +kernel) rfl (Nat.le_of_ble_eq_true rfl) (fun p e s m below meth c Q A ls cx hw hl hret => ?_)
  have hx := cx.1
  have hb := cx.2.1
  have hl : lv_has ls 4 [(0, .ref (q 0)), (1, .int (nI i)), (2, .int (nI po))] := hl
  refine lv_aload_n hx hb d_G_netOf_0 rfl (lv_at hl 0 rfl) ?_
  refine lv_iload_n hx hb d_G_netOf_1 rfl (lv_at hl 1 rfl) ?_
  refine lv_iload_n hx hb d_G_netOf_2 rfl (lv_at hl 2 rfl) ?_
  refine gd_callVI (As := [.int (nI i), .int (nI po)]) (rest := []) cx hw (c_G_find l D ct _ q X inn ah af la su sr S dr L i po hX hi hpo) cv_G_64 ⟨by decide, by decide⟩ ⟨rfl, rfl⟩ [0, 1, 2, 3, 4, 5, 6, 7, 8, 9, 10, 11, 12, 13, 14, 15, 16, 17, 18] rfl rfl 0 2 rfl rfl (gd_jr hw [0, 1, 2, 3, 4, 5, 6, 7, 8, 9, 10, 11, 12, 13, 14, 15, 16, 17, 18] rfl) rfl hl.1 rfl (Nat.le_of_ble_eq_true rfl) ⟨Nat.zero_le _, Nat.zero_le _⟩ d_G_netOf_3 (fun r o H locs hp hw => ?_)
  obtain ⟨rfl, hfd⟩ := hp
  refine lv_istore_n (lv' := [(3, .int (mx_o o)), (0, .ref (q 0)), (1, .int (nI i)), (2, .int (nI po))]) hx hb d_G_netOf_6 rfl hl (by decide) rfl (fun ls hl => ?_)
  refine lv_iload_n hx hb d_G_netOf_7 rfl (lv_at hl 0 rfl) ?_
  refine lv_iconst (v := mx_o none) hx hb d_G_netOf_8 (by decide) ?_
  refine gd_ne1 (tgt := 16) hx hb d_G_netOf_9 (by decide) (fun k hk => by subst hk; obtain ⟨k2, h1, h2, h3⟩ := hfd; have := hX.m i; omega) (fun k9 h9 => ?_) (fun h9 => ?_)
  · subst h9
    obtain ⟨k2, hk2, rfl, hp2⟩ := hfd
    have := hX.m i
    have hl : lv_has ls 4 [(3, .int (nI (16 * i + k2))), (0, .ref (q 0)), (1, .int (nI i)), (2, .int (nI po))] := hl
    refine lv_aload_n hx hb d_G_netOf_16 rfl (lv_at hl 1 rfl) ?_
    refine gd_get (v := .ref (q 5)) i_G cx hw 0 rfl rfl 6 (by decide) tw_64 rfl rfl d_G_netOf_17 ?_
    refine lv_iload_n hx hb d_G_netOf_20 rfl (lv_at hl 0 rfl) ?_
    refine gd_lld (v := mx_l (mx_a X (16 * i + k2))) cx hw 5 rfl (by omega) (by decide) rfl d_G_netOf_21 ?_
    exact hret _ () _ _ _ _ d_G_netOf_22 (by rw [mx_net_at hX hk2 hp2]) hw
  · subst h9
    refine lv_lconst (v := mx_l 0) hx hb d_G_netOf_12 (by decide) ?_
    refine lv_goto (tgt := 22) hx hb d_G_netOf_13 (by decide) ?_
    exact hret _ () _ _ _ _ d_G_netOf_22 (by rw [mx_net_no hfd]) hw
set_option maxHeartbeats 4000000 in
set_option maxRecDepth 100000 in
/-- Grid.add -/
theorem c_G_add (l : Launch) (D : va_G) (ct : Nat → ClassId) (sz : Nat) (q : Nat → Nat) (X : GX) (inn : Nat → Bool) (ah af la : Nat → Option Nat) (su : Nat → Int) (sr : Nat → Int32) (S : List Nat) (dr : Nat → Int32) (L : List Nat) (hn : mx_n X < 200) : gd_ctI l y_G_add k_G_add rm_G_add D ct [.ref (q 0)] sz (wG q ct X inn ah af la su sr S dr L) (S := Unit) (fun r u => r = nI (mx_n X)) (fun u => wG q ct (mx_n X + 1, va_up (mx_t X) (mx_n X) true, va_up (mx_m X) (mx_n X) 0, mx_p X, mx_a X, mx_v X, mx_f X) (va_up inn (mx_n X) false) ah af la su sr S dr L) := by
  refine gd_entI (by decide +kernel) rfl (Nat.le_of_ble_eq_true rfl) (fun p e s m below meth c Q A ls cx hw hl hret => ?_)
  have hx := cx.1
  have hb := cx.2.1
  have hl : lv_has ls 1 [(0, .ref (q 0))] := hl
  refine lv_aload_n hx hb d_G_add_0 rfl (lv_at hl 0 rfl) ?_
  refine gd_get (v := .ref (q 1)) i_G cx hw 0 rfl rfl 2 (by decide) tw_58 rfl rfl d_G_add_1 ?_
  refine lv_aload_n hx hb d_G_add_4 rfl (lv_at hl 0 rfl) ?_
  refine gd_get (v := .int (nI (mx_n X))) i_G cx hw 0 rfl rfl 13 (by decide) tw_72 rfl rfl d_G_add_5 ?_
  refine lv_iconst (v := nI 1) hx hb d_G_add_8 (by decide) ?_
  refine gd_zst (g := fun i9 => mx_b ((va_up (mx_t X) (mx_n X) true) i9)) (wn := wG q ct (mx_n X, va_up (mx_t X) (mx_n X) true, mx_m X, mx_p X, mx_a X, mx_v X, mx_f X) inn ah af la su sr S dr L) cx hw 1 rfl (by omega) (by decide) (gd_hz true (by decide)) rfl d_G_add_9 (fun H locs hw => ?_)
  refine lv_aload_n hx hb d_G_add_10 rfl (lv_at hl 0 rfl) ?_
  refine gd_get (v := .ref (q 2)) i_G cx hw 0 rfl rfl 3 (by decide) tw_60 rfl rfl d_G_add_11 ?_
  refine lv_aload_n hx hb d_G_add_14 rfl (lv_at hl 0 rfl) ?_
  refine gd_get (v := .int (nI (mx_n X))) i_G cx hw 0 rfl rfl 13 (by decide) tw_72 rfl rfl d_G_add_15 ?_
  refine lv_iconst (v := nI 0) hx hb d_G_add_18 (by decide) ?_
  refine gd_zst (g := fun i9 => mx_b ((va_up inn (mx_n X) false) i9)) (wn := wG q ct (mx_n X, va_up (mx_t X) (mx_n X) true, mx_m X, mx_p X, mx_a X, mx_v X, mx_f X) (va_up inn (mx_n X) false) ah af la su sr S dr L) cx hw 2 rfl (by omega) (by decide) (gd_hz false (by decide)) rfl d_G_add_19 (fun H locs hw => ?_)
  refine lv_aload_n hx hb d_G_add_20 rfl (lv_at hl 0 rfl) ?_
  refine gd_get (v := .ref (q 3)) i_G cx hw 0 rfl rfl 4 (by decide) tw_62 rfl rfl d_G_add_21 ?_
  refine lv_aload_n hx hb d_G_add_24 rfl (lv_at hl 0 rfl) ?_
  refine gd_get (v := .int (nI (mx_n X))) i_G cx hw 0 rfl rfl 13 (by decide) tw_72 rfl rfl d_G_add_25 ?_
  refine lv_iconst (v := nI 0) hx hb d_G_add_28 (by decide) ?_
  refine gd_bst (g := fun i9 => nI ((va_up (mx_m X) (mx_n X) 0) i9)) (wn := wG q ct (mx_n X, va_up (mx_t X) (mx_n X) true, va_up (mx_m X) (mx_n X) 0, mx_p X, mx_a X, mx_v X, mx_f X) (va_up inn (mx_n X) false) ah af la su sr S dr L) cx hw 3 rfl (by omega) (by decide) (gd_hb 0 (by omega) rfl) rfl d_G_add_29 (fun H locs hw => ?_)
  refine lv_aload_n hx hb d_G_add_30 rfl (lv_at hl 0 rfl) ?_
  refine lv_dup hx hb d_G_add_31 rfl ?_
  refine gd_get (v := .int (nI (mx_n X))) i_G cx hw 0 rfl rfl 13 (by decide) tw_72 rfl rfl d_G_add_32 ?_
  refine lv_iconst (v := nI 1) hx hb d_G_add_35 (by decide) ?_
  refine gd_iadd hx hb d_G_add_36 ?_
  refine gd_put (ty := .int) (wn := wG q ct ((mx_n X) + 1, va_up (mx_t X) (mx_n X) true, va_up (mx_m X) (mx_n X) 0, mx_p X, mx_a X, mx_v X, mx_f X) (va_up inn (mx_n X) false) ah af la su sr S dr L) i_G t_G t_G_ok n_G cx hw 0 rfl rfl 13 (by decide) tw_72 rfl rfl (by decide +kernel) rfl rfl (Nat.le_of_ble_eq_true rfl) rfl d_G_add_37 (fun H locs hw => ?_)
  refine lv_aload_n hx hb d_G_add_40 rfl (lv_at hl 0 rfl) ?_
  refine gd_get (v := .int (nI ((mx_n X) + 1))) i_G cx hw 0 rfl rfl 13 (by decide) tw_72 rfl rfl d_G_add_41 ?_
  refine lv_iconst (v := nI 1) hx hb d_G_add_44 (by decide) ?_
  refine gd_isub hx hb d_G_add_45 (by omega) ?_
  exact hret _ () _ _ _ _ rfl d_G_add_46 rfl hw
set_option maxHeartbeats 4000000 in
set_option maxRecDepth 100000 in
/-- Grid.forget -/
theorem c_G_forget (l : Launch) (D : va_G) (ct : Nat → ClassId) (sz : Nat) (q : Nat → Nat) (X : GX) (inn : Nat → Bool) (ah af la : Nat → Option Nat) (su : Nat → Int) (sr : Nat → Int32) (S : List Nat) (dr : Nat → Int32) (L : List Nat) (i n : Nat) (hi : i < 200) (hn : n < 3200) (h1 : 1 ≤ mx_m X i) (h16 : mx_m X i ≤ 16) (hp : mx_p X (16 * i + (mx_m X i - 1)) < 300) : gd_ctV l y_G_forget k_G_forget rm_G_forget D ct [.ref (q 0), .int (nI i), .int (nI n)] sz (wG q ct X inn ah af la su sr S dr L) (S := Unit) (fun u => True) (fun u => wG q ct (mx_n X, mx_t X, va_up (mx_m X) i (mx_m X i - 1), va_up (mx_p X) n (mx_p X (16 * i + (mx_m X i - 1))), va_up (mx_a X) n (mx_a X (16 * i + (mx_m X i - 1))), mx_v X, mx_f X) inn ah af la su sr S dr L) 0 0 := by
  refine gd_entV (by decide +kernel) rfl (Nat.le_of_ble_eq_true rfl) (fun p e s m below meth c Q A ls cx hmn hw hl hret => ?_)
  have hx := cx.1
  have hb := cx.2.1
  have hl : lv_has ls 3 [(0, .ref (q 0)), (1, .int (nI i)), (2, .int (nI n))] := hl
  refine lv_aload_n hx hb d_G_forget_0 rfl (lv_at hl 0 rfl) ?_
  refine gd_get (v := .ref (q 3)) i_G cx hw 0 rfl rfl 4 (by decide) tw_62 rfl rfl d_G_forget_1 ?_
  refine lv_iload_n hx hb d_G_forget_4 rfl (lv_at hl 1 rfl) ?_
  refine lv_dup2_11 hx hb d_G_forget_5 rfl rfl ?_
  refine gd_bld (v := nI (mx_m X i)) cx hw 3 rfl (by omega) (by decide) rfl d_G_forget_6 ?_
  refine lv_iconst (v := nI 1) hx hb d_G_forget_7 (by decide) ?_
  refine gd_isub hx hb d_G_forget_8 (by omega) ?_
  refine lv_i2b (v := nI ((mx_m X i) - 1)) hx hb d_G_forget_9 (gd_i2b (by omega)) ?_
  refine gd_bst (g := fun i9 => nI ((va_up (mx_m X) i ((mx_m X i) - 1)) i9)) (wn := wG q ct (mx_n X, mx_t X, va_up (mx_m X) i ((mx_m X i) - 1), mx_p X, mx_a X, mx_v X, mx_f X) inn ah af la su sr S dr L) cx hw 3 rfl (by omega) (by decide) (gd_hb ((mx_m X i) - 1) (by omega) rfl) rfl d_G_forget_10 (fun H locs hw => ?_)
  refine lv_aload_n hx hb d_G_forget_11 rfl (lv_at hl 0 rfl) ?_
  refine gd_get (v := .ref (q 4)) i_G cx hw 0 rfl rfl 5 (by decide) tw_63 rfl rfl d_G_forget_12 ?_
  refine lv_iload_n hx hb d_G_forget_15 rfl (lv_at hl 2 rfl) ?_
  refine lv_aload_n hx hb d_G_forget_16 rfl (lv_at hl 0 rfl) ?_
  refine gd_get (v := .ref (q 4)) i_G cx hw 0 rfl rfl 5 (by decide) tw_63 rfl rfl d_G_forget_17 ?_
  refine lv_bipush (v := nI 16) hx hb d_G_forget_20 (by decide) ?_
  refine lv_iload_n hx hb d_G_forget_22 rfl (lv_at hl 1 rfl) ?_
  refine gd_imul hx hb d_G_forget_23 ?_
  refine lv_aload_n hx hb d_G_forget_24 rfl (lv_at hl 0 rfl) ?_
  refine gd_get (v := .ref (q 3)) i_G cx hw 0 rfl rfl 4 (by decide) tw_62 rfl rfl d_G_forget_25 ?_
  refine lv_iload_n hx hb d_G_forget_28 rfl (lv_at hl 1 rfl) ?_
  refine gd_bld (v := nI (mx_m X i - 1)) cx hw 3 rfl (by omega) (by decide) (congrArg nI (va_up_self _ _ _)) d_G_forget_29 ?_
  refine gd_iadd hx hb d_G_forget_30 ?_
  refine gd_sld (v := nI (mx_p X ((16 * i) + (mx_m X i - 1)))) cx hw 4 rfl (by omega) (by decide) rfl d_G_forget_31 ?_
  refine gd_sst (g := fun i9 => nI ((va_up (mx_p X) n (mx_p X ((16 * i) + (mx_m X i - 1)))) i9)) (wn := wG q ct (mx_n X, mx_t X, va_up (mx_m X) i ((mx_m X i) - 1), va_up (mx_p X) n (mx_p X ((16 * i) + (mx_m X i - 1))), mx_a X, mx_v X, mx_f X) inn ah af la su sr S dr L) cx hw 4 rfl (by omega) (by decide) (gd_hs (mx_p X ((16 * i) + (mx_m X i - 1))) (by omega) rfl) rfl d_G_forget_32 (fun H locs hw => ?_)
  refine lv_aload_n hx hb d_G_forget_33 rfl (lv_at hl 0 rfl) ?_
  refine gd_get (v := .ref (q 5)) i_G cx hw 0 rfl rfl 6 (by decide) tw_64 rfl rfl d_G_forget_34 ?_
  refine lv_iload_n hx hb d_G_forget_37 rfl (lv_at hl 2 rfl) ?_
  refine lv_aload_n hx hb d_G_forget_38 rfl (lv_at hl 0 rfl) ?_
  refine gd_get (v := .ref (q 5)) i_G cx hw 0 rfl rfl 6 (by decide) tw_64 rfl rfl d_G_forget_39 ?_
  refine lv_bipush (v := nI 16) hx hb d_G_forget_42 (by decide) ?_
  refine lv_iload_n hx hb d_G_forget_44 rfl (lv_at hl 1 rfl) ?_
  refine gd_imul hx hb d_G_forget_45 ?_
  refine lv_aload_n hx hb d_G_forget_46 rfl (lv_at hl 0 rfl) ?_
  refine gd_get (v := .ref (q 3)) i_G cx hw 0 rfl rfl 4 (by decide) tw_62 rfl rfl d_G_forget_47 ?_
  refine lv_iload_n hx hb d_G_forget_50 rfl (lv_at hl 1 rfl) ?_
  refine gd_bld (v := nI (mx_m X i - 1)) cx hw 3 rfl (by omega) (by decide) (congrArg nI (va_up_self _ _ _)) d_G_forget_51 ?_
  refine gd_iadd hx hb d_G_forget_52 ?_
  refine gd_lld (v := mx_l (mx_a X ((16 * i) + (mx_m X i - 1)))) cx hw 5 rfl (by omega) (by decide) rfl d_G_forget_53 ?_
  refine gd_lst (g := fun i9 => mx_l ((va_up (mx_a X) n (mx_a X ((16 * i) + (mx_m X i - 1)))) i9)) (wn := wG q ct (mx_n X, mx_t X, va_up (mx_m X) i ((mx_m X i) - 1), va_up (mx_p X) n (mx_p X ((16 * i) + (mx_m X i - 1))), va_up (mx_a X) n (mx_a X ((16 * i) + (mx_m X i - 1))), mx_v X, mx_f X) inn ah af la su sr S dr L) cx hw 5 rfl (by omega) (by decide) (gd_hl (mx_a X ((16 * i) + (mx_m X i - 1)))) rfl d_G_forget_54 (fun H locs hw => ?_)
  exact hret () _ _ _ _ _ _ (Nat.le_refl _) (Nat.le_refl _) d_G_forget_55 trivial hw
theorem mx_net_set {X : GX} (hX : mx_WF X) {i k p : Nat} {v : Int} (hk : k < mx_m X i) (hp : mx_p X (16 * i + k) = p) : mx_Rel (mx_n X, mx_t X, mx_m X, mx_p X, va_up (mx_a X) (16 * i + k) v, mx_v X, mx_f X) (mx_set X (16 * i + k) p v) := by
  refine ⟨rfl, fun _ => rfl, fun _ => rfl, fun j k2 _ => ⟨?_, rfl⟩, fun _ _ => ⟨rfl, rfl⟩⟩
  show mx_p X (16 * j + k2) = va_up (mx_p X) (16 * i + k) p (16 * j + k2)
  by_cases e : 16 * j + k2 = 16 * i + k
  · rw [e, va_up_self, hp]
  · rw [va_up_ne _ _ e]
theorem mx_net_del {X : GX} (hX : mx_WF X) {i k : Nat} {v : Int} (hk : k < mx_m X i) : mx_Rel (mx_n X, mx_t X, va_up (mx_m X) i (mx_m X i - 1), va_up (mx_p X) (16 * i + k) (mx_p X (16 * i + (mx_m X i - 1))), va_up (va_up (mx_a X) (16 * i + k) v) (16 * i + k) (va_up (mx_a X) (16 * i + k) v (16 * i + (mx_m X i - 1))), mx_v X, mx_f X) (mx_del X i (16 * i + k)) := by
  refine ⟨rfl, fun _ => rfl, fun _ => rfl, fun j k2 h2 => ⟨rfl, ?_⟩, fun _ _ => ⟨rfl, rfl⟩⟩
  have h2 : k2 < va_up (mx_m X) i (mx_m X i - 1) j := h2
  show va_up (va_up (mx_a X) (16 * i + k) v) (16 * i + k) (va_up (mx_a X) (16 * i + k) v (16 * i + (mx_m X i - 1))) (16 * j + k2) = va_up (mx_a X) (16 * i + k) (mx_a X (16 * i + (mx_m X i - 1))) (16 * j + k2)
  have hm := hX.m i
  have hm2 := hX.m j
  by_cases e : 16 * j + k2 = 16 * i + k
  · rw [e, va_up_self, va_up_self]
    have hk16 : k2 < 16 := by
      by_cases e2 : j = i
      · subst e2; rw [va_up_self] at h2; omega
      · rw [va_up_ne _ _ e2] at h2; omega
    obtain ⟨e2, e3⟩ := mx_ix hk16 (by omega) e
    subst e2
    rw [va_up_self] at h2
    rw [va_up_ne _ _ (by omega)]
  · rw [va_up_ne _ _ e, va_up_ne _ _ e, va_up_ne _ _ e]
set_option maxHeartbeats 4000000 in
set_option maxRecDepth 100000 in
/-- Grid.net -/
theorem c_G_net (l : Launch) (D : va_G) (ct : Nat → ClassId) (sz : Nat) (q : Nat → Nat) (X : GX) (inn : Nat → Bool) (ah af la : Nat → Option Nat) (su : Nat → Int) (sr : Nat → Int32) (S : List Nat) (dr : Nat → Int32) (L : List Nat) (i po : Nat) (z : Int) (hX : mx_WF X) (hi : i < 200) (hpo : po < 300) (hz : mx_fit z) (hz1 : -1000000000000000 ≤ mx_net X i po + z) (hz2 : mx_net X i po + z ≤ 1000000000000000) : gd_ctI l y_G_net k_G_net rm_G_net D ct [.ref (q 0), .int (nI i), .int (nI po), .long (mx_l z)] sz (wG q ct X inn ah af la su sr S dr L) (S := GX) (fun r u => r = mx_b (mx_netF X i po z).1 ∧ mx_Rel u (mx_netF X i po z).2) (fun u => wG q ct u inn ah af la su sr S dr L) := by
  refine gd_entI (by decide +kernel) rfl (Nat.le_of_ble_eq_true rfl) (fun p e s m below meth c Q A ls cx hw hl hret => ?_)
  have hx := cx.1
  have hb := cx.2.1
  have hl : lv_has ls 6 [(0, .ref (q 0)), (1, .int (nI i)), (2, .int (nI po)), (3, .long (mx_l z))] := hl
  have hm16 := hX.m i
  refine lv_aload_n hx hb d_G_net_0 rfl (lv_at hl 0 rfl) ?_
  refine lv_iload_n hx hb d_G_net_1 rfl (lv_at hl 1 rfl) ?_
  refine lv_iload_n hx hb d_G_net_2 rfl (lv_at hl 2 rfl) ?_
  refine gd_callVI (As := [.int (nI i), .int (nI po)]) (rest := []) cx hw (c_G_find l D ct _ q X inn ah af la su sr S dr L i po hX hi hpo) cv_G_64 ⟨by decide, by decide⟩ ⟨rfl, rfl⟩ [0, 1, 2, 3, 4, 5, 6, 7, 8, 9, 10, 11, 12, 13, 14, 15, 16, 17, 18] rfl rfl 0 2 rfl rfl (gd_jr hw [0, 1, 2, 3, 4, 5, 6, 7, 8, 9, 10, 11, 12, 13, 14, 15, 16, 17, 18] rfl) rfl hl.1 rfl (Nat.le_of_ble_eq_true rfl) ⟨Nat.zero_le _, Nat.zero_le _⟩ d_G_net_3 (fun r o H locs hp hw => ?_)
  obtain ⟨rfl, hfd⟩ := hp
  refine lv_istore (lv' := [(5, .int (mx_o o)), (0, .ref (q 0)), (1, .int (nI i)), (2, .int (nI po)), (3, .long (mx_l z))]) hx hb d_G_net_6 hl (by decide) rfl (fun ls hl => ?_)
  refine lv_iload hx hb d_G_net_8 (lv_at hl 0 rfl) ?_
  refine lv_iconst (v := mx_o none) hx hb d_G_net_10 (by decide) ?_
  refine gd_eq1 (tgt := 46) hx hb d_G_net_11 (by decide) (fun k hk => by subst hk; obtain ⟨k2, h1, h2, h3⟩ := hfd; omega) (fun h11 => ?_) (fun k11 h11 => ?_)
  · subst h11
    have hfi := mx_fi_no hfd
    refine lv_lload_n hx hb d_G_net_46 rfl (lv_at hl 4 rfl) ?_
    refine lv_lconst (v := mx_l 0) hx hb d_G_net_47 (by decide) ?_
    refine gd_lne (tgt := 54) hx hb d_G_net_48 d_G_net_49 (by decide) hz (by unfold mx_fit; omega) (fun h49 => ?_) (fun h49 => ?_)
    · refine lv_aload_n hx hb d_G_net_54 rfl (lv_at hl 1 rfl) ?_
      refine gd_get (v := .ref (q 3)) i_G cx hw 0 rfl rfl 4 (by decide) tw_62 rfl rfl d_G_net_55 ?_
      refine lv_iload_n hx hb d_G_net_58 rfl (lv_at hl 2 rfl) ?_
      refine gd_bld (v := nI (mx_m X i)) cx hw 3 rfl (by omega) (by decide) rfl d_G_net_59 ?_
      refine lv_bipush (v := nI 16) hx hb d_G_net_60 (by decide) ?_
      refine gd_ne (tgt := 67) hx hb d_G_net_62 (by decide) (by omega) (by omega) (fun h62 => ?_) (fun h62 => ?_)
      · refine lv_bipush (v := nI 16) hx hb d_G_net_67 (by decide) ?_
        refine lv_iload_n hx hb d_G_net_69 rfl (lv_at hl 2 rfl) ?_
        refine gd_imul hx hb d_G_net_70 ?_
        refine lv_aload_n hx hb d_G_net_71 rfl (lv_at hl 1 rfl) ?_
        refine gd_get (v := .ref (q 3)) i_G cx hw 0 rfl rfl 4 (by decide) tw_62 rfl rfl d_G_net_72 ?_
        refine lv_iload_n hx hb d_G_net_75 rfl (lv_at hl 2 rfl) ?_
        refine gd_bld (v := nI (mx_m X i)) cx hw 3 rfl (by omega) (by decide) rfl d_G_net_76 ?_
        refine gd_iadd hx hb d_G_net_77 ?_
        refine lv_istore (lv' := [(5, .int (nI ((16 * i) + (mx_m X i)))), (0, .ref (q 0)), (1, .int (nI i)), (2, .int (nI po)), (3, .long (mx_l z))]) hx hb d_G_net_78 hl (by decide) rfl (fun ls hl => ?_)
        refine lv_aload_n hx hb d_G_net_80 rfl (lv_at hl 1 rfl) ?_
        refine gd_get (v := .ref (q 4)) i_G cx hw 0 rfl rfl 5 (by decide) tw_63 rfl rfl d_G_net_81 ?_
        refine lv_iload hx hb d_G_net_84 (lv_at hl 0 rfl) ?_
        refine lv_iload_n hx hb d_G_net_86 rfl (lv_at hl 3 rfl) ?_
        refine lv_i2s (v := nI po) hx hb d_G_net_87 (gd_i2s (by omega)) ?_
        refine gd_sst (g := fun i9 => nI ((va_up (mx_p X) ((16 * i) + (mx_m X i)) po) i9)) (wn := wG q ct (mx_n X, mx_t X, mx_m X, va_up (mx_p X) ((16 * i) + (mx_m X i)) po, mx_a X, mx_v X, mx_f X) inn ah af la su sr S dr L) cx hw 4 rfl (by omega) (by decide) (gd_hs po (by omega) rfl) rfl d_G_net_88 (fun H locs hw => ?_)
        refine lv_aload_n hx hb d_G_net_89 rfl (lv_at hl 1 rfl) ?_
        refine gd_get (v := .ref (q 5)) i_G cx hw 0 rfl rfl 6 (by decide) tw_64 rfl rfl d_G_net_90 ?_
        refine lv_iload hx hb d_G_net_93 (lv_at hl 0 rfl) ?_
        refine lv_lload_n hx hb d_G_net_95 rfl (lv_at hl 4 rfl) ?_
        refine gd_lst (g := fun i9 => mx_l ((va_up (mx_a X) ((16 * i) + (mx_m X i)) z) i9)) (wn := wG q ct (mx_n X, mx_t X, mx_m X, va_up (mx_p X) ((16 * i) + (mx_m X i)) po, va_up (mx_a X) ((16 * i) + (mx_m X i)) z, mx_v X, mx_f X) inn ah af la su sr S dr L) cx hw 5 rfl (by omega) (by decide) (gd_hl z) rfl d_G_net_96 (fun H locs hw => ?_)
        refine lv_aload_n hx hb d_G_net_97 rfl (lv_at hl 1 rfl) ?_
        refine gd_get (v := .ref (q 3)) i_G cx hw 0 rfl rfl 4 (by decide) tw_62 rfl rfl d_G_net_98 ?_
        refine lv_iload_n hx hb d_G_net_101 rfl (lv_at hl 2 rfl) ?_
        refine lv_dup2_11 hx hb d_G_net_102 rfl rfl ?_
        refine gd_bld (v := nI (mx_m X i)) cx hw 3 rfl (by omega) (by decide) rfl d_G_net_103 ?_
        refine lv_iconst (v := nI 1) hx hb d_G_net_104 (by decide) ?_
        refine gd_iadd hx hb d_G_net_105 ?_
        refine lv_i2b (v := nI ((mx_m X i) + 1)) hx hb d_G_net_106 (gd_i2b (by omega)) ?_
        refine gd_bst (g := fun i9 => nI ((va_up (mx_m X) i ((mx_m X i) + 1)) i9)) (wn := wG q ct (mx_n X, mx_t X, va_up (mx_m X) i ((mx_m X i) + 1), va_up (mx_p X) ((16 * i) + (mx_m X i)) po, va_up (mx_a X) ((16 * i) + (mx_m X i)) z, mx_v X, mx_f X) inn ah af la su sr S dr L) cx hw 3 rfl (by omega) (by decide) (gd_hb ((mx_m X i) + 1) (by omega) rfl) rfl d_G_net_107 (fun H locs hw => ?_)
        refine lv_iconst (v := nI 1) hx hb d_G_net_108 (by decide) ?_
        exact hret _ (mx_n X, mx_t X, va_up (mx_m X) i ((mx_m X i) + 1), va_up (mx_p X) ((16 * i) + (mx_m X i)) po, va_up (mx_a X) ((16 * i) + (mx_m X i)) z, mx_v X, mx_f X) _ _ _ _ rfl d_G_net_109 ⟨by simp [mx_netF, hfi, h49, h62] <;> rfl, by simp only [mx_netF, hfi]; rw [if_neg h49, if_neg h62]; exact mx_Rel.rf _⟩ hw
      · refine lv_iconst (v := nI 0) hx hb d_G_net_65 (by decide) ?_
        exact hret _ X _ _ _ _ rfl d_G_net_66 ⟨by simp [mx_netF, hfi, h49, h62] <;> rfl, by simp only [mx_netF, hfi]; rw [if_neg h49, if_pos h62]; exact mx_Rel.rf X⟩ hw
    · refine lv_iconst (v := nI 1) hx hb d_G_net_52 (by decide) ?_
      exact hret _ X _ _ _ _ rfl d_G_net_53 ⟨by simp [mx_netF, hfi, h49] <;> rfl, by simp only [mx_netF, hfi]; rw [if_pos h49]; exact mx_Rel.rf X⟩ hw
  · subst h11
    obtain ⟨k2, hk2, rfl, hp2⟩ := hfd
    rw [mx_net_at hX hk2 hp2] at hz1 hz2
    have hfi := mx_fi_at hX hk2 hp2
    have hl : lv_has ls 6 [(5, .int (nI (16 * i + k2))), (0, .ref (q 0)), (1, .int (nI i)), (2, .int (nI po)), (3, .long (mx_l z))] := hl
    refine lv_aload_n hx hb d_G_net_14 rfl (lv_at hl 1 rfl) ?_
    refine gd_get (v := .ref (q 5)) i_G cx hw 0 rfl rfl 6 (by decide) tw_64 rfl rfl d_G_net_15 ?_
    refine lv_iload hx hb d_G_net_18 (lv_at hl 0 rfl) ?_
    refine lv_dup2_11 hx hb d_G_net_20 rfl rfl ?_
    refine gd_lld (v := mx_l (mx_a X (16 * i + k2))) cx hw 5 rfl (by omega) (by decide) rfl d_G_net_21 ?_
    refine lv_lload_n hx hb d_G_net_22 rfl (lv_at hl 4 rfl) ?_
    refine gd_ladd hx hb d_G_net_23 ?_
    refine gd_lst (g := fun i9 => mx_l ((va_up (mx_a X) (16 * i + k2) ((mx_a X (16 * i + k2)) + z)) i9)) (wn := wG q ct (mx_n X, mx_t X, mx_m X, mx_p X, va_up (mx_a X) (16 * i + k2) ((mx_a X (16 * i + k2)) + z), mx_v X, mx_f X) inn ah af la su sr S dr L) cx hw 5 rfl (by omega) (by decide) (gd_hl ((mx_a X (16 * i + k2)) + z)) rfl d_G_net_24 (fun H locs hw => ?_)
    refine lv_aload_n hx hb d_G_net_25 rfl (lv_at hl 1 rfl) ?_
    refine gd_get (v := .ref (q 5)) i_G cx hw 0 rfl rfl 6 (by decide) tw_64 rfl rfl d_G_net_26 ?_
    refine lv_iload hx hb d_G_net_29 (lv_at hl 0 rfl) ?_
    refine gd_lld (v := mx_l (mx_a X (16 * i + k2) + z)) cx hw 5 rfl (by omega) (by decide) (congrArg mx_l (va_up_self _ _ _)) d_G_net_31 ?_
    refine lv_lconst (v := mx_l 0) hx hb d_G_net_32 (by decide) ?_
    refine gd_lne (tgt := 44) hx hb d_G_net_33 d_G_net_34 (by decide) (by unfold mx_fit; omega) (by unfold mx_fit; omega) (fun h34 => ?_) (fun h34 => ?_)
    · refine lv_iconst (v := nI 1) hx hb d_G_net_44 (by decide) ?_
      exact hret _ (mx_n X, mx_t X, mx_m X, mx_p X, va_up (mx_a X) (16 * i + k2) ((mx_a X (16 * i + k2)) + z), mx_v X, mx_f X) _ _ _ _ rfl d_G_net_45 ⟨by simp [mx_netF, hfi, h34] <;> rfl, by simp only [mx_netF, hfi]; rw [if_neg h34]; exact mx_net_set hX hk2 hp2⟩ hw
    · refine lv_aload_n hx hb d_G_net_37 rfl (lv_at hl 1 rfl) ?_
      refine lv_iload_n hx hb d_G_net_38 rfl (lv_at hl 2 rfl) ?_
      refine lv_iload hx hb d_G_net_39 (lv_at hl 0 rfl) ?_
      refine gd_callVV (As := [.int (nI i), .int (nI (16 * i + k2))]) (rest := []) cx hw (c_G_forget l D ct _ q (mx_n X, mx_t X, mx_m X, mx_p X, va_up (mx_a X) (16 * i + k2) ((mx_a X (16 * i + k2)) + z), mx_v X, mx_f X) inn ah af la su sr S dr L i (16 * i + k2) hi (by omega) (show 1 ≤ mx_m X i by omega) (hX.m i) (hX.net (show mx_m X i - 1 < mx_m X i by omega)).1) cv_G_68 ⟨by decide, by decide⟩ ⟨rfl, rfl⟩ [0, 1, 2, 3, 4, 5, 6, 7, 8, 9, 10, 11, 12, 13, 14, 15, 16, 17, 18] rfl rfl 0 2 rfl rfl (gd_jn (w2 := fun _ => wG q ct (mx_n X, mx_t X, va_up (mx_m X) i (mx_m X i - 1), va_up (mx_p X) (16 * i + k2) (mx_p X (16 * i + (mx_m X i - 1))), va_up (va_up (mx_a X) (16 * i + k2) (mx_a X (16 * i + k2) + z)) (16 * i + k2) (va_up (mx_a X) (16 * i + k2) (mx_a X (16 * i + k2) + z) (16 * i + (mx_m X i - 1))), mx_v X, mx_f X) inn ah af la su sr S dr L) hw [0, 1, 2, 3, 4, 5, 6, 7, 8, 9, 10, 11, 12, 13, 14, 15, 16, 17, 18] [] [0, 1, 2, 3, 4, 5, 6, 7, 8, 9, 10, 11, 12, 13, 14, 15, 16, 17, 18] rfl rfl rfl (by decide) (fun _ => rfl) rfl) rfl hl.1 rfl (Nat.le_of_ble_eq_true rfl) ⟨Nat.zero_le _, Nat.zero_le _⟩ d_G_net_41 (fun u H locs hp hw => ?_)
      refine lv_iconst (v := nI 1) hx hb d_G_net_44 (by decide) ?_
      exact hret _ (mx_n X, mx_t X, va_up (mx_m X) i (mx_m X i - 1), va_up (mx_p X) (16 * i + k2) (mx_p X (16 * i + (mx_m X i - 1))), va_up (va_up (mx_a X) (16 * i + k2) (mx_a X (16 * i + k2) + z)) (16 * i + k2) (va_up (mx_a X) (16 * i + k2) (mx_a X (16 * i + k2) + z) (16 * i + (mx_m X i - 1))), mx_v X, mx_f X) _ _ _ _ rfl d_G_net_45 ⟨by simp [mx_netF, hfi, h34] <;> rfl, by simp only [mx_netF, hfi]; rw [if_pos h34]; exact mx_net_del hX hk2⟩ hw
end
section
theorem gd_cf {own : String} {idx : Nat} {x y : MethodName} {k : Cond} (h1 : Cond.methodLink own idx x ∈ gw) (h2 : Cond.selects R_A x y ∈ gw) (h3 : Cond.instanceMethod y ∈ gw) (h4 : Cond.initialized y.cls ∈ gw) (h5 : k ∈ gw) : GoodIn gw (va_wsF own idx R_A x y (k :: gw)) := by
  intro w hw
  have h : w ∈ gw := by
    unfold va_wsF at hw
    rcases List.mem_append.mp hw with h | h
    · simp only [List.mem_cons, List.not_mem_nil, or_false] at h
      rcases h with h | h | h | h <;> (rw [h]; assumption)
    · rcases List.mem_cons.mp h with h | h
      · rw [h]; exact h5
      · exact h
  exact ⟨h, gw_good h⟩
theorem d_G_enter_0 : decode b_G_enter 0 = .ok (.aload_n 0, 1) := by decide +kernel
theorem d_G_enter_1 : decode b_G_enter 1 = .ok (.getfield 28, 3) := by decide +kernel
theorem d_G_enter_4 : decode b_G_enter 4 = .ok (.iload_n 1, 1) := by decide +kernel
theorem d_G_enter_5 : decode b_G_enter 5 = .ok (.saload, 1) := by decide +kernel
theorem d_G_enter_6 : decode b_G_enter 6 = .ok (.istore_n 2, 1) := by decide +kernel
theorem d_G_enter_7 : decode b_G_enter 7 = .ok (.aload_n 0, 1) := by decide +kernel
theorem d_G_enter_8 : decode b_G_enter 8 = .ok (.getfield 46, 3) := by decide +kernel
theorem d_G_enter_11 : decode b_G_enter 11 = .ok (.iload_n 2, 1) := by decide +kernel
theorem d_G_enter_12 : decode b_G_enter 12 = .ok (.dup2, 1) := by decide +kernel
theorem d_G_enter_13 : decode b_G_enter 13 = .ok (.laload, 1) := by decide +kernel
theorem d_G_enter_14 : decode b_G_enter 14 = .ok (.aload_n 0, 1) := by decide +kernel
theorem d_G_enter_15 : decode b_G_enter 15 = .ok (.getfield 32, 3) := by decide +kernel
theorem d_G_enter_18 : decode b_G_enter 18 = .ok (.iload_n 1, 1) := by decide +kernel
theorem d_G_enter_19 : decode b_G_enter 19 = .ok (.laload, 1) := by decide +kernel
theorem d_G_enter_20 : decode b_G_enter 20 = .ok (.ladd, 1) := by decide +kernel
theorem d_G_enter_21 : decode b_G_enter 21 = .ok (.lastore, 1) := by decide +kernel
theorem d_G_enter_22 : decode b_G_enter 22 = .ok (.aload_n 0, 1) := by decide +kernel
theorem d_G_enter_23 : decode b_G_enter 23 = .ok (.getfield 32, 3) := by decide +kernel
theorem d_G_enter_26 : decode b_G_enter 26 = .ok (.iload_n 1, 1) := by decide +kernel
theorem d_G_enter_27 : decode b_G_enter 27 = .ok (.laload, 1) := by decide +kernel
theorem d_G_enter_28 : decode b_G_enter 28 = .ok (.lconst 0, 1) := by decide +kernel
theorem d_G_enter_29 : decode b_G_enter 29 = .ok (.lcmp, 1) := by decide +kernel
theorem d_G_enter_30 : decode b_G_enter 30 = .ok (.ifCond .le 4, 3) := by decide +kernel
theorem d_G_enter_33 : decode b_G_enter 33 = .ok (.return_, 1) := by decide +kernel
theorem d_G_enter_34 : decode b_G_enter 34 = .ok (.aload_n 0, 1) := by decide +kernel
theorem d_G_enter_35 : decode b_G_enter 35 = .ok (.getfield 36, 3) := by decide +kernel
theorem d_G_enter_38 : decode b_G_enter 38 = .ok (.iload_n 1, 1) := by decide +kernel
theorem d_G_enter_39 : decode b_G_enter 39 = .ok (.aload_n 0, 1) := by decide +kernel
theorem d_G_enter_40 : decode b_G_enter 40 = .ok (.getfield 43, 3) := by decide +kernel
theorem d_G_enter_43 : decode b_G_enter 43 = .ok (.iload_n 2, 1) := by decide +kernel
theorem d_G_enter_44 : decode b_G_enter 44 = .ok (.iaload, 1) := by decide +kernel
theorem d_G_enter_45 : decode b_G_enter 45 = .ok (.iastore, 1) := by decide +kernel
theorem d_G_enter_46 : decode b_G_enter 46 = .ok (.aload_n 0, 1) := by decide +kernel
theorem d_G_enter_47 : decode b_G_enter 47 = .ok (.getfield 40, 3) := by decide +kernel
theorem d_G_enter_50 : decode b_G_enter 50 = .ok (.iload_n 1, 1) := by decide +kernel
theorem d_G_enter_51 : decode b_G_enter 51 = .ok (.iconst (-1), 1) := by decide +kernel
theorem d_G_enter_52 : decode b_G_enter 52 = .ok (.iastore, 1) := by decide +kernel
theorem d_G_enter_53 : decode b_G_enter 53 = .ok (.aload_n 0, 1) := by decide +kernel
theorem d_G_enter_54 : decode b_G_enter 54 = .ok (.getfield 43, 3) := by decide +kernel
theorem d_G_enter_57 : decode b_G_enter 57 = .ok (.iload_n 2, 1) := by decide +kernel
theorem d_G_enter_58 : decode b_G_enter 58 = .ok (.iaload, 1) := by decide +kernel
theorem d_G_enter_59 : decode b_G_enter 59 = .ok (.iconst (-1), 1) := by decide +kernel
theorem d_G_enter_60 : decode b_G_enter 60 = .ok (.if_icmp .eq 15, 3) := by decide +kernel
theorem d_G_enter_63 : decode b_G_enter 63 = .ok (.aload_n 0, 1) := by decide +kernel
theorem d_G_enter_64 : decode b_G_enter 64 = .ok (.getfield 40, 3) := by decide +kernel
theorem d_G_enter_67 : decode b_G_enter 67 = .ok (.aload_n 0, 1) := by decide +kernel
theorem d_G_enter_68 : decode b_G_enter 68 = .ok (.getfield 43, 3) := by decide +kernel
theorem d_G_enter_71 : decode b_G_enter 71 = .ok (.iload_n 2, 1) := by decide +kernel
theorem d_G_enter_72 : decode b_G_enter 72 = .ok (.iaload, 1) := by decide +kernel
theorem d_G_enter_73 : decode b_G_enter 73 = .ok (.iload_n 1, 1) := by decide +kernel
theorem d_G_enter_74 : decode b_G_enter 74 = .ok (.iastore, 1) := by decide +kernel
theorem d_G_enter_75 : decode b_G_enter 75 = .ok (.aload_n 0, 1) := by decide +kernel
theorem d_G_enter_76 : decode b_G_enter 76 = .ok (.getfield 43, 3) := by decide +kernel
theorem d_G_enter_79 : decode b_G_enter 79 = .ok (.iload_n 2, 1) := by decide +kernel
theorem d_G_enter_80 : decode b_G_enter 80 = .ok (.iload_n 1, 1) := by decide +kernel
theorem d_G_enter_81 : decode b_G_enter 81 = .ok (.iastore, 1) := by decide +kernel
theorem d_G_enter_82 : decode b_G_enter 82 = .ok (.return_, 1) := by decide +kernel
theorem d_G_look_0 : decode b_G_look 0 = .ok (.aload_n 0, 1) := by decide +kernel
theorem d_G_look_1 : decode b_G_look 1 = .ok (.getfield 46, 3) := by decide +kernel
theorem d_G_look_4 : decode b_G_look 4 = .ok (.iload_n 1, 1) := by decide +kernel
theorem d_G_look_5 : decode b_G_look 5 = .ok (.laload, 1) := by decide +kernel
theorem d_G_look_6 : decode b_G_look 6 = .ok (.aload_n 0, 1) := by decide +kernel
theorem d_G_look_7 : decode b_G_look 7 = .ok (.getfield 7, 3) := by decide +kernel
theorem d_G_look_10 : decode b_G_look 10 = .ok (.iload_n 1, 1) := by decide +kernel
theorem d_G_look_11 : decode b_G_look 11 = .ok (.invokeinterface 84 2, 5) := by decide +kernel
theorem d_G_look_16 : decode b_G_look 16 = .ok (.lcmp, 1) := by decide +kernel
theorem d_G_look_17 : decode b_G_look 17 = .ok (.ifCond .ge 11, 3) := by decide +kernel
theorem d_G_look_20 : decode b_G_look 20 = .ok (.aload_n 0, 1) := by decide +kernel
theorem d_G_look_21 : decode b_G_look 21 = .ok (.getfield 54, 3) := by decide +kernel
theorem d_G_look_24 : decode b_G_look 24 = .ok (.iload_n 1, 1) := by decide +kernel
theorem d_G_look_25 : decode b_G_look 25 = .ok (.invokevirtual 87, 3) := by decide +kernel
theorem d_G_look_28 : decode b_G_look 28 = .ok (.return_, 1) := by decide +kernel
theorem d_G_drop_0 : decode b_G_drop 0 = .ok (.aload_n 0, 1) := by decide +kernel
theorem d_G_drop_1 : decode b_G_drop 1 = .ok (.getfield 21, 3) := by decide +kernel
theorem d_G_drop_4 : decode b_G_drop 4 = .ok (.iload_n 1, 1) := by decide +kernel
theorem d_G_drop_5 : decode b_G_drop 5 = .ok (.iconst 0, 1) := by decide +kernel
theorem d_G_drop_6 : decode b_G_drop 6 = .ok (.bastore, 1) := by decide +kernel
theorem d_G_drop_7 : decode b_G_drop 7 = .ok (.bipush 16, 2) := by decide +kernel
theorem d_G_drop_9 : decode b_G_drop 9 = .ok (.iload_n 1, 1) := by decide +kernel
theorem d_G_drop_10 : decode b_G_drop 10 = .ok (.imul, 1) := by decide +kernel
theorem d_G_drop_11 : decode b_G_drop 11 = .ok (.istore_n 2, 1) := by decide +kernel
theorem d_G_drop_12 : decode b_G_drop 12 = .ok (.iload_n 2, 1) := by decide +kernel
theorem d_G_drop_13 : decode b_G_drop 13 = .ok (.bipush 16, 2) := by decide +kernel
theorem d_G_drop_15 : decode b_G_drop 15 = .ok (.iload_n 1, 1) := by decide +kernel
theorem d_G_drop_16 : decode b_G_drop 16 = .ok (.imul, 1) := by decide +kernel
theorem d_G_drop_17 : decode b_G_drop 17 = .ok (.aload_n 0, 1) := by decide +kernel
theorem d_G_drop_18 : decode b_G_drop 18 = .ok (.getfield 24, 3) := by decide +kernel
theorem d_G_drop_21 : decode b_G_drop 21 = .ok (.iload_n 1, 1) := by decide +kernel
theorem d_G_drop_22 : decode b_G_drop 22 = .ok (.baload, 1) := by decide +kernel
theorem d_G_drop_23 : decode b_G_drop 23 = .ok (.iadd, 1) := by decide +kernel
theorem d_G_drop_24 : decode b_G_drop 24 = .ok (.if_icmp .ge 94, 3) := by decide +kernel
theorem d_G_drop_27 : decode b_G_drop 27 = .ok (.aload_n 0, 1) := by decide +kernel
theorem d_G_drop_28 : decode b_G_drop 28 = .ok (.getfield 28, 3) := by decide +kernel
theorem d_G_drop_31 : decode b_G_drop 31 = .ok (.iload_n 2, 1) := by decide +kernel
theorem d_G_drop_32 : decode b_G_drop 32 = .ok (.saload, 1) := by decide +kernel
theorem d_G_drop_33 : decode b_G_drop 33 = .ok (.istore_n 3, 1) := by decide +kernel
theorem d_G_drop_34 : decode b_G_drop 34 = .ok (.aload_n 0, 1) := by decide +kernel
theorem d_G_drop_35 : decode b_G_drop 35 = .ok (.getfield 46, 3) := by decide +kernel
theorem d_G_drop_38 : decode b_G_drop 38 = .ok (.iload_n 3, 1) := by decide +kernel
theorem d_G_drop_39 : decode b_G_drop 39 = .ok (.dup2, 1) := by decide +kernel
theorem d_G_drop_40 : decode b_G_drop 40 = .ok (.laload, 1) := by decide +kernel
theorem d_G_drop_41 : decode b_G_drop 41 = .ok (.aload_n 0, 1) := by decide +kernel
theorem d_G_drop_42 : decode b_G_drop 42 = .ok (.getfield 32, 3) := by decide +kernel
theorem d_G_drop_45 : decode b_G_drop 45 = .ok (.iload_n 2, 1) := by decide +kernel
theorem d_G_drop_46 : decode b_G_drop 46 = .ok (.laload, 1) := by decide +kernel
theorem d_G_drop_47 : decode b_G_drop 47 = .ok (.lsub, 1) := by decide +kernel
theorem d_G_drop_48 : decode b_G_drop 48 = .ok (.lastore, 1) := by decide +kernel
theorem d_G_drop_49 : decode b_G_drop 49 = .ok (.aload_n 0, 1) := by decide +kernel
theorem d_G_drop_50 : decode b_G_drop 50 = .ok (.getfield 32, 3) := by decide +kernel
theorem d_G_drop_53 : decode b_G_drop 53 = .ok (.iload_n 2, 1) := by decide +kernel
theorem d_G_drop_54 : decode b_G_drop 54 = .ok (.laload, 1) := by decide +kernel
theorem d_G_drop_55 : decode b_G_drop 55 = .ok (.lconst 0, 1) := by decide +kernel
theorem d_G_drop_56 : decode b_G_drop 56 = .ok (.lcmp, 1) := by decide +kernel
theorem d_G_drop_57 : decode b_G_drop 57 = .ok (.ifCond .le 11, 3) := by decide +kernel
theorem d_G_drop_60 : decode b_G_drop 60 = .ok (.aload_n 0, 1) := by decide +kernel
theorem d_G_drop_61 : decode b_G_drop 61 = .ok (.iload_n 3, 1) := by decide +kernel
theorem d_G_drop_62 : decode b_G_drop 62 = .ok (.invokevirtual 81, 3) := by decide +kernel
theorem d_G_drop_65 : decode b_G_drop 65 = .ok (.goto 47, 3) := by decide +kernel
theorem d_G_drop_68 : decode b_G_drop 68 = .ok (.aload_n 0, 1) := by decide +kernel
theorem d_G_drop_69 : decode b_G_drop 69 = .ok (.getfield 40, 3) := by decide +kernel
theorem d_G_drop_72 : decode b_G_drop 72 = .ok (.iload_n 2, 1) := by decide +kernel
theorem d_G_drop_73 : decode b_G_drop 73 = .ok (.iaload, 1) := by decide +kernel
theorem d_G_drop_74 : decode b_G_drop 74 = .ok (.istore 4, 2) := by decide +kernel
theorem d_G_drop_76 : decode b_G_drop 76 = .ok (.iload 4, 2) := by decide +kernel
theorem d_G_drop_78 : decode b_G_drop 78 = .ok (.iconst (-1), 1) := by decide +kernel
theorem d_G_drop_79 : decode b_G_drop 79 = .ok (.if_icmp .eq 27, 3) := by decide +kernel
theorem d_G_drop_82 : decode b_G_drop 82 = .ok (.aload_n 0, 1) := by decide +kernel
theorem d_G_drop_83 : decode b_G_drop 83 = .ok (.getfield 58, 3) := by decide +kernel
theorem d_G_drop_86 : decode b_G_drop 86 = .ok (.iload 4, 2) := by decide +kernel
theorem d_G_drop_88 : decode b_G_drop 88 = .ok (.bipush 16, 2) := by decide +kernel
theorem d_G_drop_90 : decode b_G_drop 90 = .ok (.idiv, 1) := by decide +kernel
theorem d_G_drop_91 : decode b_G_drop 91 = .ok (.invokevirtual 87, 3) := by decide +kernel
theorem d_G_drop_94 : decode b_G_drop 94 = .ok (.aload_n 0, 1) := by decide +kernel
theorem d_G_drop_95 : decode b_G_drop 95 = .ok (.getfield 40, 3) := by decide +kernel
theorem d_G_drop_98 : decode b_G_drop 98 = .ok (.iload 4, 2) := by decide +kernel
theorem d_G_drop_100 : decode b_G_drop 100 = .ok (.iaload, 1) := by decide +kernel
theorem d_G_drop_101 : decode b_G_drop 101 = .ok (.istore 4, 2) := by decide +kernel
theorem d_G_drop_103 : decode b_G_drop 103 = .ok (.goto (-27), 3) := by decide +kernel
theorem d_G_drop_106 : decode b_G_drop 106 = .ok (.aload_n 0, 1) := by decide +kernel
theorem d_G_drop_107 : decode b_G_drop 107 = .ok (.iload_n 3, 1) := by decide +kernel
theorem d_G_drop_108 : decode b_G_drop 108 = .ok (.iload_n 2, 1) := by decide +kernel
theorem d_G_drop_109 : decode b_G_drop 109 = .ok (.invokevirtual 90, 3) := by decide +kernel
theorem d_G_drop_112 : decode b_G_drop 112 = .ok (.iinc 2 1, 3) := by decide +kernel
theorem d_G_drop_115 : decode b_G_drop 115 = .ok (.goto (-103), 3) := by decide +kernel
theorem d_G_drop_118 : decode b_G_drop 118 = .ok (.return_, 1) := by decide +kernel
theorem d_G_leave_0 : decode b_G_leave 0 = .ok (.aload_n 0, 1) := by decide +kernel
theorem d_G_leave_1 : decode b_G_leave 1 = .ok (.getfield 40, 3) := by decide +kernel
theorem d_G_leave_4 : decode b_G_leave 4 = .ok (.iload_n 2, 1) := by decide +kernel
theorem d_G_leave_5 : decode b_G_leave 5 = .ok (.iaload, 1) := by decide +kernel
theorem d_G_leave_6 : decode b_G_leave 6 = .ok (.iconst (-1), 1) := by decide +kernel
theorem d_G_leave_7 : decode b_G_leave 7 = .ok (.if_icmp .ne 18, 3) := by decide +kernel
theorem d_G_leave_10 : decode b_G_leave 10 = .ok (.aload_n 0, 1) := by decide +kernel
theorem d_G_leave_11 : decode b_G_leave 11 = .ok (.getfield 43, 3) := by decide +kernel
theorem d_G_leave_14 : decode b_G_leave 14 = .ok (.iload_n 1, 1) := by decide +kernel
theorem d_G_leave_15 : decode b_G_leave 15 = .ok (.aload_n 0, 1) := by decide +kernel
theorem d_G_leave_16 : decode b_G_leave 16 = .ok (.getfield 36, 3) := by decide +kernel
theorem d_G_leave_19 : decode b_G_leave 19 = .ok (.iload_n 2, 1) := by decide +kernel
theorem d_G_leave_20 : decode b_G_leave 20 = .ok (.iaload, 1) := by decide +kernel
theorem d_G_leave_21 : decode b_G_leave 21 = .ok (.iastore, 1) := by decide +kernel
theorem d_G_leave_22 : decode b_G_leave 22 = .ok (.goto 20, 3) := by decide +kernel
theorem d_G_leave_25 : decode b_G_leave 25 = .ok (.aload_n 0, 1) := by decide +kernel
theorem d_G_leave_26 : decode b_G_leave 26 = .ok (.getfield 36, 3) := by decide +kernel
theorem d_G_leave_29 : decode b_G_leave 29 = .ok (.aload_n 0, 1) := by decide +kernel
theorem d_G_leave_30 : decode b_G_leave 30 = .ok (.getfield 40, 3) := by decide +kernel
theorem d_G_leave_33 : decode b_G_leave 33 = .ok (.iload_n 2, 1) := by decide +kernel
theorem d_G_leave_34 : decode b_G_leave 34 = .ok (.iaload, 1) := by decide +kernel
theorem d_G_leave_35 : decode b_G_leave 35 = .ok (.aload_n 0, 1) := by decide +kernel
theorem d_G_leave_36 : decode b_G_leave 36 = .ok (.getfield 36, 3) := by decide +kernel
theorem d_G_leave_39 : decode b_G_leave 39 = .ok (.iload_n 2, 1) := by decide +kernel
theorem d_G_leave_40 : decode b_G_leave 40 = .ok (.iaload, 1) := by decide +kernel
theorem d_G_leave_41 : decode b_G_leave 41 = .ok (.iastore, 1) := by decide +kernel
theorem d_G_leave_42 : decode b_G_leave 42 = .ok (.aload_n 0, 1) := by decide +kernel
theorem d_G_leave_43 : decode b_G_leave 43 = .ok (.getfield 36, 3) := by decide +kernel
theorem d_G_leave_46 : decode b_G_leave 46 = .ok (.iload_n 2, 1) := by decide +kernel
theorem d_G_leave_47 : decode b_G_leave 47 = .ok (.iaload, 1) := by decide +kernel
theorem d_G_leave_48 : decode b_G_leave 48 = .ok (.iconst (-1), 1) := by decide +kernel
theorem d_G_leave_49 : decode b_G_leave 49 = .ok (.if_icmp .eq 20, 3) := by decide +kernel
theorem d_G_leave_52 : decode b_G_leave 52 = .ok (.aload_n 0, 1) := by decide +kernel
theorem d_G_leave_53 : decode b_G_leave 53 = .ok (.getfield 40, 3) := by decide +kernel
theorem d_G_leave_56 : decode b_G_leave 56 = .ok (.aload_n 0, 1) := by decide +kernel
theorem d_G_leave_57 : decode b_G_leave 57 = .ok (.getfield 36, 3) := by decide +kernel
theorem d_G_leave_60 : decode b_G_leave 60 = .ok (.iload_n 2, 1) := by decide +kernel
theorem d_G_leave_61 : decode b_G_leave 61 = .ok (.iaload, 1) := by decide +kernel
theorem d_G_leave_62 : decode b_G_leave 62 = .ok (.aload_n 0, 1) := by decide +kernel
theorem d_G_leave_63 : decode b_G_leave 63 = .ok (.getfield 40, 3) := by decide +kernel
theorem d_G_leave_66 : decode b_G_leave 66 = .ok (.iload_n 2, 1) := by decide +kernel
theorem d_G_leave_67 : decode b_G_leave 67 = .ok (.iaload, 1) := by decide +kernel
theorem d_G_leave_68 : decode b_G_leave 68 = .ok (.iastore, 1) := by decide +kernel
theorem d_G_leave_69 : decode b_G_leave 69 = .ok (.return_, 1) := by decide +kernel
abbrev rm_G_enter : Room := { frames := 0, cells := 0, slots := 0, locals := 0 }
abbrev rm_G_leave : Room := { frames := 0, cells := 0, slots := 0, locals := 0 }
abbrev rm_G_look : Room := { frames := 1, cells := 0, slots := 0, locals := 21 }
abbrev rm_G_drop : Room := { frames := 2, cells := 0, slots := 0, locals := 42 }
theorem cf_72 : GoodIn gw (va_wsF R_G 72 R_A y_I_value y_A_value (k_A_value :: gw)) := gd_cf tw_176 tw_180 tw_182 tw_2 tw_184
theorem cf_84 : GoodIn gw (va_wsF R_G 84 R_A y_I_floor y_A_floor (k_A_floor :: gw)) := gd_cf tw_194 tw_197 tw_199 tw_2 tw_201
theorem cv_G_81 : gd_CV R_G 81 R_G y_G_look k_G_look 1 := gd_cv tw_189 tw_191 ts_G_look tw_3 tw_192 (by decide +kernel)
theorem cv_G_87 : gd_CV R_G 87 R_P y_P_push k_P_push 1 := gd_cv tw_202 tw_203 tw_204 tw_4 tw_205 (by decide +kernel)
theorem cv_G_90 : gd_CV R_G 90 R_G y_G_leave k_G_leave 2 := gd_cv tw_222 tw_224 ts_G_leave tw_3 tw_225 (by decide +kernel)
set_option maxHeartbeats 4000000 in
set_option maxRecDepth 100000 in
/-- Grid.enter -/
theorem c_G_enter (l : Launch) (D : va_G) (ct : Nat → ClassId) (sz : Nat) (q : Nat → Nat) (X : GX) (inn : Nat → Bool) (ah af la : Nat → Option Nat) (su : Nat → Int) (sr : Nat → Int32) (S : List Nat) (dr : Nat → Int32) (L : List Nat) (n : Nat) (hX : mx_WF X) (hu : n % 16 < mx_m X (n / 16)) (hla : ∀ k, la (mx_p X n) = some k → k < 3200) : gd_ctV l y_G_enter k_G_enter rm_G_enter D ct [.ref (q 0), .int (nI n)] sz (wG q ct X inn ah af la su sr S dr L) (S := ((Nat → Option Nat) × (Nat → Option Nat) × (Nat → Option Nat))) (fun u => u = mx_en X n ah af la) (fun u => wG q ct X inn u.1 u.2.1 u.2.2 (va_up su (mx_p X n) (su (mx_p X n) + mx_a X n)) sr S dr L) 0 0 := by
  refine gd_entV (by decide +kernel) rfl (Nat.le_of_ble_eq_true rfl) (fun p e s m below meth c Q A ls cx hmn hw hl hret => ?_)
  have hx := cx.1
  have hb := cx.2.1
  have hl : lv_has ls 3 [(0, .ref (q 0)), (1, .int (nI n))] := hl
  obtain ⟨hn1, hn2, hn3, hn4, hn5⟩ := mx_used hX hu
  refine lv_aload_n hx hb d_G_enter_0 rfl (lv_at hl 0 rfl) ?_
  refine gd_get (v := .ref (q 4)) i_G cx hw 0 rfl rfl 5 (by decide) tw_63 rfl rfl d_G_enter_1 ?_
  refine lv_iload_n hx hb d_G_enter_4 rfl (lv_at hl 1 rfl) ?_
  refine gd_sld (v := nI (mx_p X n)) cx hw 4 rfl (by omega) (by decide) rfl d_G_enter_5 ?_
  refine lv_istore_n (lv' := [(2, .int (nI (mx_p X n))), (0, .ref (q 0)), (1, .int (nI n))]) hx hb d_G_enter_6 rfl hl (by decide) rfl (fun ls hl => ?_)
  refine lv_aload_n hx hb d_G_enter_7 rfl (lv_at hl 1 rfl) ?_
  refine gd_get (v := .ref (q 9)) i_G cx hw 0 rfl rfl 10 (by decide) tw_68 rfl rfl d_G_enter_8 ?_
  refine lv_iload_n hx hb d_G_enter_11 rfl (lv_at hl 0 rfl) ?_
  refine lv_dup2_11 hx hb d_G_enter_12 rfl rfl ?_
  refine gd_lld (v := mx_l (su (mx_p X n))) cx hw 9 rfl (by omega) (by decide) rfl d_G_enter_13 ?_
  refine lv_aload_n hx hb d_G_enter_14 rfl (lv_at hl 1 rfl) ?_
  refine gd_get (v := .ref (q 5)) i_G cx hw 0 rfl rfl 6 (by decide) tw_64 rfl rfl d_G_enter_15 ?_
  refine lv_iload_n hx hb d_G_enter_18 rfl (lv_at hl 2 rfl) ?_
  refine gd_lld (v := mx_l (mx_a X n)) cx hw 5 rfl (by omega) (by decide) rfl d_G_enter_19 ?_
  refine gd_ladd hx hb d_G_enter_20 ?_
  refine gd_lst (g := fun i9 => mx_l ((va_up su (mx_p X n) ((su (mx_p X n)) + (mx_a X n))) i9)) (wn := wG q ct X inn ah af la (va_up su (mx_p X n) ((su (mx_p X n)) + (mx_a X n))) sr S dr L) cx hw 9 rfl (by omega) (by decide) (gd_hl ((su (mx_p X n)) + (mx_a X n))) rfl d_G_enter_21 (fun H locs hw => ?_)
  refine lv_aload_n hx hb d_G_enter_22 rfl (lv_at hl 1 rfl) ?_
  refine gd_get (v := .ref (q 5)) i_G cx hw 0 rfl rfl 6 (by decide) tw_64 rfl rfl d_G_enter_23 ?_
  refine lv_iload_n hx hb d_G_enter_26 rfl (lv_at hl 2 rfl) ?_
  refine gd_lld (v := mx_l (mx_a X n)) cx hw 5 rfl (by omega) (by decide) rfl d_G_enter_27 ?_
  refine lv_lconst (v := mx_l 0) hx hb d_G_enter_28 (by decide) ?_
  refine gd_lle (tgt := 34) hx hb d_G_enter_29 d_G_enter_30 (by decide) (by unfold mx_fit; omega) (by unfold mx_fit; omega) (fun h30 => ?_) (fun h30 => ?_)
  · refine lv_aload_n hx hb d_G_enter_34 rfl (lv_at hl 1 rfl) ?_
    refine gd_get (v := .ref (q 6)) i_G cx hw 0 rfl rfl 7 (by decide) tw_65 rfl rfl d_G_enter_35 ?_
    refine lv_iload_n hx hb d_G_enter_38 rfl (lv_at hl 2 rfl) ?_
    refine lv_aload_n hx hb d_G_enter_39 rfl (lv_at hl 1 rfl) ?_
    refine gd_get (v := .ref (q 8)) i_G cx hw 0 rfl rfl 9 (by decide) tw_67 rfl rfl d_G_enter_40 ?_
    refine lv_iload_n hx hb d_G_enter_43 rfl (lv_at hl 0 rfl) ?_
    refine gd_ild (v := mx_o (la (mx_p X n))) cx hw 8 rfl (by omega) (by decide) rfl d_G_enter_44 ?_
    refine gd_ist (g := fun i9 => mx_o ((va_up ah n (la (mx_p X n))) i9)) (wn := wG q ct X inn (va_up ah n (la (mx_p X n))) af la (va_up su (mx_p X n) ((su (mx_p X n)) + (mx_a X n))) sr S dr L) cx hw 6 rfl (by omega) (by decide) (gd_ho (la (mx_p X n)) rfl) rfl d_G_enter_45 (fun H locs hw => ?_)
    refine lv_aload_n hx hb d_G_enter_46 rfl (lv_at hl 1 rfl) ?_
    refine gd_get (v := .ref (q 7)) i_G cx hw 0 rfl rfl 8 (by decide) tw_66 rfl rfl d_G_enter_47 ?_
    refine lv_iload_n hx hb d_G_enter_50 rfl (lv_at hl 2 rfl) ?_
    refine lv_iconst (v := mx_o none) hx hb d_G_enter_51 (by decide) ?_
    refine gd_ist (g := fun i9 => mx_o (va_up af n none i9)) (wn := wG q ct X inn (va_up ah n (la (mx_p X n))) (va_up af n none) la (va_up su (mx_p X n) ((su (mx_p X n)) + (mx_a X n))) sr S dr L) cx hw 7 rfl (by omega) (by decide) (gd_ho none rfl) rfl d_G_enter_52 (fun H locs hw => ?_)
    refine lv_aload_n hx hb d_G_enter_53 rfl (lv_at hl 1 rfl) ?_
    refine gd_get (v := .ref (q 8)) i_G cx hw 0 rfl rfl 9 (by decide) tw_67 rfl rfl d_G_enter_54 ?_
    refine lv_iload_n hx hb d_G_enter_57 rfl (lv_at hl 0 rfl) ?_
    refine gd_ild (v := mx_o (la (mx_p X n))) cx hw 8 rfl (by omega) (by decide) rfl d_G_enter_58 ?_
    refine lv_iconst (v := mx_o none) hx hb d_G_enter_59 (by decide) ?_
    refine gd_eq1 (tgt := 75) hx hb d_G_enter_60 (by decide) (fun k hk => by have := hla k hk; omega) (fun h60 => ?_) (fun k60 h60 => ?_)
    · refine lv_aload_n hx hb d_G_enter_75 rfl (lv_at hl 1 rfl) ?_
      refine gd_get (v := .ref (q 8)) i_G cx hw 0 rfl rfl 9 (by decide) tw_67 rfl rfl d_G_enter_76 ?_
      refine lv_iload_n hx hb d_G_enter_79 rfl (lv_at hl 0 rfl) ?_
      refine lv_iload_n hx hb d_G_enter_80 rfl (lv_at hl 2 rfl) ?_
      refine gd_ist (g := fun i9 => mx_o ((va_up la (mx_p X n) (some n)) i9)) (wn := wG q ct X inn (va_up ah n (la (mx_p X n))) (va_up af n none) (va_up la (mx_p X n) (some n)) (va_up su (mx_p X n) ((su (mx_p X n)) + (mx_a X n))) sr S dr L) cx hw 8 rfl (by omega) (by decide) (gd_ho (some n) rfl) rfl d_G_enter_81 (fun H locs hw => ?_)
      exact hret (va_up ah n (la (mx_p X n)), va_up af n none, va_up la (mx_p X n) (some n)) _ _ _ _ _ _ (Nat.le_refl _) (Nat.le_refl _) d_G_enter_82 (by unfold mx_en; rw [if_neg (by omega)]; unfold mx_enA; rw [h60]) hw
    · have hk60 := hla k60 h60
      refine lv_aload_n hx hb d_G_enter_63 rfl (lv_at hl 1 rfl) ?_
      refine gd_get (v := .ref (q 7)) i_G cx hw 0 rfl rfl 8 (by decide) tw_66 rfl rfl d_G_enter_64 ?_
      refine lv_aload_n hx hb d_G_enter_67 rfl (lv_at hl 1 rfl) ?_
      refine gd_get (v := .ref (q 8)) i_G cx hw 0 rfl rfl 9 (by decide) tw_67 rfl rfl d_G_enter_68 ?_
      refine lv_iload_n hx hb d_G_enter_71 rfl (lv_at hl 0 rfl) ?_
      refine gd_ild (v := nI k60) cx hw 8 rfl (by omega) (by decide) (congrArg mx_o h60) d_G_enter_72 ?_
      refine lv_iload_n hx hb d_G_enter_73 rfl (lv_at hl 2 rfl) ?_
      refine gd_ist (g := fun i9 => mx_o ((va_up (va_up af n none) k60 (some n)) i9)) (wn := wG q ct X inn (va_up ah n (la (mx_p X n))) (va_up (va_up af n none) k60 (some n)) la (va_up su (mx_p X n) ((su (mx_p X n)) + (mx_a X n))) sr S dr L) cx hw 7 rfl (by omega) (by decide) (gd_ho (some n) rfl) rfl d_G_enter_74 (fun H locs hw => ?_)
      refine lv_aload_n hx hb d_G_enter_75 rfl (lv_at hl 1 rfl) ?_
      refine gd_get (v := .ref (q 8)) i_G cx hw 0 rfl rfl 9 (by decide) tw_67 rfl rfl d_G_enter_76 ?_
      refine lv_iload_n hx hb d_G_enter_79 rfl (lv_at hl 0 rfl) ?_
      refine lv_iload_n hx hb d_G_enter_80 rfl (lv_at hl 2 rfl) ?_
      refine gd_ist (g := fun i9 => mx_o ((va_up la (mx_p X n) (some n)) i9)) (wn := wG q ct X inn (va_up ah n (la (mx_p X n))) (va_up (va_up af n none) k60 (some n)) (va_up la (mx_p X n) (some n)) (va_up su (mx_p X n) ((su (mx_p X n)) + (mx_a X n))) sr S dr L) cx hw 8 rfl (by omega) (by decide) (gd_ho (some n) rfl) rfl d_G_enter_81 (fun H locs hw => ?_)
      exact hret (va_up ah n (la (mx_p X n)), va_up (va_up af n none) k60 (some n), va_up la (mx_p X n) (some n)) _ _ _ _ _ _ (Nat.le_refl _) (Nat.le_refl _) d_G_enter_82 (by unfold mx_en; rw [if_neg (by omega)]; unfold mx_enA; rw [h60]) hw
  · exact hret (ah, af, la) _ _ _ _ _ _ (Nat.le_refl _) (Nat.le_refl _) d_G_enter_33 (by unfold mx_en; rw [if_pos h30]) hw
set_option maxHeartbeats 4000000 in
set_option maxRecDepth 100000 in
/-- Grid.leave -/
theorem c_G_leave (l : Launch) (D : va_G) (ct : Nat → ClassId) (sz : Nat) (q : Nat → Nat) (X : GX) (inn : Nat → Bool) (ah af la : Nat → Option Nat) (su : Nat → Int) (sr : Nat → Int32) (S : List Nat) (dr : Nat → Int32) (L : List Nat) (po n : Nat) (hpo : po < 300) (hn : n < 3200) (hf : ∀ k, af n = some k → k < 3200 ∧ k ≠ n) (hh : ∀ k, ah n = some k → k < 3200) : gd_ctV l y_G_leave k_G_leave rm_G_leave D ct [.ref (q 0), .int (nI po), .int (nI n)] sz (wG q ct X inn ah af la su sr S dr L) (S := ((Nat → Option Nat) × (Nat → Option Nat) × (Nat → Option Nat))) (fun u => u = (mx_leH ah (af n) (ah n), mx_leA af (af n) (ah n), va_up la po (mx_leL (la po) (af n) (ah n)))) (fun u => wG q ct X inn u.1 u.2.1 u.2.2 su sr S dr L) 0 0 := by
  refine gd_entV (by decide +kernel) rfl (Nat.le_of_ble_eq_true rfl) (fun p e s m below meth c Q A ls cx hmn hw hl hret => ?_)
  have hx := cx.1
  have hb := cx.2.1
  have hl : lv_has ls 3 [(0, .ref (q 0)), (1, .int (nI po)), (2, .int (nI n))] := hl
  refine lv_aload_n hx hb d_G_leave_0 rfl (lv_at hl 0 rfl) ?_
  refine gd_get (v := .ref (q 7)) i_G cx hw 0 rfl rfl 8 (by decide) tw_66 rfl rfl d_G_leave_1 ?_
  refine lv_iload_n hx hb d_G_leave_4 rfl (lv_at hl 2 rfl) ?_
  refine gd_ild (v := mx_o (af n)) cx hw 7 rfl (by omega) (by decide) rfl d_G_leave_5 ?_
  refine lv_iconst (v := mx_o none) hx hb d_G_leave_6 (by decide) ?_
  refine gd_ne1 (tgt := 25) hx hb d_G_leave_7 (by decide) (fun k hk => by have := (hf k hk).1; omega) (fun k7 h7 => ?_) (fun h7 => ?_)
  · obtain ⟨hk7, hk7n⟩ := hf k7 h7
    refine lv_aload_n hx hb d_G_leave_25 rfl (lv_at hl 0 rfl) ?_
    refine gd_get (v := .ref (q 6)) i_G cx hw 0 rfl rfl 7 (by decide) tw_65 rfl rfl d_G_leave_26 ?_
    refine lv_aload_n hx hb d_G_leave_29 rfl (lv_at hl 0 rfl) ?_
    refine gd_get (v := .ref (q 7)) i_G cx hw 0 rfl rfl 8 (by decide) tw_66 rfl rfl d_G_leave_30 ?_
    refine lv_iload_n hx hb d_G_leave_33 rfl (lv_at hl 2 rfl) ?_
    refine gd_ild (v := nI k7) cx hw 7 rfl (by omega) (by decide) (congrArg mx_o h7) d_G_leave_34 ?_
    refine lv_aload_n hx hb d_G_leave_35 rfl (lv_at hl 0 rfl) ?_
    refine gd_get (v := .ref (q 6)) i_G cx hw 0 rfl rfl 7 (by decide) tw_65 rfl rfl d_G_leave_36 ?_
    refine lv_iload_n hx hb d_G_leave_39 rfl (lv_at hl 2 rfl) ?_
    refine gd_ild (v := mx_o (ah n)) cx hw 6 rfl (by omega) (by decide) rfl d_G_leave_40 ?_
    refine gd_ist (g := fun i9 => mx_o ((va_up ah k7 (ah n)) i9)) (wn := wG q ct X inn (va_up ah k7 (ah n)) af la su sr S dr L) cx hw 6 rfl (by omega) (by decide) (gd_ho (ah n) rfl) rfl d_G_leave_41 (fun H locs hw => ?_)
    refine lv_aload_n hx hb d_G_leave_42 rfl (lv_at hl 0 rfl) ?_
    refine gd_get (v := .ref (q 6)) i_G cx hw 0 rfl rfl 7 (by decide) tw_65 rfl rfl d_G_leave_43 ?_
    refine lv_iload_n hx hb d_G_leave_46 rfl (lv_at hl 2 rfl) ?_
    refine gd_ild (v := mx_o (ah n)) cx hw 6 rfl (by omega) (by decide) (congrArg mx_o (va_up_ne _ _ (fun e => hk7n e.symm))) d_G_leave_47 ?_
    refine lv_iconst (v := mx_o none) hx hb d_G_leave_48 (by decide) ?_
    refine gd_eq1 (tgt := 69) hx hb d_G_leave_49 (by decide) (fun k hk => by have := hh k hk; omega) (fun h49 => ?_) (fun k49 h49 => ?_)
    · exact hret (va_up ah k7 (ah n), af, la) _ _ _ _ _ _ (Nat.le_refl _) (Nat.le_refl _) d_G_leave_69 (by simp only [mx_leH, mx_leA, mx_leL, h7, h49, mx_vs]) hw
    · have hk49 := hh k49 h49
      refine lv_aload_n hx hb d_G_leave_52 rfl (lv_at hl 0 rfl) ?_
      refine gd_get (v := .ref (q 7)) i_G cx hw 0 rfl rfl 8 (by decide) tw_66 rfl rfl d_G_leave_53 ?_
      refine lv_aload_n hx hb d_G_leave_56 rfl (lv_at hl 0 rfl) ?_
      refine gd_get (v := .ref (q 6)) i_G cx hw 0 rfl rfl 7 (by decide) tw_65 rfl rfl d_G_leave_57 ?_
      refine lv_iload_n hx hb d_G_leave_60 rfl (lv_at hl 2 rfl) ?_
      refine gd_ild (v := nI k49) cx hw 6 rfl (by omega) (by decide) (congrArg mx_o ((va_up_ne _ _ (fun e => hk7n e.symm)).trans h49)) d_G_leave_61 ?_
      refine lv_aload_n hx hb d_G_leave_62 rfl (lv_at hl 0 rfl) ?_
      refine gd_get (v := .ref (q 7)) i_G cx hw 0 rfl rfl 8 (by decide) tw_66 rfl rfl d_G_leave_63 ?_
      refine lv_iload_n hx hb d_G_leave_66 rfl (lv_at hl 2 rfl) ?_
      refine gd_ild (v := mx_o (af n)) cx hw 7 rfl (by omega) (by decide) rfl d_G_leave_67 ?_
      refine gd_ist (g := fun i9 => mx_o ((va_up af k49 (af n)) i9)) (wn := wG q ct X inn (va_up ah k7 (ah n)) (va_up af k49 (af n)) la su sr S dr L) cx hw 7 rfl (by omega) (by decide) (gd_ho (af n) rfl) rfl d_G_leave_68 (fun H locs hw => ?_)
      exact hret (va_up ah k7 (ah n), va_up af k49 (af n), la) _ _ _ _ _ _ (Nat.le_refl _) (Nat.le_refl _) d_G_leave_69 (by simp only [mx_leH, mx_leA, mx_leL, h7, h49, mx_vs]) hw
  · refine lv_aload_n hx hb d_G_leave_10 rfl (lv_at hl 0 rfl) ?_
    refine gd_get (v := .ref (q 8)) i_G cx hw 0 rfl rfl 9 (by decide) tw_67 rfl rfl d_G_leave_11 ?_
    refine lv_iload_n hx hb d_G_leave_14 rfl (lv_at hl 1 rfl) ?_
    refine lv_aload_n hx hb d_G_leave_15 rfl (lv_at hl 0 rfl) ?_
    refine gd_get (v := .ref (q 6)) i_G cx hw 0 rfl rfl 7 (by decide) tw_65 rfl rfl d_G_leave_16 ?_
    refine lv_iload_n hx hb d_G_leave_19 rfl (lv_at hl 2 rfl) ?_
    refine gd_ild (v := mx_o (ah n)) cx hw 6 rfl (by omega) (by decide) rfl d_G_leave_20 ?_
    refine gd_ist (g := fun i9 => mx_o ((va_up la po (ah n)) i9)) (wn := wG q ct X inn ah af (va_up la po (ah n)) su sr S dr L) cx hw 8 rfl (by omega) (by decide) (gd_ho (ah n) rfl) rfl d_G_leave_21 (fun H locs hw => ?_)
    refine lv_goto (tgt := 42) hx hb d_G_leave_22 (by decide) ?_
    refine lv_aload_n hx hb d_G_leave_42 rfl (lv_at hl 0 rfl) ?_
    refine gd_get (v := .ref (q 6)) i_G cx hw 0 rfl rfl 7 (by decide) tw_65 rfl rfl d_G_leave_43 ?_
    refine lv_iload_n hx hb d_G_leave_46 rfl (lv_at hl 2 rfl) ?_
    refine gd_ild (v := mx_o (ah n)) cx hw 6 rfl (by omega) (by decide) rfl d_G_leave_47 ?_
    refine lv_iconst (v := mx_o none) hx hb d_G_leave_48 (by decide) ?_
    refine gd_eq1 (tgt := 69) hx hb d_G_leave_49 (by decide) (fun k hk => by have := hh k hk; omega) (fun h49 => ?_) (fun k49 h49 => ?_)
    · exact hret (ah, af, va_up la po (ah n)) _ _ _ _ _ _ (Nat.le_refl _) (Nat.le_refl _) d_G_leave_69 (by simp only [mx_leH, mx_leA, mx_leL, h7, h49]) hw
    · have hk49 := hh k49 h49
      refine lv_aload_n hx hb d_G_leave_52 rfl (lv_at hl 0 rfl) ?_
      refine gd_get (v := .ref (q 7)) i_G cx hw 0 rfl rfl 8 (by decide) tw_66 rfl rfl d_G_leave_53 ?_
      refine lv_aload_n hx hb d_G_leave_56 rfl (lv_at hl 0 rfl) ?_
      refine gd_get (v := .ref (q 6)) i_G cx hw 0 rfl rfl 7 (by decide) tw_65 rfl rfl d_G_leave_57 ?_
      refine lv_iload_n hx hb d_G_leave_60 rfl (lv_at hl 2 rfl) ?_
      refine gd_ild (v := nI k49) cx hw 6 rfl (by omega) (by decide) (congrArg mx_o h49) d_G_leave_61 ?_
      refine lv_aload_n hx hb d_G_leave_62 rfl (lv_at hl 0 rfl) ?_
      refine gd_get (v := .ref (q 7)) i_G cx hw 0 rfl rfl 8 (by decide) tw_66 rfl rfl d_G_leave_63 ?_
      refine lv_iload_n hx hb d_G_leave_66 rfl (lv_at hl 2 rfl) ?_
      refine gd_ild (v := mx_o (af n)) cx hw 7 rfl (by omega) (by decide) rfl d_G_leave_67 ?_
      refine gd_ist (g := fun i9 => mx_o ((va_up af k49 (af n)) i9)) (wn := wG q ct X inn ah (va_up af k49 (af n)) (va_up la po (ah n)) su sr S dr L) cx hw 7 rfl (by omega) (by decide) (gd_ho (af n) rfl) rfl d_G_leave_68 (fun H locs hw => ?_)
      exact hret (ah, va_up af k49 (af n), va_up la po (ah n)) _ _ _ _ _ _ (Nat.le_refl _) (Nat.le_refl _) d_G_leave_69 (by simp only [mx_leH, mx_leA, mx_leL, h7, h49]) hw
set_option maxHeartbeats 4000000 in
set_option maxRecDepth 100000 in
/-- Grid.look -/
theorem c_G_look (l : Launch) (D : va_G) (ct : Nat → ClassId) (sz : Nat) (q : Nat → Nat) (X : GX) (inn : Nat → Bool) (ah af la : Nat → Option Nat) (su : Nat → Int) (sr : Nat → Int32) (S : List Nat) (dr : Nat → Int32) (L : List Nat) (po : Nat) (hX : mx_WF X) (hpo : po < 300) (hsu : mx_fit (su po)) (hS : mx_pOk 300 sr S) : gd_ctV l y_G_look k_G_look rm_G_look D ct [.ref (q 0), .int (nI po)] sz (wG q ct X inn ah af la su sr S dr L) (S := ((Nat → Int32) × List Nat)) (fun u => mx_pOk 300 u.1 u.2 ∧ u.2 = (if su po < mx_f X po then mx_pp S po else S)) (fun u => wG q ct X inn ah af la su u.1 u.2 dr L) 0 0 := by
  refine gd_entV (by decide +kernel) rfl (Nat.le_of_ble_eq_true rfl) (fun p e s m below meth c Q A ls cx hmn hw hl hret => ?_)
  have hx := cx.1
  have hb := cx.2.1
  have hl : lv_has ls 2 [(0, .ref (q 0)), (1, .int (nI po))] := hl
  refine lv_aload_n hx hb d_G_look_0 rfl (lv_at hl 0 rfl) ?_
  refine gd_get (v := .ref (q 9)) i_G cx hw 0 rfl rfl 10 (by decide) tw_68 rfl rfl d_G_look_1 ?_
  refine lv_iload_n hx hb d_G_look_4 rfl (lv_at hl 1 rfl) ?_
  refine gd_lld (v := mx_l (su po)) cx hw 9 rfl (by omega) (by decide) rfl d_G_look_5 ?_
  refine lv_aload_n hx hb d_G_look_6 rfl (lv_at hl 0 rfl) ?_
  refine gd_get (v := .ref (q 16)) i_G cx hw 0 rfl rfl 0 (by decide) tw_56 rfl rfl d_G_look_7 ?_
  refine lv_iload_n hx hb d_G_look_10 rfl (lv_at hl 1 rfl) ?_
  refine gd_callFL (n := 1) (As := [.int (nI po)]) (rest := [.long (mx_l (su po))]) cx hw (c_A_floor l D ct _ (q 16) (q 17) (q 18) X po hpo) cf_84 (cx.2.2.2.2.2.2.2.2.2.2.2.2.2.2) (by decide +kernel) ⟨by decide, by decide⟩ ⟨rfl, rfl⟩ [16, 17, 18] rfl rfl 0 rfl (gd_jr hw [16, 17, 18] rfl) rfl hl.1 rfl (Nat.le_of_ble_eq_true rfl) ⟨Nat.zero_le _, Nat.zero_le _⟩ d_G_look_11 (fun r u H locs hp hw => ?_)
  subst hp
  refine gd_lge (tgt := 28) hx hb d_G_look_16 d_G_look_17 (by decide) hsu (mx_f_fit hX hpo) (fun h17 => ?_) (fun h17 => ?_)
  · exact hret (sr, S) _ _ _ _ _ _ (Nat.le_refl _) (Nat.le_refl _) d_G_look_28 ⟨hS, by rw [if_neg (by omega)]⟩ hw
  · refine lv_aload_n hx hb d_G_look_20 rfl (lv_at hl 0 rfl) ?_
    refine gd_get (v := .ref (q 10)) i_G cx hw 0 rfl rfl 11 (by decide) tw_70 rfl rfl d_G_look_21 ?_
    refine lv_iload_n hx hb d_G_look_24 rfl (lv_at hl 1 rfl) ?_
    refine gd_callVV (As := [.int (nI po)]) (rest := []) cx hw (c_P_push l D ct _ (q 10) (q 11) (q 12) 300 sr S po (by decide) hpo hS) cv_G_87 ⟨by decide, by decide⟩ ⟨rfl, rfl⟩ [10, 11, 12] rfl rfl 0 3 rfl rfl (gd_jn (w2 := fun u => wG q ct X inn ah af la su u (mx_pp S po) dr L) hw [10, 11, 12] [0, 1, 2, 3, 4, 5, 6, 7, 8, 9, 13, 14, 15, 16, 17, 18] [0, 1, 2, 3, 4, 5, 6, 7, 8, 9, 16, 17, 18, 10, 11, 12, 13, 14, 15] rfl rfl rfl (by decide) (fun _ => rfl) rfl) rfl hl.1 rfl (Nat.le_of_ble_eq_true rfl) ⟨Nat.zero_le _, Nat.zero_le _⟩ d_G_look_25 (fun u H locs hp hw => ?_)
    exact hret (u, mx_pp S po) _ _ _ _ _ _ (Nat.le_refl _) (Nat.le_refl _) d_G_look_28 ⟨hp, by rw [if_pos (by omega)]⟩ hw
set_option maxHeartbeats 4000000 in
set_option maxRecDepth 100000 in
/-- Grid.drop -/
theorem c_G_drop (l : Launch) (D : va_G) (ct : Nat → ClassId) (sz : Nat) (q : Nat → Nat) (X : GX) (inn : Nat → Bool) (ah af la : Nat → Option Nat) (su : Nat → Int) (sr : Nat → Int32) (S : List Nat) (dr : Nat → Int32) (L : List Nat) (E : Nat → Prop) (i : Nat) (hX : mx_WF X) (hi : i < 200) (hS : mx_pOk 300 sr S) (hL : mx_pOk 200 dr L) (hD : mx_DI X i (16 * i) (va_up inn i false) ah af la su S L E) : gd_ctV l y_G_drop k_G_drop rm_G_drop D ct [.ref (q 0), .int (nI i)] sz (wG q ct X inn ah af la su sr S dr L) (S := GU) (fun u => mx_MU X (va_up inn i false) u E ∧ ∀ j, j ∈ L → j ∈ u.2.2.2.2.2.2.2) (fun u => wGu q ct X (va_up inn i false) u) 0 0 := by
  refine gd_entV (by decide +kernel) rfl (Nat.le_of_ble_eq_true rfl) (fun p e s m below meth c Q A ls cx hmn hw hl hret => ?_)
  have hx := cx.1
  have hb := cx.2.1
  have hl : lv_has ls 5 [(0, .ref (q 0)), (1, .int (nI i))] := hl
  obtain ⟨Lz, hLz⟩ : ∃ Lz, Lz = L := ⟨_, rfl⟩
  have hm16 := hX.m i
  have loop : ∀ (d k : Nat), k + d = mx_m X i → ∀ (ah af la : Nat → Option Nat) (su : Nat → Int) (sr : Nat → Int32) (S : List Nat) (dr : Nat → Int32) (L : List Nat), mx_pOk 300 sr S → mx_pOk 200 dr L → (∀ j, j ∈ Lz → j ∈ L) → mx_DI X i (16 * i + k) (va_up inn i false) ah af la su S L E → ∀ (H : Heap) (locs : List Loc) (ls : Array Slot), gd_Ws D A s (wG q ct X (va_up inn i false) ah af la su sr S dr L) H locs → lv_has ls 5 [(2, .int (nI (16 * i + k))), (0, .ref (q 0)), (1, .int (nI i))] → W p l e rm_G_drop s m [.ref (q 0), .int (nI i)].toArray below meth c H locs 0 0 Q (F0 m 12 ls []) := by
    intro d
    induction d with
    | zero =>
      intro k hk ah af la su sr S dr L hS hL hZ hD H locs ls hw hl
      refine lv_iload_n hx hb d_G_drop_12 rfl (lv_at hl 0 rfl) ?_
      refine lv_bipush (v := nI 16) hx hb d_G_drop_13 (by decide) ?_
      refine lv_iload_n hx hb d_G_drop_15 rfl (lv_at hl 2 rfl) ?_
      refine gd_imul hx hb d_G_drop_16 ?_
      refine lv_aload_n hx hb d_G_drop_17 rfl (lv_at hl 1 rfl) ?_
      refine gd_get (v := .ref (q 3)) i_G cx hw 0 rfl rfl 4 (by decide) tw_62 rfl rfl d_G_drop_18 ?_
      refine lv_iload_n hx hb d_G_drop_21 rfl (lv_at hl 2 rfl) ?_
      refine gd_bld (v := nI (mx_m X i)) cx hw 3 rfl (by omega) (by decide) rfl d_G_drop_22 ?_
      refine gd_iadd hx hb d_G_drop_23 ?_
      refine gd_ge (tgt := 118) hx hb d_G_drop_24 (by decide) (by omega) (by omega) (fun h24 => ?_) (fun h24 => ?_)
      · exact hret (ah, af, la, su, sr, S, dr, L) _ _ _ _ _ _ (Nat.le_refl _) (Nat.le_refl _) d_G_drop_118 ⟨⟨mx_DI_end hX (by omega) hD, hS, hL⟩, fun j hj => hZ j (by rw [hLz]; exact hj)⟩ hw
      · omega
    | succ d ih =>
      intro k hk ah af la su sr S dr L hS hL hZ hD H locs ls hw hl
      have ih0 := ih
      refine lv_iload_n hx hb d_G_drop_12 rfl (lv_at hl 0 rfl) ?_
      refine lv_bipush (v := nI 16) hx hb d_G_drop_13 (by decide) ?_
      refine lv_iload_n hx hb d_G_drop_15 rfl (lv_at hl 2 rfl) ?_
      refine gd_imul hx hb d_G_drop_16 ?_
      refine lv_aload_n hx hb d_G_drop_17 rfl (lv_at hl 1 rfl) ?_
      refine gd_get (v := .ref (q 3)) i_G cx hw 0 rfl rfl 4 (by decide) tw_62 rfl rfl d_G_drop_18 ?_
      refine lv_iload_n hx hb d_G_drop_21 rfl (lv_at hl 2 rfl) ?_
      refine gd_bld (v := nI (mx_m X i)) cx hw 3 rfl (by omega) (by decide) rfl d_G_drop_22 ?_
      refine gd_iadd hx hb d_G_drop_23 ?_
      refine gd_ge (tgt := 118) hx hb d_G_drop_24 (by decide) (by omega) (by omega) (fun h24 => ?_) (fun h24 => ?_)
      · omega
      · have hd1 : (16 * i + k) / 16 = i := by omega
        have hd2 : (16 * i + k) % 16 = k := by omega
        have hu : (16 * i + k) % 16 < mx_m X i := by omega
        have hu2 : (16 * i + k) % 16 < mx_m X ((16 * i + k) / 16) := by rw [hd1]; exact hu
        obtain ⟨hn1, hn2, hn3, hn4, hn5⟩ := mx_used hX hu2
        have hfit := mx_DI_fit hX hd1 hu hD
        refine lv_aload_n hx hb d_G_drop_27 rfl (lv_at hl 1 rfl) ?_
        refine gd_get (v := .ref (q 4)) i_G cx hw 0 rfl rfl 5 (by decide) tw_63 rfl rfl d_G_drop_28 ?_
        refine lv_iload_n hx hb d_G_drop_31 rfl (lv_at hl 0 rfl) ?_
        refine gd_sld (v := nI (mx_p X (16 * i + k))) cx hw 4 rfl (by omega) (by decide) rfl d_G_drop_32 ?_
        refine lv_istore_n (lv' := [(3, .int (nI (mx_p X (16 * i + k)))), (2, .int (nI (16 * i + k))), (0, .ref (q 0)), (1, .int (nI i))]) hx hb d_G_drop_33 rfl hl (by decide) rfl (fun ls hl => ?_)
        refine lv_aload_n hx hb d_G_drop_34 rfl (lv_at hl 2 rfl) ?_
        refine gd_get (v := .ref (q 9)) i_G cx hw 0 rfl rfl 10 (by decide) tw_68 rfl rfl d_G_drop_35 ?_
        refine lv_iload_n hx hb d_G_drop_38 rfl (lv_at hl 0 rfl) ?_
        refine lv_dup2_11 hx hb d_G_drop_39 rfl rfl ?_
        refine gd_lld (v := mx_l (su (mx_p X (16 * i + k)))) cx hw 9 rfl (by omega) (by decide) rfl d_G_drop_40 ?_
        refine lv_aload_n hx hb d_G_drop_41 rfl (lv_at hl 2 rfl) ?_
        refine gd_get (v := .ref (q 5)) i_G cx hw 0 rfl rfl 6 (by decide) tw_64 rfl rfl d_G_drop_42 ?_
        refine lv_iload_n hx hb d_G_drop_45 rfl (lv_at hl 1 rfl) ?_
        refine gd_lld (v := mx_l (mx_a X (16 * i + k))) cx hw 5 rfl (by omega) (by decide) rfl d_G_drop_46 ?_
        refine gd_lsub hx hb d_G_drop_47 ?_
        refine gd_lst (g := fun i9 => mx_l ((va_up su (mx_p X (16 * i + k)) ((su (mx_p X (16 * i + k))) - (mx_a X (16 * i + k)))) i9)) (wn := wG q ct X (va_up inn i false) ah af la (va_up su (mx_p X (16 * i + k)) ((su (mx_p X (16 * i + k))) - (mx_a X (16 * i + k)))) sr S dr L) cx hw 9 rfl (by omega) (by decide) (gd_hl ((su (mx_p X (16 * i + k))) - (mx_a X (16 * i + k)))) rfl d_G_drop_48 (fun H locs hw => ?_)
        refine lv_aload_n hx hb d_G_drop_49 rfl (lv_at hl 2 rfl) ?_
        refine gd_get (v := .ref (q 5)) i_G cx hw 0 rfl rfl 6 (by decide) tw_64 rfl rfl d_G_drop_50 ?_
        refine lv_iload_n hx hb d_G_drop_53 rfl (lv_at hl 1 rfl) ?_
        refine gd_lld (v := mx_l (mx_a X (16 * i + k))) cx hw 5 rfl (by omega) (by decide) rfl d_G_drop_54 ?_
        refine lv_lconst (v := mx_l 0) hx hb d_G_drop_55 (by decide) ?_
        refine gd_lle (tgt := 68) hx hb d_G_drop_56 d_G_drop_57 (by decide) (by unfold mx_fit; omega) (by unfold mx_fit; omega) (fun h57 => ?_) (fun h57 => ?_)
        · refine lv_aload_n hx hb d_G_drop_68 rfl (lv_at hl 2 rfl) ?_
          refine gd_get (v := .ref (q 7)) i_G cx hw 0 rfl rfl 8 (by decide) tw_66 rfl rfl d_G_drop_69 ?_
          refine lv_iload_n hx hb d_G_drop_72 rfl (lv_at hl 1 rfl) ?_
          refine gd_ild (v := mx_o (af (16 * i + k))) cx hw 7 rfl (by omega) (by decide) rfl d_G_drop_73 ?_
          refine lv_istore (lv' := [(4, .int (mx_o (af (16 * i + k)))), (3, .int (nI (mx_p X (16 * i + k)))), (2, .int (nI (16 * i + k))), (0, .ref (q 0)), (1, .int (nI i))]) hx hb d_G_drop_74 hl (by decide) rfl (fun ls hl => ?_)
          have ha : mx_a X (16 * i + k) < 0 := by omega
          obtain ⟨hx0, hf0, hh0⟩ := mx_DI_lv hX hd1 hu ha hD
          have trav : ∀ (d2 : Nat) (o : Option Nat) (dr2 : Nat → Int32) (L2 : List Nat), (∀ c, o = some c → 3200 ≤ c + d2) → mx_pOk 200 dr2 L2 → mx_TI X (mx_q X (mx_Zd (va_up inn i false) i (16 * i + k)) (mx_p X (16 * i + k))) (16 * i + k) o L L2 → ∀ (H : Heap) (locs : List Loc) (ls : Array Slot), gd_Ws D A s (wG q ct X (va_up inn i false) ah af la (va_up su (mx_p X (16 * i + k)) (su (mx_p X (16 * i + k)) - mx_a X (16 * i + k))) sr S dr2 L2) H locs → lv_has ls 5 [(4, .int (mx_o o)), (3, .int (nI (mx_p X (16 * i + k)))), (2, .int (nI (16 * i + k))), (0, .ref (q 0)), (1, .int (nI i))] → W p l e rm_G_drop s m [.ref (q 0), .int (nI i)].toArray below meth c H locs 0 0 Q (F0 m 76 ls []) := by
            intro d2
            induction d2 with
            | zero =>
              intro o dr2 L2 hd3 hL2 hT H locs ls hw hl
              have hc32 : ∀ c, o = some c → c < 3200 := fun c hc => (mx_used hX (hT.1 c hc).1.1).2.1
              refine lv_iload hx hb d_G_drop_76 (lv_at hl 0 rfl) ?_
              refine lv_iconst (v := mx_o none) hx hb d_G_drop_78 (by decide) ?_
              refine gd_eq1 (tgt := 106) hx hb d_G_drop_79 (by decide) (fun k hk => by have := hc32 k hk; omega) (fun h79 => ?_) (fun k79 h79 => ?_)
              · subst h79
                refine lv_aload_n hx hb d_G_drop_106 rfl (lv_at hl 3 rfl) ?_
                refine lv_iload_n hx hb d_G_drop_107 rfl (lv_at hl 1 rfl) ?_
                refine lv_iload_n hx hb d_G_drop_108 rfl (lv_at hl 2 rfl) ?_
                refine gd_callVV (As := [.int (nI (mx_p X (16 * i + k))), .int (nI (16 * i + k))]) (rest := []) cx hw (c_G_leave l D ct _ q X (va_up inn i false) ah af la (va_up su (mx_p X (16 * i + k)) (su (mx_p X (16 * i + k)) - mx_a X (16 * i + k))) sr S dr2 L2 (mx_p X (16 * i + k)) (16 * i + k) hn3 hn2 hf0 hh0) cv_G_90 ⟨by decide, by decide⟩ ⟨rfl, rfl⟩ [0, 1, 2, 3, 4, 5, 6, 7, 8, 9, 10, 11, 12, 13, 14, 15, 16, 17, 18] rfl rfl 0 2 rfl rfl (gd_jn (w2 := fun u => wG q ct X (va_up inn i false) u.1 u.2.1 u.2.2 (va_up su (mx_p X (16 * i + k)) (su (mx_p X (16 * i + k)) - mx_a X (16 * i + k))) sr S dr2 L2) hw [0, 1, 2, 3, 4, 5, 6, 7, 8, 9, 10, 11, 12, 13, 14, 15, 16, 17, 18] [] [0, 1, 2, 3, 4, 5, 6, 7, 8, 9, 10, 11, 12, 13, 14, 15, 16, 17, 18] rfl rfl rfl (by decide) (fun _ => rfl) rfl) rfl hl.1 rfl (Nat.le_of_ble_eq_true rfl) ⟨Nat.zero_le _, Nat.zero_le _⟩ d_G_drop_109 (fun u H locs hp hw => ?_)
                subst hp
                have hD2 := mx_DI_neg hX hd1 hu rfl ha hD hT.2.2.1 hT.2.2.2 (fun m hm hnm => hT.2.1 m hm hnm (fun c hc => by cases hc))
                refine lv_iinc (v := nI ((16 * i + k) + 1)) (lv' := [(2, .int (nI ((16 * i + k) + 1))), (4, .int (mx_o none)), (3, .int (nI (mx_p X (16 * i + k)))), (0, .ref (q 0)), (1, .int (nI i))]) hx hb d_G_drop_112 hl (k := 2) rfl (gd_inc1 _) (by decide) rfl (fun ls hl => ?_)
                refine lv_goto (tgt := 12) hx hb d_G_drop_115 (by decide) ?_
                exact ih0 (k + 1) (by omega) _ _ _ _ _ _ _ _ hS hL2 (fun j hj => hT.2.2.1 j (hZ j hj)) hD2 H locs ls hw (lv_sub hl [0, 3, 4] rfl)
              · subst h79
                have hc3 := hc32 k79 rfl
                have := hd3 k79 rfl
                have hl : lv_has ls 5 [(4, .int (nI k79)), (3, .int (nI (mx_p X (16 * i + k)))), (2, .int (nI (16 * i + k))), (0, .ref (q 0)), (1, .int (nI i))] := hl
                omega
            | succ d2 ih =>
              intro o dr2 L2 hd3 hL2 hT H locs ls hw hl
              have hc32 : ∀ c, o = some c → c < 3200 := fun c hc => (mx_used hX (hT.1 c hc).1.1).2.1
              refine lv_iload hx hb d_G_drop_76 (lv_at hl 0 rfl) ?_
              refine lv_iconst (v := mx_o none) hx hb d_G_drop_78 (by decide) ?_
              refine gd_eq1 (tgt := 106) hx hb d_G_drop_79 (by decide) (fun k hk => by have := hc32 k hk; omega) (fun h79 => ?_) (fun k79 h79 => ?_)
              · subst h79
                refine lv_aload_n hx hb d_G_drop_106 rfl (lv_at hl 3 rfl) ?_
                refine lv_iload_n hx hb d_G_drop_107 rfl (lv_at hl 1 rfl) ?_
                refine lv_iload_n hx hb d_G_drop_108 rfl (lv_at hl 2 rfl) ?_
                refine gd_callVV (As := [.int (nI (mx_p X (16 * i + k))), .int (nI (16 * i + k))]) (rest := []) cx hw (c_G_leave l D ct _ q X (va_up inn i false) ah af la (va_up su (mx_p X (16 * i + k)) (su (mx_p X (16 * i + k)) - mx_a X (16 * i + k))) sr S dr2 L2 (mx_p X (16 * i + k)) (16 * i + k) hn3 hn2 hf0 hh0) cv_G_90 ⟨by decide, by decide⟩ ⟨rfl, rfl⟩ [0, 1, 2, 3, 4, 5, 6, 7, 8, 9, 10, 11, 12, 13, 14, 15, 16, 17, 18] rfl rfl 0 2 rfl rfl (gd_jn (w2 := fun u => wG q ct X (va_up inn i false) u.1 u.2.1 u.2.2 (va_up su (mx_p X (16 * i + k)) (su (mx_p X (16 * i + k)) - mx_a X (16 * i + k))) sr S dr2 L2) hw [0, 1, 2, 3, 4, 5, 6, 7, 8, 9, 10, 11, 12, 13, 14, 15, 16, 17, 18] [] [0, 1, 2, 3, 4, 5, 6, 7, 8, 9, 10, 11, 12, 13, 14, 15, 16, 17, 18] rfl rfl rfl (by decide) (fun _ => rfl) rfl) rfl hl.1 rfl (Nat.le_of_ble_eq_true rfl) ⟨Nat.zero_le _, Nat.zero_le _⟩ d_G_drop_109 (fun u H locs hp hw => ?_)
                subst hp
                have hD2 := mx_DI_neg hX hd1 hu rfl ha hD hT.2.2.1 hT.2.2.2 (fun m hm hnm => hT.2.1 m hm hnm (fun c hc => by cases hc))
                refine lv_iinc (v := nI ((16 * i + k) + 1)) (lv' := [(2, .int (nI ((16 * i + k) + 1))), (4, .int (mx_o none)), (3, .int (nI (mx_p X (16 * i + k)))), (0, .ref (q 0)), (1, .int (nI i))]) hx hb d_G_drop_112 hl (k := 2) rfl (gd_inc1 _) (by decide) rfl (fun ls hl => ?_)
                refine lv_goto (tgt := 12) hx hb d_G_drop_115 (by decide) ?_
                exact ih0 (k + 1) (by omega) _ _ _ _ _ _ _ _ hS hL2 (fun j hj => hT.2.2.1 j (hZ j hj)) hD2 H locs ls hw (lv_sub hl [0, 3, 4] rfl)
              · subst h79
                have hc3 := hc32 k79 rfl
                have hl : lv_has ls 5 [(4, .int (nI k79)), (3, .int (nI (mx_p X (16 * i + k)))), (2, .int (nI (16 * i + k))), (0, .ref (q 0)), (1, .int (nI i))] := hl
                obtain ⟨hN, hl2, hl3⟩ := mx_DI_beh hX hd1 hu rfl ha hD (hT.1 k79 rfl).1 (hT.1 k79 rfl).2
                refine lv_aload_n hx hb d_G_drop_82 rfl (lv_at hl 3 rfl) ?_
                refine gd_get (v := .ref (q 13)) i_G cx hw 0 rfl rfl 12 (by decide) tw_71 rfl rfl d_G_drop_83 ?_
                refine lv_iload hx hb d_G_drop_86 (lv_at hl 0 rfl) ?_
                refine lv_bipush (v := nI 16) hx hb d_G_drop_88 (by decide) ?_
                refine gd_idiv hx hb d_G_drop_90 (by omega) ?_
                refine gd_callVV (As := [.int (nI (k79 / 16))]) (rest := []) cx hw (c_P_push l D ct _ (q 13) (q 14) (q 15) 200 dr2 L2 (k79 / 16) (by decide) hl2 hL2) cv_G_87 ⟨by decide, by decide⟩ ⟨rfl, rfl⟩ [13, 14, 15] rfl rfl 0 3 rfl rfl (gd_jn (w2 := fun u => wG q ct X (va_up inn i false) ah af la (va_up su (mx_p X (16 * i + k)) (su (mx_p X (16 * i + k)) - mx_a X (16 * i + k))) sr S u (mx_pp L2 (k79 / 16))) hw [13, 14, 15] [0, 1, 2, 3, 4, 5, 6, 7, 8, 9, 10, 11, 12, 16, 17, 18] [0, 1, 2, 3, 4, 5, 6, 7, 8, 9, 10, 11, 12, 16, 17, 18, 13, 14, 15] rfl rfl rfl (by decide) (fun _ => rfl) rfl) rfl hl.1 rfl (Nat.le_of_ble_eq_true rfl) ⟨Nat.zero_le _, Nat.zero_le _⟩ d_G_drop_91 (fun u H locs hp hw => ?_)
                refine lv_aload_n hx hb d_G_drop_94 rfl (lv_at hl 3 rfl) ?_
                refine gd_get (v := .ref (q 7)) i_G cx hw 0 rfl rfl 8 (by decide) tw_66 rfl rfl d_G_drop_95 ?_
                refine lv_iload hx hb d_G_drop_98 (lv_at hl 0 rfl) ?_
                refine gd_ild (v := mx_o (af k79)) cx hw 7 rfl (by omega) (by decide) rfl d_G_drop_100 ?_
                refine lv_istore (lv' := [(4, .int (mx_o (af k79))), (3, .int (nI (mx_p X (16 * i + k)))), (2, .int (nI (16 * i + k))), (0, .ref (q 0)), (1, .int (nI i))]) hx hb d_G_drop_101 hl (by decide) rfl (fun ls hl => ?_)
                refine lv_goto (tgt := 76) hx hb d_G_drop_103 (by decide) ?_
                have hx3 := mx_DI_nx hX hd1 hu hD (hT.1 k79 rfl).1
                exact ih (af k79) u (mx_pp L2 (k79 / 16)) (fun c hc => by have h1 := hd3 k79 rfl; rw [hc] at hx3; have h2 := hx3.2.1; omega) hp (mx_TI_step hT hx3 hN) H locs ls hw (lv_sub hl [0, 1, 2, 3, 4] rfl)
          exact trav 3200 (af (16 * i + k)) dr L (fun c hc => by omega) hL (mx_TI_start hx0 (mx_DI_No hD)) _ _ ls hw (lv_sub hl [0, 1, 2, 3, 4] rfl)
        · refine lv_aload_n hx hb d_G_drop_60 rfl (lv_at hl 2 rfl) ?_
          refine lv_iload_n hx hb d_G_drop_61 rfl (lv_at hl 0 rfl) ?_
          have hfit2 : mx_fit (va_up su (mx_p X (16 * i + k)) (su (mx_p X (16 * i + k)) - mx_a X (16 * i + k)) (mx_p X (16 * i + k))) := by rw [va_up_self]; exact hfit
          refine gd_callVV (As := [.int (nI (mx_p X (16 * i + k)))]) (rest := []) cx hw (c_G_look l D ct _ q X (va_up inn i false) ah af la (va_up su (mx_p X (16 * i + k)) (su (mx_p X (16 * i + k)) - mx_a X (16 * i + k))) sr S dr L (mx_p X (16 * i + k)) hX hn3 hfit2 hS) cv_G_81 ⟨by decide, by decide⟩ ⟨rfl, rfl⟩ [0, 1, 2, 3, 4, 5, 6, 7, 8, 9, 10, 11, 12, 13, 14, 15, 16, 17, 18] rfl rfl 0 2 rfl rfl (gd_jn (w2 := fun u => wG q ct X (va_up inn i false) ah af la (va_up su (mx_p X (16 * i + k)) (su (mx_p X (16 * i + k)) - mx_a X (16 * i + k))) u.1 u.2 dr L) hw [0, 1, 2, 3, 4, 5, 6, 7, 8, 9, 10, 11, 12, 13, 14, 15, 16, 17, 18] [] [0, 1, 2, 3, 4, 5, 6, 7, 8, 9, 10, 11, 12, 13, 14, 15, 16, 17, 18] rfl rfl rfl (by decide) (fun _ => rfl) rfl) rfl hl.1 rfl (Nat.le_of_ble_eq_true rfl) ⟨Nat.zero_le _, Nat.zero_le _⟩ d_G_drop_62 (fun u H locs hp hw => ?_)
          obtain ⟨hp1, hp2⟩ := hp
          rw [va_up_self] at hp2
          have hD2 := mx_DI_pos (S2 := u.2) hX hd1 hu rfl (by omega) hD (fun j hj => by rw [hp2]; split; exact mx_pp_mem.mpr (Or.inl hj); exact hj) (fun h => by rw [hp2, if_pos h]; exact mx_pp_mem.mpr (Or.inr rfl))
          refine lv_goto (tgt := 112) hx hb d_G_drop_65 (by decide) ?_
          refine lv_iinc (v := nI ((16 * i + k) + 1)) (lv' := [(2, .int (nI ((16 * i + k) + 1))), (3, .int (nI (mx_p X (16 * i + k)))), (0, .ref (q 0)), (1, .int (nI i))]) hx hb d_G_drop_112 hl (k := 1) rfl (gd_inc1 _) (by decide) rfl (fun ls hl => ?_)
          refine lv_goto (tgt := 12) hx hb d_G_drop_115 (by decide) ?_
          exact ih (k + 1) (by omega) _ _ _ _ _ _ _ _ hp1 hL hZ hD2 H locs ls hw (lv_sub hl [0, 2, 3] rfl)
  refine lv_aload_n hx hb d_G_drop_0 rfl (lv_at hl 0 rfl) ?_
  refine gd_get (v := .ref (q 2)) i_G cx hw 0 rfl rfl 3 (by decide) tw_60 rfl rfl d_G_drop_1 ?_
  refine lv_iload_n hx hb d_G_drop_4 rfl (lv_at hl 1 rfl) ?_
  refine lv_iconst (v := nI 0) hx hb d_G_drop_5 (by decide) ?_
  refine gd_zst (g := fun i9 => mx_b (va_up inn i false i9)) (wn := wG q ct X (va_up inn i false) ah af la su sr S dr L) cx hw 2 rfl (by omega) (by decide) (gd_hz false (by decide)) rfl d_G_drop_6 (fun H locs hw => ?_)
  refine lv_bipush (v := nI 16) hx hb d_G_drop_7 (by decide) ?_
  refine lv_iload_n hx hb d_G_drop_9 rfl (lv_at hl 1 rfl) ?_
  refine gd_imul hx hb d_G_drop_10 ?_
  refine lv_istore_n (lv' := [(2, .int (nI (16 * i))), (0, .ref (q 0)), (1, .int (nI i))]) hx hb d_G_drop_11 rfl hl (by decide) rfl (fun ls hl => ?_)
  exact loop (mx_m X i) 0 (by omega) ah af la su sr S dr L hS hL (fun j hj => by rw [← hLz]; exact hj) hD _ _ ls hw (lv_sub hl [0, 1, 2] rfl)
end
section
theorem d_G_begin_0 : decode b_G_begin 0 = .ok (.iconst 0, 1) := by decide +kernel
theorem d_G_begin_1 : decode b_G_begin 1 = .ok (.istore_n 1, 1) := by decide +kernel
theorem d_G_begin_2 : decode b_G_begin 2 = .ok (.iload_n 1, 1) := by decide +kernel
theorem d_G_begin_3 : decode b_G_begin 3 = .ok (.aload_n 0, 1) := by decide +kernel
theorem d_G_begin_4 : decode b_G_begin 4 = .ok (.getfield 46, 3) := by decide +kernel
theorem d_G_begin_7 : decode b_G_begin 7 = .ok (.arraylength, 1) := by decide +kernel
theorem d_G_begin_8 : decode b_G_begin 8 = .ok (.if_icmp .ge 32, 3) := by decide +kernel
theorem d_G_begin_11 : decode b_G_begin 11 = .ok (.aload_n 0, 1) := by decide +kernel
theorem d_G_begin_12 : decode b_G_begin 12 = .ok (.getfield 46, 3) := by decide +kernel
theorem d_G_begin_15 : decode b_G_begin 15 = .ok (.iload_n 1, 1) := by decide +kernel
theorem d_G_begin_16 : decode b_G_begin 16 = .ok (.aload_n 0, 1) := by decide +kernel
theorem d_G_begin_17 : decode b_G_begin 17 = .ok (.getfield 7, 3) := by decide +kernel
theorem d_G_begin_20 : decode b_G_begin 20 = .ok (.iload_n 1, 1) := by decide +kernel
theorem d_G_begin_21 : decode b_G_begin 21 = .ok (.invokeinterface 72 2, 5) := by decide +kernel
theorem d_G_begin_26 : decode b_G_begin 26 = .ok (.lastore, 1) := by decide +kernel
theorem d_G_begin_27 : decode b_G_begin 27 = .ok (.aload_n 0, 1) := by decide +kernel
theorem d_G_begin_28 : decode b_G_begin 28 = .ok (.getfield 43, 3) := by decide +kernel
theorem d_G_begin_31 : decode b_G_begin 31 = .ok (.iload_n 1, 1) := by decide +kernel
theorem d_G_begin_32 : decode b_G_begin 32 = .ok (.iconst (-1), 1) := by decide +kernel
theorem d_G_begin_33 : decode b_G_begin 33 = .ok (.iastore, 1) := by decide +kernel
theorem d_G_begin_34 : decode b_G_begin 34 = .ok (.iinc 1 1, 3) := by decide +kernel
theorem d_G_begin_37 : decode b_G_begin 37 = .ok (.goto (-35), 3) := by decide +kernel
theorem d_G_begin_40 : decode b_G_begin 40 = .ok (.iconst 0, 1) := by decide +kernel
theorem d_G_begin_41 : decode b_G_begin 41 = .ok (.istore_n 1, 1) := by decide +kernel
theorem d_G_begin_42 : decode b_G_begin 42 = .ok (.iload_n 1, 1) := by decide +kernel
theorem d_G_begin_43 : decode b_G_begin 43 = .ok (.aload_n 0, 1) := by decide +kernel
theorem d_G_begin_44 : decode b_G_begin 44 = .ok (.getfield 61, 3) := by decide +kernel
theorem d_G_begin_47 : decode b_G_begin 47 = .ok (.if_icmp .ge 61, 3) := by decide +kernel
theorem d_G_begin_50 : decode b_G_begin 50 = .ok (.aload_n 0, 1) := by decide +kernel
theorem d_G_begin_51 : decode b_G_begin 51 = .ok (.getfield 21, 3) := by decide +kernel
theorem d_G_begin_54 : decode b_G_begin 54 = .ok (.iload_n 1, 1) := by decide +kernel
theorem d_G_begin_55 : decode b_G_begin 55 = .ok (.aload_n 0, 1) := by decide +kernel
theorem d_G_begin_56 : decode b_G_begin 56 = .ok (.getfield 17, 3) := by decide +kernel
theorem d_G_begin_59 : decode b_G_begin 59 = .ok (.iload_n 1, 1) := by decide +kernel
theorem d_G_begin_60 : decode b_G_begin 60 = .ok (.baload, 1) := by decide +kernel
theorem d_G_begin_61 : decode b_G_begin 61 = .ok (.bastore, 1) := by decide +kernel
theorem d_G_begin_62 : decode b_G_begin 62 = .ok (.bipush 16, 2) := by decide +kernel
theorem d_G_begin_64 : decode b_G_begin 64 = .ok (.iload_n 1, 1) := by decide +kernel
theorem d_G_begin_65 : decode b_G_begin 65 = .ok (.imul, 1) := by decide +kernel
theorem d_G_begin_66 : decode b_G_begin 66 = .ok (.istore_n 2, 1) := by decide +kernel
theorem d_G_begin_67 : decode b_G_begin 67 = .ok (.iload_n 2, 1) := by decide +kernel
theorem d_G_begin_68 : decode b_G_begin 68 = .ok (.bipush 16, 2) := by decide +kernel
theorem d_G_begin_70 : decode b_G_begin 70 = .ok (.iload_n 1, 1) := by decide +kernel
theorem d_G_begin_71 : decode b_G_begin 71 = .ok (.imul, 1) := by decide +kernel
theorem d_G_begin_72 : decode b_G_begin 72 = .ok (.aload_n 0, 1) := by decide +kernel
theorem d_G_begin_73 : decode b_G_begin 73 = .ok (.getfield 24, 3) := by decide +kernel
theorem d_G_begin_76 : decode b_G_begin 76 = .ok (.iload_n 1, 1) := by decide +kernel
theorem d_G_begin_77 : decode b_G_begin 77 = .ok (.baload, 1) := by decide +kernel
theorem d_G_begin_78 : decode b_G_begin 78 = .ok (.iadd, 1) := by decide +kernel
theorem d_G_begin_79 : decode b_G_begin 79 = .ok (.if_icmp .ge 23, 3) := by decide +kernel
theorem d_G_begin_82 : decode b_G_begin 82 = .ok (.aload_n 0, 1) := by decide +kernel
theorem d_G_begin_83 : decode b_G_begin 83 = .ok (.getfield 17, 3) := by decide +kernel
theorem d_G_begin_86 : decode b_G_begin 86 = .ok (.iload_n 1, 1) := by decide +kernel
theorem d_G_begin_87 : decode b_G_begin 87 = .ok (.baload, 1) := by decide +kernel
theorem d_G_begin_88 : decode b_G_begin 88 = .ok (.ifCond .eq 14, 3) := by decide +kernel
theorem d_G_begin_91 : decode b_G_begin 91 = .ok (.aload_n 0, 1) := by decide +kernel
theorem d_G_begin_92 : decode b_G_begin 92 = .ok (.iload_n 2, 1) := by decide +kernel
theorem d_G_begin_93 : decode b_G_begin 93 = .ok (.invokevirtual 78, 3) := by decide +kernel
theorem d_G_begin_96 : decode b_G_begin 96 = .ok (.iinc 2 1, 3) := by decide +kernel
theorem d_G_begin_99 : decode b_G_begin 99 = .ok (.goto (-32), 3) := by decide +kernel
theorem d_G_begin_102 : decode b_G_begin 102 = .ok (.iinc 1 1, 3) := by decide +kernel
theorem d_G_begin_105 : decode b_G_begin 105 = .ok (.goto (-63), 3) := by decide +kernel
theorem d_G_begin_108 : decode b_G_begin 108 = .ok (.iconst 0, 1) := by decide +kernel
theorem d_G_begin_109 : decode b_G_begin 109 = .ok (.istore_n 1, 1) := by decide +kernel
theorem d_G_begin_110 : decode b_G_begin 110 = .ok (.iload_n 1, 1) := by decide +kernel
theorem d_G_begin_111 : decode b_G_begin 111 = .ok (.aload_n 0, 1) := by decide +kernel
theorem d_G_begin_112 : decode b_G_begin 112 = .ok (.getfield 46, 3) := by decide +kernel
theorem d_G_begin_115 : decode b_G_begin 115 = .ok (.arraylength, 1) := by decide +kernel
theorem d_G_begin_116 : decode b_G_begin 116 = .ok (.if_icmp .ge 14, 3) := by decide +kernel
theorem d_G_begin_119 : decode b_G_begin 119 = .ok (.aload_n 0, 1) := by decide +kernel
theorem d_G_begin_120 : decode b_G_begin 120 = .ok (.iload_n 1, 1) := by decide +kernel
theorem d_G_begin_121 : decode b_G_begin 121 = .ok (.invokevirtual 81, 3) := by decide +kernel
theorem d_G_begin_124 : decode b_G_begin 124 = .ok (.iinc 1 1, 3) := by decide +kernel
theorem d_G_begin_127 : decode b_G_begin 127 = .ok (.goto (-17), 3) := by decide +kernel
theorem d_G_begin_130 : decode b_G_begin 130 = .ok (.return_, 1) := by decide +kernel
theorem d_G_dropAll_0 : decode b_G_dropAll 0 = .ok (.aload_n 0, 1) := by decide +kernel
theorem d_G_dropAll_1 : decode b_G_dropAll 1 = .ok (.getfield 58, 3) := by decide +kernel
theorem d_G_dropAll_4 : decode b_G_dropAll 4 = .ok (.invokevirtual 93, 3) := by decide +kernel
theorem d_G_dropAll_7 : decode b_G_dropAll 7 = .ok (.ifCond .ne 28, 3) := by decide +kernel
theorem d_G_dropAll_10 : decode b_G_dropAll 10 = .ok (.aload_n 0, 1) := by decide +kernel
theorem d_G_dropAll_11 : decode b_G_dropAll 11 = .ok (.getfield 58, 3) := by decide +kernel
theorem d_G_dropAll_14 : decode b_G_dropAll 14 = .ok (.invokevirtual 97, 3) := by decide +kernel
theorem d_G_dropAll_17 : decode b_G_dropAll 17 = .ok (.istore_n 1, 1) := by decide +kernel
theorem d_G_dropAll_18 : decode b_G_dropAll 18 = .ok (.aload_n 0, 1) := by decide +kernel
theorem d_G_dropAll_19 : decode b_G_dropAll 19 = .ok (.getfield 21, 3) := by decide +kernel
theorem d_G_dropAll_22 : decode b_G_dropAll 22 = .ok (.iload_n 1, 1) := by decide +kernel
theorem d_G_dropAll_23 : decode b_G_dropAll 23 = .ok (.baload, 1) := by decide +kernel
theorem d_G_dropAll_24 : decode b_G_dropAll 24 = .ok (.ifCond .eq 8, 3) := by decide +kernel
theorem d_G_dropAll_27 : decode b_G_dropAll 27 = .ok (.aload_n 0, 1) := by decide +kernel
theorem d_G_dropAll_28 : decode b_G_dropAll 28 = .ok (.iload_n 1, 1) := by decide +kernel
theorem d_G_dropAll_29 : decode b_G_dropAll 29 = .ok (.invokevirtual 101, 3) := by decide +kernel
theorem d_G_dropAll_32 : decode b_G_dropAll 32 = .ok (.goto (-32), 3) := by decide +kernel
theorem d_G_dropAll_35 : decode b_G_dropAll 35 = .ok (.return_, 1) := by decide +kernel
theorem d_G_solve_0 : decode b_G_solve 0 = .ok (.aload_n 0, 1) := by decide +kernel
theorem d_G_solve_1 : decode b_G_solve 1 = .ok (.invokevirtual 104, 3) := by decide +kernel
theorem d_G_solve_4 : decode b_G_solve 4 = .ok (.aload_n 0, 1) := by decide +kernel
theorem d_G_solve_5 : decode b_G_solve 5 = .ok (.getfield 54, 3) := by decide +kernel
theorem d_G_solve_8 : decode b_G_solve 8 = .ok (.invokevirtual 93, 3) := by decide +kernel
theorem d_G_solve_11 : decode b_G_solve 11 = .ok (.ifCond .ne 57, 3) := by decide +kernel
theorem d_G_solve_14 : decode b_G_solve 14 = .ok (.aload_n 0, 1) := by decide +kernel
theorem d_G_solve_15 : decode b_G_solve 15 = .ok (.getfield 54, 3) := by decide +kernel
theorem d_G_solve_18 : decode b_G_solve 18 = .ok (.invokevirtual 97, 3) := by decide +kernel
theorem d_G_solve_21 : decode b_G_solve 21 = .ok (.istore_n 1, 1) := by decide +kernel
theorem d_G_solve_22 : decode b_G_solve 22 = .ok (.aload_n 0, 1) := by decide +kernel
theorem d_G_solve_23 : decode b_G_solve 23 = .ok (.getfield 46, 3) := by decide +kernel
theorem d_G_solve_26 : decode b_G_solve 26 = .ok (.iload_n 1, 1) := by decide +kernel
theorem d_G_solve_27 : decode b_G_solve 27 = .ok (.laload, 1) := by decide +kernel
theorem d_G_solve_28 : decode b_G_solve 28 = .ok (.aload_n 0, 1) := by decide +kernel
theorem d_G_solve_29 : decode b_G_solve 29 = .ok (.getfield 7, 3) := by decide +kernel
theorem d_G_solve_32 : decode b_G_solve 32 = .ok (.iload_n 1, 1) := by decide +kernel
theorem d_G_solve_33 : decode b_G_solve 33 = .ok (.invokeinterface 84 2, 5) := by decide +kernel
theorem d_G_solve_38 : decode b_G_solve 38 = .ok (.lcmp, 1) := by decide +kernel
theorem d_G_solve_39 : decode b_G_solve 39 = .ok (.ifCond .ge 26, 3) := by decide +kernel
theorem d_G_solve_42 : decode b_G_solve 42 = .ok (.aload_n 0, 1) := by decide +kernel
theorem d_G_solve_43 : decode b_G_solve 43 = .ok (.getfield 58, 3) := by decide +kernel
theorem d_G_solve_46 : decode b_G_solve 46 = .ok (.aload_n 0, 1) := by decide +kernel
theorem d_G_solve_47 : decode b_G_solve 47 = .ok (.getfield 43, 3) := by decide +kernel
theorem d_G_solve_50 : decode b_G_solve 50 = .ok (.iload_n 1, 1) := by decide +kernel
theorem d_G_solve_51 : decode b_G_solve 51 = .ok (.iaload, 1) := by decide +kernel
theorem d_G_solve_52 : decode b_G_solve 52 = .ok (.bipush 16, 2) := by decide +kernel
theorem d_G_solve_54 : decode b_G_solve 54 = .ok (.idiv, 1) := by decide +kernel
theorem d_G_solve_55 : decode b_G_solve 55 = .ok (.invokevirtual 87, 3) := by decide +kernel
theorem d_G_solve_58 : decode b_G_solve 58 = .ok (.aload_n 0, 1) := by decide +kernel
theorem d_G_solve_59 : decode b_G_solve 59 = .ok (.invokevirtual 107, 3) := by decide +kernel
theorem d_G_solve_62 : decode b_G_solve 62 = .ok (.goto (-40), 3) := by decide +kernel
theorem d_G_solve_65 : decode b_G_solve 65 = .ok (.goto (-61), 3) := by decide +kernel
theorem d_G_solve_68 : decode b_G_solve 68 = .ok (.iconst 0, 1) := by decide +kernel
theorem d_G_solve_69 : decode b_G_solve 69 = .ok (.istore_n 1, 1) := by decide +kernel
theorem d_G_solve_70 : decode b_G_solve 70 = .ok (.iconst 0, 1) := by decide +kernel
theorem d_G_solve_71 : decode b_G_solve 71 = .ok (.istore_n 2, 1) := by decide +kernel
theorem d_G_solve_72 : decode b_G_solve 72 = .ok (.iload_n 2, 1) := by decide +kernel
theorem d_G_solve_73 : decode b_G_solve 73 = .ok (.aload_n 0, 1) := by decide +kernel
theorem d_G_solve_74 : decode b_G_solve 74 = .ok (.getfield 61, 3) := by decide +kernel
theorem d_G_solve_77 : decode b_G_solve 77 = .ok (.if_icmp .ge 26, 3) := by decide +kernel
theorem d_G_solve_80 : decode b_G_solve 80 = .ok (.iload_n 1, 1) := by decide +kernel
theorem d_G_solve_81 : decode b_G_solve 81 = .ok (.aload_n 0, 1) := by decide +kernel
theorem d_G_solve_82 : decode b_G_solve 82 = .ok (.getfield 21, 3) := by decide +kernel
theorem d_G_solve_85 : decode b_G_solve 85 = .ok (.iload_n 2, 1) := by decide +kernel
theorem d_G_solve_86 : decode b_G_solve 86 = .ok (.baload, 1) := by decide +kernel
theorem d_G_solve_87 : decode b_G_solve 87 = .ok (.ifCond .eq 7, 3) := by decide +kernel
theorem d_G_solve_90 : decode b_G_solve 90 = .ok (.iconst 1, 1) := by decide +kernel
theorem d_G_solve_91 : decode b_G_solve 91 = .ok (.goto 4, 3) := by decide +kernel
theorem d_G_solve_94 : decode b_G_solve 94 = .ok (.iconst 0, 1) := by decide +kernel
theorem d_G_solve_95 : decode b_G_solve 95 = .ok (.iadd, 1) := by decide +kernel
theorem d_G_solve_96 : decode b_G_solve 96 = .ok (.istore_n 1, 1) := by decide +kernel
theorem d_G_solve_97 : decode b_G_solve 97 = .ok (.iinc 2 1, 3) := by decide +kernel
theorem d_G_solve_100 : decode b_G_solve 100 = .ok (.goto (-28), 3) := by decide +kernel
theorem d_G_solve_103 : decode b_G_solve 103 = .ok (.iload_n 1, 1) := by decide +kernel
theorem d_G_solve_104 : decode b_G_solve 104 = .ok (.ireturn, 1) := by decide +kernel
abbrev rm_G_begin : Room := { frames := 2, cells := 0, slots := 0, locals := 42 }
abbrev rm_G_dropAll : Room := { frames := 3, cells := 0, slots := 0, locals := 66 }
abbrev rm_G_solve : Room := { frames := 4, cells := 0, slots := 0, locals := 87 }
theorem cv_G_78 : gd_CV R_G 78 R_G y_G_enter k_G_enter 1 := gd_cv tw_185 tw_187 ts_G_enter tw_3 tw_188 (by decide +kernel)
theorem cv_G_93 : gd_CV R_G 93 R_P y_P_isEmpty k_P_isEmpty 0 := gd_cv tw_206 tw_207 tw_208 tw_4 tw_209 (by decide +kernel)
theorem cv_G_97 : gd_CV R_G 97 R_P y_P_pop k_P_pop 0 := gd_cv tw_210 tw_211 tw_212 tw_4 tw_213 (by decide +kernel)
theorem cv_G_101 : gd_CV R_G 101 R_G y_G_drop k_G_drop 1 := gd_cv tw_218 tw_220 ts_G_drop tw_3 tw_221 (by decide +kernel)
theorem cv_G_104 : gd_CV R_G 104 R_G y_G_begin k_G_begin 0 := gd_cv tw_171 tw_173 ts_G_begin tw_3 tw_174 (by decide +kernel)
theorem cv_G_107 : gd_CV R_G 107 R_G y_G_dropAll k_G_dropAll 0 := gd_cv tw_214 tw_216 ts_G_dropAll tw_3 tw_217 (by decide +kernel)
set_option maxHeartbeats 4000000 in
set_option maxRecDepth 100000 in
/-- Grid.begin -/
theorem c_G_begin (l : Launch) (D : va_G) (ct : Nat → ClassId) (sz : Nat) (q : Nat → Nat) (X : GX) (inn : Nat → Bool) (ah af la : Nat → Option Nat) (su : Nat → Int) (sr dr : Nat → Int32) (hX : mx_WF X) (hinn : ∀ i, mx_n X ≤ i → inn i = false) : gd_ctV l y_G_begin k_G_begin rm_G_begin D ct [.ref (q 0)] sz (wG q ct X inn ah af la su sr ([]) dr ([])) (S := ((Nat → Option Nat) × (Nat → Option Nat) × (Nat → Option Nat) × (Nat → Int) × (Nat → Int32) × List Nat)) (fun u => mx_MI X (mx_t X) u.1 u.2.1 u.2.2.1 u.2.2.2.1 u.2.2.2.2.2 [] (fun _ => False) ∧ mx_pOk 300 u.2.2.2.2.1 u.2.2.2.2.2) (fun u => wG q ct X (mx_t X) u.1 u.2.1 u.2.2.1 u.2.2.2.1 u.2.2.2.2.1 u.2.2.2.2.2 dr []) 0 0 := by
  refine gd_entV (by decide +kernel) rfl (Nat.le_of_ble_eq_true rfl) (fun p e s m below meth c Q A ls cx hmn hw hl hret => ?_)
  have hx := cx.1
  have hb := cx.2.1
  have hl : lv_has ls 3 [(0, .ref (q 0))] := hl
  have hn := hX.n
  have loop4 : ∀ (d k : Nat), k + d = 300 → ∀ (ah af la : Nat → Option Nat) (su : Nat → Int) (sr : Nat → Int32) (S : List Nat), mx_QI X (mx_Zb X (16 * mx_n X)) ah af la → mx_SI X (mx_Zb X (16 * mx_n X)) su → mx_pOk 300 sr S → (∀ j, j < k → su j < mx_f X j → j ∈ S) → ∀ (H : Heap) (locs : List Loc) (ls : Array Slot), gd_Ws D A s (wG q ct X (mx_t X) ah af la su sr S dr ([])) H locs → lv_has ls 3 [(1, .int (nI k)), (0, .ref (q 0))] → W p l e rm_G_begin s m [.ref (q 0)].toArray below meth c H locs 0 0 Q (F0 m 110 ls []) := by
    intro d
    induction d with
    | zero =>
      intro k hk ah af la su sr S hQ hI hS hlo H locs ls hw hl
      refine lv_iload_n hx hb d_G_begin_110 rfl (lv_at hl 0 rfl) ?_
      refine lv_aload_n hx hb d_G_begin_111 rfl (lv_at hl 1 rfl) ?_
      refine gd_get (v := .ref (q 9)) i_G cx hw 0 rfl rfl 10 (by decide) tw_68 rfl rfl d_G_begin_112 ?_
      refine gd_len cx hw 9 (t0 := 4) rfl rfl d_G_begin_115 ?_
      refine gd_ge (tgt := 130) hx hb d_G_begin_116 (by decide) (by omega) (by omega) (fun h116 => ?_) (fun h116 => ?_)
      · exact hret (ah, af, la, su, sr, S) _ _ _ _ _ _ (Nat.le_refl _) (Nat.le_refl _) d_G_begin_130 ⟨mx_MI_begin hX hQ hI (fun p hp => hlo p (by omega)), hS⟩ hw
      · omega
    | succ d ih =>
      intro k hk ah af la su sr S hQ hI hS hlo H locs ls hw hl
      refine lv_iload_n hx hb d_G_begin_110 rfl (lv_at hl 0 rfl) ?_
      refine lv_aload_n hx hb d_G_begin_111 rfl (lv_at hl 1 rfl) ?_
      refine gd_get (v := .ref (q 9)) i_G cx hw 0 rfl rfl 10 (by decide) tw_68 rfl rfl d_G_begin_112 ?_
      refine gd_len cx hw 9 (t0 := 4) rfl rfl d_G_begin_115 ?_
      refine gd_ge (tgt := 130) hx hb d_G_begin_116 (by decide) (by omega) (by omega) (fun h116 => ?_) (fun h116 => ?_)
      · omega
      · have hk3 : k < 300 := by omega
        have hfit : mx_fit (su k) := by rw [hI k hk3]; exact mx_sZ_fit hX _ hk3
        refine lv_aload_n hx hb d_G_begin_119 rfl (lv_at hl 1 rfl) ?_
        refine lv_iload_n hx hb d_G_begin_120 rfl (lv_at hl 0 rfl) ?_
        refine gd_callVV (As := [.int (nI k)]) (rest := []) cx hw (c_G_look l D ct _ q X (mx_t X) ah af la su sr S dr ([]) k hX hk3 hfit hS) cv_G_81 ⟨by decide, by decide⟩ ⟨rfl, rfl⟩ [0, 1, 2, 3, 4, 5, 6, 7, 8, 9, 10, 11, 12, 13, 14, 15, 16, 17, 18] rfl rfl 0 2 rfl rfl (gd_jn (w2 := fun u => wG q ct X (mx_t X) ah af la su u.1 u.2 dr []) hw [0, 1, 2, 3, 4, 5, 6, 7, 8, 9, 10, 11, 12, 13, 14, 15, 16, 17, 18] [] [0, 1, 2, 3, 4, 5, 6, 7, 8, 9, 10, 11, 12, 13, 14, 15, 16, 17, 18] rfl rfl rfl (by decide) (fun _ => rfl) rfl) rfl hl.1 rfl (Nat.le_of_ble_eq_true rfl) ⟨Nat.zero_le _, Nat.zero_le _⟩ d_G_begin_121 (fun u H locs hp hw => ?_)
        refine lv_iinc (v := nI (k + 1)) (lv' := [(1, .int (nI (k + 1))), (0, .ref (q 0))]) hx hb d_G_begin_124 hl (k := 0) rfl (gd_inc1 _) (by decide) rfl (fun ls hl => ?_)
        refine lv_goto (tgt := 110) hx hb d_G_begin_127 (by decide) ?_
        obtain ⟨hp1, hp2⟩ := hp
        exact ih (k + 1) (by omega) ah af la su u.1 u.2 hQ hI hp1 (fun j hj hs => by
          rw [hp2]
          by_cases e : j = k
          · subst e; rw [if_pos hs]; exact mx_pp_mem.mpr (Or.inr rfl)
          · have := hlo j (by omega) hs
            split
            · exact mx_pp_mem.mpr (Or.inl this)
            · exact this) H locs ls hw (lv_sub hl [0, 1] rfl)
  have loop2 : ∀ (d i : Nat), i + d = mx_n X → ∀ (inn : Nat → Bool) (ah af la : Nat → Option Nat) (su : Nat → Int), (∀ j, j < i → inn j = mx_t X j) → (∀ j, mx_n X ≤ j → inn j = false) → mx_QI X (mx_Zb X (16 * i)) ah af la → mx_SI X (mx_Zb X (16 * i)) su → ∀ (H : Heap) (locs : List Loc) (ls : Array Slot), gd_Ws D A s (wG q ct X inn ah af la su sr ([]) dr ([])) H locs → lv_has ls 3 [(1, .int (nI i)), (0, .ref (q 0))] → W p l e rm_G_begin s m [.ref (q 0)].toArray below meth c H locs 0 0 Q (F0 m 42 ls []) := by
    intro d
    induction d with
    | zero =>
      intro i hi inn ah af la su hin hout hQ hI H locs ls hw hl
      refine lv_iload_n hx hb d_G_begin_42 rfl (lv_at hl 0 rfl) ?_
      refine lv_aload_n hx hb d_G_begin_43 rfl (lv_at hl 1 rfl) ?_
      refine gd_get (v := .int (nI (mx_n X))) i_G cx hw 0 rfl rfl 13 (by decide) tw_72 rfl rfl d_G_begin_44 ?_
      refine gd_ge (tgt := 108) hx hb d_G_begin_47 (by decide) (by omega) (by omega) (fun h47 => ?_) (fun h47 => ?_)
      · have e0 : i = mx_n X := by omega
        subst e0
        have e1 : inn = mx_t X := funext fun j => by
          by_cases h : j < mx_n X
          · exact hin j h
          · rw [hout j (by omega), (hX.out (by omega)).1]
        subst e1
        refine lv_iconst (v := nI 0) hx hb d_G_begin_108 (by decide) ?_
        refine lv_istore_n (lv' := [(1, .int (nI 0)), (0, .ref (q 0))]) hx hb d_G_begin_109 rfl hl (by decide) rfl (fun ls hl => ?_)
        exact loop4 300 0 (by omega) ah af la su sr [] hQ hI mx_pOk.nil (fun j hj => by omega) H locs ls hw (lv_sub hl [0, 1] rfl)
      · omega
    | succ d ih =>
      intro i hi inn ah af la su hin hout hQ hI H locs ls hw hl
      refine lv_iload_n hx hb d_G_begin_42 rfl (lv_at hl 0 rfl) ?_
      refine lv_aload_n hx hb d_G_begin_43 rfl (lv_at hl 1 rfl) ?_
      refine gd_get (v := .int (nI (mx_n X))) i_G cx hw 0 rfl rfl 13 (by decide) tw_72 rfl rfl d_G_begin_44 ?_
      refine gd_ge (tgt := 108) hx hb d_G_begin_47 (by decide) (by omega) (by omega) (fun h47 => ?_) (fun h47 => ?_)
      · omega
      · have hi2 : i < 200 := by omega
        have hm16 := hX.m i
        refine lv_aload_n hx hb d_G_begin_50 rfl (lv_at hl 1 rfl) ?_
        refine gd_get (v := .ref (q 2)) i_G cx hw 0 rfl rfl 3 (by decide) tw_60 rfl rfl d_G_begin_51 ?_
        refine lv_iload_n hx hb d_G_begin_54 rfl (lv_at hl 0 rfl) ?_
        refine lv_aload_n hx hb d_G_begin_55 rfl (lv_at hl 1 rfl) ?_
        refine gd_get (v := .ref (q 1)) i_G cx hw 0 rfl rfl 2 (by decide) tw_58 rfl rfl d_G_begin_56 ?_
        refine lv_iload_n hx hb d_G_begin_59 rfl (lv_at hl 0 rfl) ?_
        refine gd_zld (v := mx_b (mx_t X i)) cx hw 1 rfl (by omega) (by decide) rfl d_G_begin_60 ?_
        refine gd_zst (g := fun i9 => mx_b ((va_up inn i (mx_t X i)) i9)) (wn := wG q ct X (va_up inn i (mx_t X i)) ah af la su sr ([]) dr ([])) cx hw 2 rfl (by omega) (by decide) (gd_hz (mx_t X i) rfl) rfl d_G_begin_61 (fun H locs hw => ?_)
        refine lv_bipush (v := nI 16) hx hb d_G_begin_62 (by decide) ?_
        refine lv_iload_n hx hb d_G_begin_64 rfl (lv_at hl 0 rfl) ?_
        refine gd_imul hx hb d_G_begin_65 ?_
        refine lv_istore_n (lv' := [(2, .int (nI (16 * i))), (1, .int (nI i)), (0, .ref (q 0))]) hx hb d_G_begin_66 rfl hl (by decide) rfl (fun ls hl => ?_)
        have ih0 := ih
        have loop3 : ∀ (d2 k : Nat), k + d2 = mx_m X i → ∀ (ah af la : Nat → Option Nat) (su : Nat → Int), mx_QI X (mx_Zb X (16 * i + k)) ah af la → mx_SI X (mx_Zb X (16 * i + k)) su → ∀ (H : Heap) (locs : List Loc) (ls : Array Slot), gd_Ws D A s (wG q ct X (va_up inn i (mx_t X i)) ah af la su sr ([]) dr ([])) H locs → lv_has ls 3 [(2, .int (nI (16 * i + k))), (1, .int (nI i)), (0, .ref (q 0))] → W p l e rm_G_begin s m [.ref (q 0)].toArray below meth c H locs 0 0 Q (F0 m 67 ls []) := by
          intro d2
          induction d2 with
          | zero =>
            intro k hk ah af la su hQ hI H locs ls hw hl
            refine lv_iload_n hx hb d_G_begin_67 rfl (lv_at hl 0 rfl) ?_
            refine lv_bipush (v := nI 16) hx hb d_G_begin_68 (by decide) ?_
            refine lv_iload_n hx hb d_G_begin_70 rfl (lv_at hl 1 rfl) ?_
            refine gd_imul hx hb d_G_begin_71 ?_
            refine lv_aload_n hx hb d_G_begin_72 rfl (lv_at hl 2 rfl) ?_
            refine gd_get (v := .ref (q 3)) i_G cx hw 0 rfl rfl 4 (by decide) tw_62 rfl rfl d_G_begin_73 ?_
            refine lv_iload_n hx hb d_G_begin_76 rfl (lv_at hl 1 rfl) ?_
            refine gd_bld (v := nI (mx_m X i)) cx hw 3 rfl (by omega) (by decide) rfl d_G_begin_77 ?_
            refine gd_iadd hx hb d_G_begin_78 ?_
            refine gd_ge (tgt := 102) hx hb d_G_begin_79 (by decide) (by omega) (by omega) (fun h79 => ?_) (fun h79 => ?_)
            · refine lv_iinc (v := nI (i + 1)) (lv' := [(1, .int (nI (i + 1))), (2, .int (nI (16 * i + k))), (0, .ref (q 0))]) hx hb d_G_begin_102 hl (k := 1) rfl (gd_inc1 _) (by decide) rfl (fun ls hl => ?_)
              refine lv_goto (tgt := 42) hx hb d_G_begin_105 (by decide) ?_
              have hZ : ∀ m, m % 16 < mx_m X (m / 16) → mx_Zb X (16 * i + k) m = mx_Zb X (16 * (i + 1)) m := fun m hm => mx_Zb_next (by omega) (Or.inl (by omega)) (by omega) (hX.m i) m hm
              exact ih0 (i + 1) (by omega) _ ah af la su (fun j hj => by
                by_cases e : j = i
                · subst e; exact va_up_self _ _ _
                · rw [va_up_ne _ _ e]; exact hin j (by omega)) (fun j hj => by rw [va_up_ne _ _ (by omega)]; exact hout j hj) (mx_QI_congr (fun m hm _ => hZ m hm) hQ) (mx_SI_congr hZ hI) H locs ls hw (lv_sub hl [0, 2] rfl)
            · omega
          | succ d2 ih =>
            intro k hk ah af la su hQ hI H locs ls hw hl
            refine lv_iload_n hx hb d_G_begin_67 rfl (lv_at hl 0 rfl) ?_
            refine lv_bipush (v := nI 16) hx hb d_G_begin_68 (by decide) ?_
            refine lv_iload_n hx hb d_G_begin_70 rfl (lv_at hl 1 rfl) ?_
            refine gd_imul hx hb d_G_begin_71 ?_
            refine lv_aload_n hx hb d_G_begin_72 rfl (lv_at hl 2 rfl) ?_
            refine gd_get (v := .ref (q 3)) i_G cx hw 0 rfl rfl 4 (by decide) tw_62 rfl rfl d_G_begin_73 ?_
            refine lv_iload_n hx hb d_G_begin_76 rfl (lv_at hl 1 rfl) ?_
            refine gd_bld (v := nI (mx_m X i)) cx hw 3 rfl (by omega) (by decide) rfl d_G_begin_77 ?_
            refine gd_iadd hx hb d_G_begin_78 ?_
            refine gd_ge (tgt := 102) hx hb d_G_begin_79 (by decide) (by omega) (by omega) (fun h79 => ?_) (fun h79 => ?_)
            · refine lv_iinc (v := nI (i + 1)) (lv' := [(1, .int (nI (i + 1))), (2, .int (nI (16 * i + k))), (0, .ref (q 0))]) hx hb d_G_begin_102 hl (k := 1) rfl (gd_inc1 _) (by decide) rfl (fun ls hl => ?_)
              refine lv_goto (tgt := 42) hx hb d_G_begin_105 (by decide) ?_
              have hZ : ∀ m, m % 16 < mx_m X (m / 16) → mx_Zb X (16 * i + k) m = mx_Zb X (16 * (i + 1)) m := fun m hm => mx_Zb_next (by omega) (Or.inl (by omega)) (by omega) (hX.m i) m hm
              exact ih0 (i + 1) (by omega) _ ah af la su (fun j hj => by
                by_cases e : j = i
                · subst e; exact va_up_self _ _ _
                · rw [va_up_ne _ _ e]; exact hin j (by omega)) (fun j hj => by rw [va_up_ne _ _ (by omega)]; exact hout j hj) (mx_QI_congr (fun m hm _ => hZ m hm) hQ) (mx_SI_congr hZ hI) H locs ls hw (lv_sub hl [0, 2] rfl)
            · have hd1 : (16 * i + k) / 16 = i := by omega
              have hd2 : (16 * i + k) % 16 = k := by omega
              have hu2 : (16 * i + k) % 16 < mx_m X ((16 * i + k) / 16) := by rw [hd1, hd2]; omega
              obtain ⟨hn1, hn2, hn3, hn4, hn5⟩ := mx_used hX hu2
              refine lv_aload_n hx hb d_G_begin_82 rfl (lv_at hl 2 rfl) ?_
              refine gd_get (v := .ref (q 1)) i_G cx hw 0 rfl rfl 2 (by decide) tw_58 rfl rfl d_G_begin_83 ?_
              refine lv_iload_n hx hb d_G_begin_86 rfl (lv_at hl 1 rfl) ?_
              refine gd_zld (v := mx_b (mx_t X i)) cx hw 1 rfl (by omega) (by decide) rfl d_G_begin_87 ?_
              refine gd_ifeq (tgt := 102) hx hb d_G_begin_88 (by decide) (fun h88 => ?_) (fun h88 => ?_)
              · refine lv_iinc (v := nI (i + 1)) (lv' := [(1, .int (nI (i + 1))), (2, .int (nI (16 * i + k))), (0, .ref (q 0))]) hx hb d_G_begin_102 hl (k := 1) rfl (gd_inc1 _) (by decide) rfl (fun ls hl => ?_)
                refine lv_goto (tgt := 42) hx hb d_G_begin_105 (by decide) ?_
                have hZ : ∀ m, m % 16 < mx_m X (m / 16) → mx_Zb X (16 * i + k) m = mx_Zb X (16 * (i + 1)) m := fun m hm => mx_Zb_next (by omega) (Or.inr h88) (by omega) (hX.m i) m hm
                exact ih0 (i + 1) (by omega) _ ah af la su (fun j hj => by
                  by_cases e : j = i
                  · subst e; exact va_up_self _ _ _
                  · rw [va_up_ne _ _ e]; exact hin j (by omega)) (fun j hj => by rw [va_up_ne _ _ (by omega)]; exact hout j hj) (mx_QI_congr (fun m hm _ => hZ m hm) hQ) (mx_SI_congr hZ hI) H locs ls hw (lv_sub hl [0, 2] rfl)
              · refine lv_aload_n hx hb d_G_begin_91 rfl (lv_at hl 2 rfl) ?_
                refine lv_iload_n hx hb d_G_begin_92 rfl (lv_at hl 0 rfl) ?_
                have hla : ∀ c, la (mx_p X (16 * i + k)) = some c → c < 3200 := fun c hc => by
                  have h1 := (hQ _ hn3).1
                  rw [hc] at h1
                  exact (mx_used hX h1.1.1).2.1
                refine gd_callVV (As := [.int (nI (16 * i + k))]) (rest := []) cx hw (c_G_enter l D ct _ q X (va_up inn i (mx_t X i)) ah af la su sr ([]) dr ([]) (16 * i + k) hX hu2 hla) cv_G_78 ⟨by decide, by decide⟩ ⟨rfl, rfl⟩ [0, 1, 2, 3, 4, 5, 6, 7, 8, 9, 10, 11, 12, 13, 14, 15, 16, 17, 18] rfl rfl 0 2 rfl rfl (gd_jn (w2 := fun u => wG q ct X (va_up inn i (mx_t X i)) u.1 u.2.1 u.2.2 (va_up su (mx_p X (16 * i + k)) (su (mx_p X (16 * i + k)) + mx_a X (16 * i + k))) sr [] dr []) hw [0, 1, 2, 3, 4, 5, 6, 7, 8, 9, 10, 11, 12, 13, 14, 15, 16, 17, 18] [] [0, 1, 2, 3, 4, 5, 6, 7, 8, 9, 10, 11, 12, 13, 14, 15, 16, 17, 18] rfl rfl rfl (by decide) (fun _ => rfl) rfl) rfl hl.1 rfl (Nat.le_of_ble_eq_true rfl) ⟨Nat.zero_le _, Nat.zero_le _⟩ d_G_begin_93 (fun u H locs hp hw => ?_)
                have hZ := mx_Zb_up (X := X) (n := 16 * i + k) (by rw [hd1]; exact h88)
                have hI2 := mx_SI_congr (fun m _ => hZ m) (mx_SI_enter hX rfl hu2 (mx_Zb_n _) hI)
                have hQ2 : mx_QI X (mx_Zb X (16 * i + k + 1)) u.1 u.2.1 u.2.2 := by
                  rw [hp]
                  unfold mx_en
                  by_cases ha : 0 < mx_a X (16 * i + k)
                  · rw [if_pos ha]
                    exact mx_QI_congr (fun m _ hm => by rw [← hZ m, va_up_ne _ _ (fun e => by subst e; omega)]) hQ
                  · rw [if_neg ha]
                    exact mx_QI_congr (fun m _ _ => hZ m) (mx_QI_enter hX hu2 rfl (by omega) (fun m hm => mx_Zb_lt hm) hQ)
                refine lv_iinc (v := nI ((16 * i + k) + 1)) (lv' := [(2, .int (nI ((16 * i + k) + 1))), (1, .int (nI i)), (0, .ref (q 0))]) hx hb d_G_begin_96 hl (k := 0) rfl (gd_inc1 _) (by decide) rfl (fun ls hl => ?_)
                refine lv_goto (tgt := 67) hx hb d_G_begin_99 (by decide) ?_
                exact ih (k + 1) (by omega) u.1 u.2.1 u.2.2 _ hQ2 hI2 H locs ls hw (lv_sub hl [0, 1, 2] rfl)
        exact loop3 (mx_m X i) 0 (by omega) ah af la su hQ hI H locs ls hw (lv_sub hl [0, 1, 2] rfl)
  have loop1 : ∀ (d k : Nat), k + d = 300 → ∀ (la : Nat → Option Nat) (su : Nat → Int), (∀ j, j < k → la j = none ∧ su j = mx_v X j) → ∀ (H : Heap) (locs : List Loc) (ls : Array Slot), gd_Ws D A s (wG q ct X inn ah af la su sr ([]) dr ([])) H locs → lv_has ls 3 [(1, .int (nI k)), (0, .ref (q 0))] → W p l e rm_G_begin s m [.ref (q 0)].toArray below meth c H locs 0 0 Q (F0 m 2 ls []) := by
    intro d
    induction d with
    | zero =>
      intro k hk la su hlo H locs ls hw hl
      refine lv_iload_n hx hb d_G_begin_2 rfl (lv_at hl 0 rfl) ?_
      refine lv_aload_n hx hb d_G_begin_3 rfl (lv_at hl 1 rfl) ?_
      refine gd_get (v := .ref (q 9)) i_G cx hw 0 rfl rfl 10 (by decide) tw_68 rfl rfl d_G_begin_4 ?_
      refine gd_len cx hw 9 (t0 := 4) rfl rfl d_G_begin_7 ?_
      refine gd_ge (tgt := 40) hx hb d_G_begin_8 (by decide) (by omega) (by omega) (fun h8 => ?_) (fun h8 => ?_)
      · refine lv_iconst (v := nI 0) hx hb d_G_begin_40 (by decide) ?_
        refine lv_istore_n (lv' := [(1, .int (nI 0)), (0, .ref (q 0))]) hx hb d_G_begin_41 rfl hl (by decide) rfl (fun ls hl => ?_)
        exact loop2 (mx_n X) 0 (by omega) inn ah af la su (fun j hj => by omega) hinn (mx_QI_congr (fun m _ _ => mx_Zb_0 X m) (mx_QI_0 (fun p hp => (hlo p (by omega)).1))) (mx_SI_congr (fun m _ => mx_Zb_0 X m) (mx_SI_0 (fun p hp => (hlo p (by omega)).2))) H locs ls hw (lv_sub hl [0, 1] rfl)
      · omega
    | succ d ih =>
      intro k hk la su hlo H locs ls hw hl
      refine lv_iload_n hx hb d_G_begin_2 rfl (lv_at hl 0 rfl) ?_
      refine lv_aload_n hx hb d_G_begin_3 rfl (lv_at hl 1 rfl) ?_
      refine gd_get (v := .ref (q 9)) i_G cx hw 0 rfl rfl 10 (by decide) tw_68 rfl rfl d_G_begin_4 ?_
      refine gd_len cx hw 9 (t0 := 4) rfl rfl d_G_begin_7 ?_
      refine gd_ge (tgt := 40) hx hb d_G_begin_8 (by decide) (by omega) (by omega) (fun h8 => ?_) (fun h8 => ?_)
      · omega
      · have hk3 : k < 300 := by omega
        refine lv_aload_n hx hb d_G_begin_11 rfl (lv_at hl 1 rfl) ?_
        refine gd_get (v := .ref (q 9)) i_G cx hw 0 rfl rfl 10 (by decide) tw_68 rfl rfl d_G_begin_12 ?_
        refine lv_iload_n hx hb d_G_begin_15 rfl (lv_at hl 0 rfl) ?_
        refine lv_aload_n hx hb d_G_begin_16 rfl (lv_at hl 1 rfl) ?_
        refine gd_get (v := .ref (q 16)) i_G cx hw 0 rfl rfl 0 (by decide) tw_56 rfl rfl d_G_begin_17 ?_
        refine lv_iload_n hx hb d_G_begin_20 rfl (lv_at hl 0 rfl) ?_
        refine gd_callFL (n := 1) (As := [.int (nI k)]) (rest := [.int (nI k), .ref (q 9)]) cx hw (c_A_value l D ct _ (q 16) (q 17) (q 18) X k hk3) cf_72 (cx.2.2.2.2.2.2.2.2.2.2.2.2.2.1) (by decide +kernel) ⟨by decide, by decide⟩ ⟨rfl, rfl⟩ [16, 17, 18] rfl rfl 0 rfl (gd_jr hw [16, 17, 18] rfl) rfl hl.1 rfl (Nat.le_of_ble_eq_true rfl) ⟨Nat.zero_le _, Nat.zero_le _⟩ d_G_begin_21 (fun r u H locs hp hw => ?_)
        subst hp
        refine gd_lst (g := fun i9 => mx_l ((va_up su k (mx_v X k)) i9)) (wn := wG q ct X inn ah af la (va_up su k (mx_v X k)) sr ([]) dr ([])) cx hw 9 rfl (by omega) (by decide) (gd_hl (mx_v X k)) rfl d_G_begin_26 (fun H locs hw => ?_)
        refine lv_aload_n hx hb d_G_begin_27 rfl (lv_at hl 1 rfl) ?_
        refine gd_get (v := .ref (q 8)) i_G cx hw 0 rfl rfl 9 (by decide) tw_67 rfl rfl d_G_begin_28 ?_
        refine lv_iload_n hx hb d_G_begin_31 rfl (lv_at hl 0 rfl) ?_
        refine lv_iconst (v := mx_o none) hx hb d_G_begin_32 (by decide) ?_
        refine gd_ist (g := fun i9 => mx_o (va_up la k none i9)) (wn := wG q ct X inn ah af (va_up la k none) (va_up su k (mx_v X k)) sr ([]) dr ([])) cx hw 8 rfl (by omega) (by decide) (gd_ho none rfl) rfl d_G_begin_33 (fun H locs hw => ?_)
        refine lv_iinc (v := nI (k + 1)) (lv' := [(1, .int (nI (k + 1))), (0, .ref (q 0))]) hx hb d_G_begin_34 hl (k := 0) rfl (gd_inc1 _) (by decide) rfl (fun ls hl => ?_)
        refine lv_goto (tgt := 2) hx hb d_G_begin_37 (by decide) ?_
        exact ih (k + 1) (by omega) _ _ (fun j hj => by
          by_cases e : j = k
          · subst e; exact ⟨va_up_self _ _ _, va_up_self _ _ _⟩
          · rw [va_up_ne _ _ e, va_up_ne _ _ e]; exact hlo j (by omega)) H locs ls hw (lv_sub hl [0, 1] rfl)
  refine lv_iconst (v := nI 0) hx hb d_G_begin_0 (by decide) ?_
  refine lv_istore_n (lv' := [(1, .int (nI 0)), (0, .ref (q 0))]) hx hb d_G_begin_1 rfl hl (by decide) rfl (fun ls hl => ?_)
  exact loop1 300 0 (by omega) la su (fun j hj => by omega) _ _ ls hw (lv_sub hl [0, 1] rfl)
set_option maxHeartbeats 4000000 in
set_option maxRecDepth 100000 in
/-- Grid.dropAll -/
theorem c_G_dropAll (l : Launch) (D : va_G) (ct : Nat → ClassId) (sz : Nat) (q : Nat → Nat) (X : GX) (inn : Nat → Bool) (ah af la : Nat → Option Nat) (su : Nat → Int) (sr : Nat → Int32) (S : List Nat) (dr : Nat → Int32) (L : List Nat) (E : Nat → Prop) (hX : mx_WF X) (hS : mx_pOk 300 sr S) (hL : mx_pOk 200 dr L) (hM : mx_MI X inn ah af la su S L E) : gd_ctV l y_G_dropAll k_G_dropAll rm_G_dropAll D ct [.ref (q 0)] sz (wG q ct X inn ah af la su sr S dr L) (S := ((Nat → Bool) × GU)) (fun u => mx_MU X u.1 u.2 E ∧ u.2.2.2.2.2.2.2.2 = [] ∧ (∀ i, u.1 i = true → inn i = true) ∧ ∀ i, i ∈ L → u.1 i = false) (fun u => wGu q ct X u.1 u.2) 0 0 := by
  refine gd_entV (by decide +kernel) rfl (Nat.le_of_ble_eq_true rfl) (fun p e s m below meth c Q A ls cx hmn hw hl hret => ?_)
  have hx := cx.1
  have hb := cx.2.1
  have hl : lv_has ls 2 [(0, .ref (q 0))] := hl
  have loop : ∀ (d : Nat) (inn2 : Nat → Bool) (ah af la : Nat → Option Nat) (su : Nat → Int) (sr : Nat → Int32) (S : List Nat) (dr : Nat → Int32) (L2 : List Nat), mx_cnt inn2 200 * 201 + L2.length < d → mx_pOk 300 sr S → mx_pOk 200 dr L2 → mx_MI X inn2 ah af la su S L2 E → (∀ i, inn2 i = true → inn i = true) → (∀ i, i ∈ L → inn2 i = false ∨ i ∈ L2) → ∀ (H : Heap) (locs : List Loc) (ls : Array Slot), gd_Ws D A s (wG q ct X inn2 ah af la su sr S dr L2) H locs → lv_has ls 2 [(0, .ref (q 0))] → W p l e rm_G_dropAll s m [.ref (q 0)].toArray below meth c H locs 0 0 Q (F0 m 0 ls []) := by
    intro d
    induction d with
    | zero =>
      intro inn2 ah af la su sr S dr L2 hd
      omega
    | succ d ih =>
      intro inn2 ah af la su sr S dr L2 hd hS hL hM hsub hcov H locs ls hw hl
      have hlen := hL.len
      refine lv_aload_n hx hb d_G_dropAll_0 rfl (lv_at hl 0 rfl) ?_
      refine gd_get (v := .ref (q 13)) i_G cx hw 0 rfl rfl 12 (by decide) tw_71 rfl rfl d_G_dropAll_1 ?_
      refine gd_callVI (As := []) (rest := []) cx hw (c_P_isEmpty l D ct _ (q 13) (q 14) (q 15) 200 dr L2 (by omega)) cv_G_93 ⟨by decide, by decide⟩ ⟨rfl, rfl⟩ [13, 14, 15] rfl rfl 0 3 rfl rfl (gd_jr hw [13, 14, 15] rfl) rfl hl.1 rfl (Nat.le_of_ble_eq_true rfl) ⟨Nat.zero_le _, Nat.zero_le _⟩ d_G_dropAll_4 (fun r u H locs hp hw => ?_)
      subst hp
      refine gd_ifne (tgt := 35) hx hb d_G_dropAll_7 (by decide) (fun h7 => ?_) (fun h7 => ?_)
      · have e0 : L2 = [] := List.eq_nil_of_length_eq_zero (of_decide_eq_true h7)
        subst e0
        exact hret (inn2, ah, af, la, su, sr, S, dr, []) _ _ _ _ _ _ (Nat.le_refl _) (Nat.le_refl _) d_G_dropAll_35 ⟨⟨hM, hS, hL⟩, rfl, hsub, fun i hi => by
          rcases hcov i hi with g | g
          · exact g
          · cases g⟩ hw
      · obtain ⟨L3, v, rfl⟩ := mx_last_ex L2 (of_decide_eq_false h7)
        obtain ⟨hL3, -, hv, hvn, -⟩ := hL.pop
        refine lv_aload_n hx hb d_G_dropAll_10 rfl (lv_at hl 0 rfl) ?_
        refine gd_get (v := .ref (q 13)) i_G cx hw 0 rfl rfl 12 (by decide) tw_71 rfl rfl d_G_dropAll_11 ?_
        refine gd_callVI (As := []) (rest := []) cx hw (c_P_pop l D ct _ (q 13) (q 14) (q 15) 200 dr L3 v (by decide) hL) cv_G_97 ⟨by decide, by decide⟩ ⟨rfl, rfl⟩ [13, 14, 15] rfl rfl 0 3 rfl rfl (gd_jn (w2 := fun _ => wG q ct X inn2 ah af la su sr S dr L3) hw [13, 14, 15] [0, 1, 2, 3, 4, 5, 6, 7, 8, 9, 10, 11, 12, 16, 17, 18] [0, 1, 2, 3, 4, 5, 6, 7, 8, 9, 10, 11, 12, 16, 17, 18, 13, 14, 15] rfl rfl rfl (by decide) (fun _ => rfl) rfl) rfl hl.1 rfl (Nat.le_of_ble_eq_true rfl) ⟨Nat.zero_le _, Nat.zero_le _⟩ d_G_dropAll_14 (fun r u H locs hp hw => ?_)
        subst hp
        refine lv_istore_n (lv' := [(1, .int (nI v)), (0, .ref (q 0))]) hx hb d_G_dropAll_17 rfl hl (by decide) rfl (fun ls hl => ?_)
        refine lv_aload_n hx hb d_G_dropAll_18 rfl (lv_at hl 1 rfl) ?_
        refine gd_get (v := .ref (q 2)) i_G cx hw 0 rfl rfl 3 (by decide) tw_60 rfl rfl d_G_dropAll_19 ?_
        refine lv_iload_n hx hb d_G_dropAll_22 rfl (lv_at hl 0 rfl) ?_
        refine gd_zld (v := mx_b (inn2 v)) cx hw 2 rfl (by omega) (by decide) rfl d_G_dropAll_23 ?_
        refine gd_ifeq (tgt := 32) hx hb d_G_dropAll_24 (by decide) (fun h24 => ?_) (fun h24 => ?_)
        · refine lv_goto (tgt := 0) hx hb d_G_dropAll_32 (by decide) ?_
          exact ih inn2 _ _ _ _ _ _ _ _ (by rw [List.length_append, List.length_singleton] at hd; omega) hS hL3 (mx_MI_skip hM h24) hsub (fun i hi => by
            rcases hcov i hi with g | g
            · exact Or.inl g
            · rcases List.mem_append.mp g with g | g
              · exact Or.inr g
              · rw [List.mem_singleton.mp g]; exact Or.inl h24) H locs ls hw (lv_sub hl [1] rfl)
        · have hD := mx_DI_start hM h24
          have hc := mx_cnt_up h24 hv
          refine lv_aload_n hx hb d_G_dropAll_27 rfl (lv_at hl 1 rfl) ?_
          refine lv_iload_n hx hb d_G_dropAll_28 rfl (lv_at hl 0 rfl) ?_
          refine gd_callVV (As := [.int (nI v)]) (rest := []) cx hw (c_G_drop l D ct _ q X inn2 ah af la su sr S dr L3 E v hX hv hS hL3 hD) cv_G_101 ⟨by decide, by decide⟩ ⟨rfl, rfl⟩ [0, 1, 2, 3, 4, 5, 6, 7, 8, 9, 10, 11, 12, 13, 14, 15, 16, 17, 18] rfl rfl 0 2 rfl rfl (gd_jn (w2 := fun u => wGu q ct X (va_up inn2 v false) u) hw [0, 1, 2, 3, 4, 5, 6, 7, 8, 9, 10, 11, 12, 13, 14, 15, 16, 17, 18] [] [0, 1, 2, 3, 4, 5, 6, 7, 8, 9, 10, 11, 12, 13, 14, 15, 16, 17, 18] rfl rfl rfl (by decide) (fun _ => rfl) rfl) rfl hl.1 rfl (Nat.le_of_ble_eq_true rfl) ⟨Nat.zero_le _, Nat.zero_le _⟩ d_G_dropAll_29 (fun u H locs hp hw => ?_)
          refine lv_goto (tgt := 0) hx hb d_G_dropAll_32 (by decide) ?_
          obtain ⟨⟨hp1, hp2, hp3⟩, hp4⟩ := hp
          have hl3 := hp3.len
          exact ih (va_up inn2 v false) _ _ _ _ _ _ _ _ (by rw [List.length_append] at hd; omega) hp2 hp3 hp1 (fun i hi => hsub i (mx_up_sub hi)) (fun i hi => by
            by_cases e : i = v
            · subst e; exact Or.inl (va_up_self _ _ _)
            · rw [va_up_ne _ _ e]
              rcases hcov i hi with g | g
              · exact Or.inl g
              · rcases List.mem_append.mp g with g | g
                · exact Or.inr (hp4 i g)
                · exact absurd (List.mem_singleton.mp g) e) H locs ls hw (lv_sub hl [1] rfl)
  exact loop (mx_cnt inn 200 * 201 + L.length + 1) inn ah af la su sr S dr L (by omega) hS hL hM (fun _ h => h) (fun _ h => Or.inr h) _ _ ls hw hl
end
section
abbrev GS : Type := (Nat → Bool) × (Nat → Option Nat) × (Nat → Option Nat) × (Nat → Option Nat) × (Nat → Int) × (Nat → Int32) × (Nat → Int32)
abbrev wGs (q : Nat → Nat) (ct : Nat → ClassId) (X : GX) (u : GS) : va_W := wG q ct X u.1 u.2.1 u.2.2.1 u.2.2.2.1 u.2.2.2.2.1 u.2.2.2.2.2.1 [] u.2.2.2.2.2.2 []
set_option maxHeartbeats 4000000 in
set_option maxRecDepth 100000 in
/-- Grid.solve -/
theorem c_G_solve (l : Launch) (D : va_G) (ct : Nat → ClassId) (sz : Nat) (q : Nat → Nat) (X : GX) (inn : Nat → Bool) (ah af la : Nat → Option Nat) (su : Nat → Int) (sr dr : Nat → Int32) (hX : mx_WF X) (hinn : ∀ i, mx_n X ≤ i → inn i = false) : gd_ctI l y_G_solve k_G_solve rm_G_solve D ct [.ref (q 0)] sz (wG q ct X inn ah af la su sr ([]) dr ([])) (S := GS) (fun r u => r = nI (mx_cnt u.1 (mx_n X)) ∧ mx_Sol X u.1 ∧ ∀ po, po < 300 → u.2.2.2.2.1 po = mx_tot X u.1 po) (fun u => wGs q ct X u) := by
  refine gd_entI (by decide +kernel) rfl (Nat.le_of_ble_eq_true rfl) (fun p e s m below meth c Q A ls cx hw hl hret => ?_)
  have hx := cx.1
  have hb := cx.2.1
  have hl : lv_has ls 3 [(0, .ref (q 0))] := hl
  have hn := hX.n
  have loopC : ∀ (inn : Nat → Bool) (ah af la : Nat → Option Nat) (su : Nat → Int) (sr dr : Nat → Int32), mx_Sol X inn → (∀ po, po < 300 → su po = mx_tot X inn po) → ∀ (d i : Nat), i + d = mx_n X → ∀ (H : Heap) (locs : List Loc) (ls : Array Slot), gd_Ws D A s (wG q ct X inn ah af la su sr ([]) dr ([])) H locs → lv_has ls 3 [(2, .int (nI i)), (1, .int (nI (mx_cnt inn i))), (0, .ref (q 0))] → W p l e rm_G_solve s m [.ref (q 0)].toArray below meth c H locs 0 0 Q (F0 m 72 ls []) := by
    intro inn ah af la su sr dr hSol hsu d
    induction d with
    | zero =>
      intro i hi H locs ls hw hl
      refine lv_iload_n hx hb d_G_solve_72 rfl (lv_at hl 0 rfl) ?_
      refine lv_aload_n hx hb d_G_solve_73 rfl (lv_at hl 2 rfl) ?_
      refine gd_get (v := .int (nI (mx_n X))) i_G cx hw 0 rfl rfl 13 (by decide) tw_72 rfl rfl d_G_solve_74 ?_
      refine gd_ge (tgt := 103) hx hb d_G_solve_77 (by decide) (by omega) (by omega) (fun h77 => ?_) (fun h77 => ?_)
      · have e0 : i = mx_n X := by omega
        refine lv_iload_n hx hb d_G_solve_103 rfl (lv_at hl 1 rfl) ?_
        exact hret _ (inn, ah, af, la, su, sr, dr) _ _ _ _ rfl d_G_solve_104 ⟨by rw [e0], hSol, hsu⟩ hw
      · omega
    | succ d ih =>
      intro i hi H locs ls hw hl
      refine lv_iload_n hx hb d_G_solve_72 rfl (lv_at hl 0 rfl) ?_
      refine lv_aload_n hx hb d_G_solve_73 rfl (lv_at hl 2 rfl) ?_
      refine gd_get (v := .int (nI (mx_n X))) i_G cx hw 0 rfl rfl 13 (by decide) tw_72 rfl rfl d_G_solve_74 ?_
      refine gd_ge (tgt := 103) hx hb d_G_solve_77 (by decide) (by omega) (by omega) (fun h77 => ?_) (fun h77 => ?_)
      · omega
      · refine lv_iload_n hx hb d_G_solve_80 rfl (lv_at hl 1 rfl) ?_
        refine lv_aload_n hx hb d_G_solve_81 rfl (lv_at hl 2 rfl) ?_
        refine gd_get (v := .ref (q 2)) i_G cx hw 0 rfl rfl 3 (by decide) tw_60 rfl rfl d_G_solve_82 ?_
        refine lv_iload_n hx hb d_G_solve_85 rfl (lv_at hl 0 rfl) ?_
        refine gd_zld (v := mx_b (inn i)) cx hw 2 rfl (by omega) (by decide) rfl d_G_solve_86 ?_
        refine gd_ifeq (tgt := 94) hx hb d_G_solve_87 (by decide) (fun h87 => ?_) (fun h87 => ?_)
        · refine lv_iconst (v := nI 0) hx hb d_G_solve_94 (by decide) ?_
          refine gd_iadd hx hb d_G_solve_95 ?_
          refine lv_istore_n (lv' := [(1, .int (nI ((mx_cnt inn i) + 0))), (2, .int (nI i)), (0, .ref (q 0))]) hx hb d_G_solve_96 rfl hl (by decide) rfl (fun ls hl => ?_)
          refine lv_iinc (v := nI (i + 1)) (lv' := [(2, .int (nI (i + 1))), (1, .int (nI ((mx_cnt inn i) + 0))), (0, .ref (q 0))]) hx hb d_G_solve_97 hl (k := 1) rfl (gd_inc1 _) (by decide) rfl (fun ls hl => ?_)
          refine lv_goto (tgt := 72) hx hb d_G_solve_100 (by decide) ?_
          have e1 : mx_cnt inn (i + 1) = (mx_cnt inn i) + 0 := by
            show mx_cnt inn i + (if inn i = true then 1 else 0) = _
            rw [if_neg (by rw [h87]; decide)]
          exact ih (i + 1) (by omega) H locs ls hw (by rw [e1]; exact lv_sub hl [0, 1, 2] rfl)
        · refine lv_iconst (v := nI 1) hx hb d_G_solve_90 (by decide) ?_
          refine lv_goto (tgt := 95) hx hb d_G_solve_91 (by decide) ?_
          refine gd_iadd hx hb d_G_solve_95 ?_
          refine lv_istore_n (lv' := [(1, .int (nI ((mx_cnt inn i) + 1))), (2, .int (nI i)), (0, .ref (q 0))]) hx hb d_G_solve_96 rfl hl (by decide) rfl (fun ls hl => ?_)
          refine lv_iinc (v := nI (i + 1)) (lv' := [(2, .int (nI (i + 1))), (1, .int (nI ((mx_cnt inn i) + 1))), (0, .ref (q 0))]) hx hb d_G_solve_97 hl (k := 1) rfl (gd_inc1 _) (by decide) rfl (fun ls hl => ?_)
          refine lv_goto (tgt := 72) hx hb d_G_solve_100 (by decide) ?_
          have e1 : mx_cnt inn (i + 1) = (mx_cnt inn i) + 1 := by
            show mx_cnt inn i + (if inn i = true then 1 else 0) = _
            rw [if_pos h87]
          exact ih (i + 1) (by omega) H locs ls hw (by rw [e1]; exact lv_sub hl [0, 1, 2] rfl)
  have loopA : ∀ (d : Nat) (inn : Nat → Bool) (ah af la : Nat → Option Nat) (su : Nat → Int) (sr : Nat → Int32) (S : List Nat) (dr : Nat → Int32), mx_cnt inn 200 * 301 + S.length < d → mx_pOk 300 sr S → mx_MI X inn ah af la su S [] (fun _ => False) → ∀ (H : Heap) (locs : List Loc) (ls : Array Slot), gd_Ws D A s (wG q ct X inn ah af la su sr S dr ([])) H locs → lv_has ls 3 [(0, .ref (q 0))] → W p l e rm_G_solve s m [.ref (q 0)].toArray below meth c H locs 0 0 Q (F0 m 4 ls []) := by
    intro d
    induction d with
    | zero =>
      intro inn ah af la su sr S dr hd
      omega
    | succ d ihA =>
      intro inn ah af la su sr S dr hd hS hM H locs ls hw hl
      have hlen := hS.len
      refine lv_aload_n hx hb d_G_solve_4 rfl (lv_at hl 0 rfl) ?_
      refine gd_get (v := .ref (q 10)) i_G cx hw 0 rfl rfl 11 (by decide) tw_70 rfl rfl d_G_solve_5 ?_
      refine gd_callVI (As := []) (rest := []) cx hw (c_P_isEmpty l D ct _ (q 10) (q 11) (q 12) 300 sr S (by omega)) cv_G_93 ⟨by decide, by decide⟩ ⟨rfl, rfl⟩ [10, 11, 12] rfl rfl 0 3 rfl rfl (gd_jr hw [10, 11, 12] rfl) rfl hl.1 rfl (Nat.le_of_ble_eq_true rfl) ⟨Nat.zero_le _, Nat.zero_le _⟩ d_G_solve_8 (fun r u H locs hp hw => ?_)
      subst hp
      refine gd_ifne (tgt := 68) hx hb d_G_solve_11 (by decide) (fun h11 => ?_) (fun h11 => ?_)
      · have e0 : S = [] := List.eq_nil_of_length_eq_zero (of_decide_eq_true h11)
        subst e0
        obtain ⟨hSol, hsu⟩ := mx_MI_sol hX hM
        refine lv_iconst (v := nI 0) hx hb d_G_solve_68 (by decide) ?_
        refine lv_istore_n (lv' := [(1, .int (nI 0)), (0, .ref (q 0))]) hx hb d_G_solve_69 rfl hl (by decide) rfl (fun ls hl => ?_)
        refine lv_iconst (v := nI 0) hx hb d_G_solve_70 (by decide) ?_
        refine lv_istore_n (lv' := [(2, .int (nI 0)), (1, .int (nI 0)), (0, .ref (q 0))]) hx hb d_G_solve_71 rfl hl (by decide) rfl (fun ls hl => ?_)
        exact loopC inn ah af la su sr dr hSol hsu (mx_n X) 0 (by omega) H locs ls hw (lv_sub hl [0, 1, 2] rfl)
      · obtain ⟨S3, po, rfl⟩ := mx_last_ex S (of_decide_eq_false h11)
        obtain ⟨hS3, -, hpo, -, -⟩ := hS.pop
        refine lv_aload_n hx hb d_G_solve_14 rfl (lv_at hl 0 rfl) ?_
        refine gd_get (v := .ref (q 10)) i_G cx hw 0 rfl rfl 11 (by decide) tw_70 rfl rfl d_G_solve_15 ?_
        refine gd_callVI (As := []) (rest := []) cx hw (c_P_pop l D ct _ (q 10) (q 11) (q 12) 300 sr S3 po (by decide) hS) cv_G_97 ⟨by decide, by decide⟩ ⟨rfl, rfl⟩ [10, 11, 12] rfl rfl 0 3 rfl rfl (gd_jn (w2 := fun _ => wG q ct X inn ah af la su sr S3 dr ([])) hw [10, 11, 12] [0, 1, 2, 3, 4, 5, 6, 7, 8, 9, 13, 14, 15, 16, 17, 18] [0, 1, 2, 3, 4, 5, 6, 7, 8, 9, 16, 17, 18, 10, 11, 12, 13, 14, 15] rfl rfl rfl (by decide) (fun _ => rfl) rfl) rfl hl.1 rfl (Nat.le_of_ble_eq_true rfl) ⟨Nat.zero_le _, Nat.zero_le _⟩ d_G_solve_18 (fun r u H locs hp hw => ?_)
        subst hp
        refine lv_istore_n (lv' := [(1, .int (nI po)), (0, .ref (q 0))]) hx hb d_G_solve_21 rfl hl (by decide) rfl (fun ls hl => ?_)
        have loopB : ∀ (d2 : Nat) (inn : Nat → Bool) (ah af la : Nat → Option Nat) (su : Nat → Int) (sr : Nat → Int32) (S : List Nat) (dr : Nat → Int32), mx_cnt inn 200 < d2 → mx_cnt inn 200 * 301 + S.length < d → mx_pOk 300 sr S → mx_MI X inn ah af la su S [] (fun x => x = po) → ∀ (H : Heap) (locs : List Loc) (ls : Array Slot), gd_Ws D A s (wG q ct X inn ah af la su sr S dr ([])) H locs → lv_has ls 3 [(1, .int (nI po)), (0, .ref (q 0))] → W p l e rm_G_solve s m [.ref (q 0)].toArray below meth c H locs 0 0 Q (F0 m 22 ls []) := by
          intro d2
          induction d2 with
          | zero =>
            intro inn ah af la su sr S dr hd2
            omega
          | succ d2 ihB =>
            intro inn ah af la su sr S dr hd2 hd3 hS hM H locs ls hw hl
            refine lv_aload_n hx hb d_G_solve_22 rfl (lv_at hl 1 rfl) ?_
            refine gd_get (v := .ref (q 9)) i_G cx hw 0 rfl rfl 10 (by decide) tw_68 rfl rfl d_G_solve_23 ?_
            refine lv_iload_n hx hb d_G_solve_26 rfl (lv_at hl 0 rfl) ?_
            refine gd_lld (v := mx_l (su po)) cx hw 9 rfl (by omega) (by decide) rfl d_G_solve_27 ?_
            refine lv_aload_n hx hb d_G_solve_28 rfl (lv_at hl 1 rfl) ?_
            refine gd_get (v := .ref (q 16)) i_G cx hw 0 rfl rfl 0 (by decide) tw_56 rfl rfl d_G_solve_29 ?_
            refine lv_iload_n hx hb d_G_solve_32 rfl (lv_at hl 0 rfl) ?_
            refine gd_callFL (n := 1) (As := [.int (nI po)]) (rest := [.long (mx_l (su po))]) cx hw (c_A_floor l D ct _ (q 16) (q 17) (q 18) X po hpo) cf_84 (cx.2.2.2.2.2.2.2.2.2.2.2.2.2.2) (by decide +kernel) ⟨by decide, by decide⟩ ⟨rfl, rfl⟩ [16, 17, 18] rfl rfl 0 rfl (gd_jr hw [16, 17, 18] rfl) rfl hl.1 rfl (Nat.le_of_ble_eq_true rfl) ⟨Nat.zero_le _, Nat.zero_le _⟩ d_G_solve_33 (fun r u H locs hp hw => ?_)
            subst hp
            refine gd_lge (tgt := 65) hx hb d_G_solve_38 d_G_solve_39 (by decide) (mx_MI_fit hX hM hpo) (mx_f_fit hX hpo) (fun h39 => ?_) (fun h39 => ?_)
            · refine lv_goto (tgt := 4) hx hb d_G_solve_65 (by decide) ?_
              exact ihA inn ah af la su sr S dr hd3 hS (mx_MI_done hM h39) H locs ls hw (lv_sub hl [1] rfl)
            · obtain ⟨mm, hm, hm1, hm2, hm3, hm4⟩ := mx_MI_last hX hpo hM h39
              refine lv_aload_n hx hb d_G_solve_42 rfl (lv_at hl 1 rfl) ?_
              refine gd_get (v := .ref (q 13)) i_G cx hw 0 rfl rfl 12 (by decide) tw_71 rfl rfl d_G_solve_43 ?_
              refine lv_aload_n hx hb d_G_solve_46 rfl (lv_at hl 1 rfl) ?_
              refine gd_get (v := .ref (q 8)) i_G cx hw 0 rfl rfl 9 (by decide) tw_67 rfl rfl d_G_solve_47 ?_
              refine lv_iload_n hx hb d_G_solve_50 rfl (lv_at hl 0 rfl) ?_
              refine gd_ild (v := nI mm) cx hw 8 rfl (by omega) (by decide) (congrArg mx_o hm) d_G_solve_51 ?_
              refine lv_bipush (v := nI 16) hx hb d_G_solve_52 (by decide) ?_
              refine gd_idiv hx hb d_G_solve_54 (by omega) ?_
              refine gd_callVV (As := [.int (nI (mm / 16))]) (rest := []) cx hw (c_P_push l D ct _ (q 13) (q 14) (q 15) 200 dr [] (mm / 16) (by decide) hm2 mx_pOk.nil) cv_G_87 ⟨by decide, by decide⟩ ⟨rfl, rfl⟩ [13, 14, 15] rfl rfl 0 3 rfl rfl (gd_jn (w2 := fun u => wG q ct X inn ah af la su sr S u (mx_pp [] (mm / 16))) hw [13, 14, 15] [0, 1, 2, 3, 4, 5, 6, 7, 8, 9, 10, 11, 12, 16, 17, 18] [0, 1, 2, 3, 4, 5, 6, 7, 8, 9, 10, 11, 12, 16, 17, 18, 13, 14, 15] rfl rfl rfl (by decide) (fun _ => rfl) rfl) rfl hl.1 rfl (Nat.le_of_ble_eq_true rfl) ⟨Nat.zero_le _, Nat.zero_le _⟩ d_G_solve_55 (fun u H locs hp hw => ?_)
              refine lv_aload_n hx hb d_G_solve_58 rfl (lv_at hl 1 rfl) ?_
              refine gd_callVV (As := []) (rest := []) cx hw (c_G_dropAll l D ct _ q X inn ah af la su sr S u (mx_pp [] (mm / 16)) (fun x => x = po) hX hS hp (mx_MI_push hM hm3)) cv_G_107 ⟨by decide, by decide⟩ ⟨rfl, rfl⟩ [0, 1, 2, 3, 4, 5, 6, 7, 8, 9, 10, 11, 12, 13, 14, 15, 16, 17, 18] rfl rfl 0 2 rfl rfl (gd_jn (w2 := fun u => wGu q ct X u.1 u.2) hw [0, 1, 2, 3, 4, 5, 6, 7, 8, 9, 10, 11, 12, 13, 14, 15, 16, 17, 18] [] [0, 1, 2, 3, 4, 5, 6, 7, 8, 9, 10, 11, 12, 13, 14, 15, 16, 17, 18] rfl rfl rfl (by decide) (fun _ => rfl) rfl) rfl hl.1 rfl (Nat.le_of_ble_eq_true rfl) ⟨Nat.zero_le _, Nat.zero_le _⟩ d_G_solve_59 (fun u2 H locs hp2 hw => ?_)
              obtain ⟨inn3, ah3, af3, la3, su3, sr3, S3b, dr3, L3⟩ := u2
              obtain ⟨⟨g1, g2, g3⟩, g4, g5, g6⟩ := hp2
              have g4 : L3 = [] := g4
              subst g4
              have hc : mx_cnt inn3 200 < mx_cnt inn 200 := mx_cnt_lt (S := inn3) (T := inn) (k := mm / 16) g5 hm4 (g6 _ (mx_pp_mem.mpr (Or.inr rfl))) 200 hm2
              have hl3 : S3b.length ≤ 300 := g2.len
              refine lv_goto (tgt := 22) hx hb d_G_solve_62 (by decide) ?_
              exact ihB inn3 ah3 af3 la3 su3 sr3 S3b dr3 (by omega) (by omega) g2 g1 H locs ls hw (lv_sub hl [0, 1] rfl)
        exact loopB (mx_cnt inn 200 + 1) inn ah af la su sr S3 dr (by omega) (by rw [List.length_append, List.length_singleton] at hd; omega) hS3 (mx_MI_popS hM) H locs ls hw (lv_sub hl [0, 1] rfl)
  refine lv_aload_n hx hb d_G_solve_0 rfl (lv_at hl 0 rfl) ?_
  refine gd_callVV (As := []) (rest := []) cx hw (c_G_begin l D ct _ q X inn ah af la su sr dr hX hinn) cv_G_104 ⟨by decide, by decide⟩ ⟨rfl, rfl⟩ [0, 1, 2, 3, 4, 5, 6, 7, 8, 9, 10, 11, 12, 13, 14, 15, 16, 17, 18] rfl rfl 0 2 rfl rfl (gd_jn (w2 := fun u => wG q ct X (mx_t X) u.1 u.2.1 u.2.2.1 u.2.2.2.1 u.2.2.2.2.1 u.2.2.2.2.2 dr []) hw [0, 1, 2, 3, 4, 5, 6, 7, 8, 9, 10, 11, 12, 13, 14, 15, 16, 17, 18] [] [0, 1, 2, 3, 4, 5, 6, 7, 8, 9, 10, 11, 12, 13, 14, 15, 16, 17, 18] rfl rfl rfl (by decide) (fun _ => rfl) rfl) rfl hl.1 rfl (Nat.le_of_ble_eq_true rfl) ⟨Nat.zero_le _, Nat.zero_le _⟩ d_G_solve_1 (fun u H locs hp hw => ?_)
  exact loopA (mx_cnt (mx_t X) 200 * 301 + u.2.2.2.2.2.length + 1) (mx_t X) u.1 u.2.1 u.2.2.1 u.2.2.2.1 u.2.2.2.2.1 u.2.2.2.2.2 dr (by omega) hp.2 hp.1 H locs ls hw (lv_sub hl [0] rfl)
end
section
theorem d_X_isPosition_0 : decode b_X_isPosition 0 = .ok (.iload_n 0, 1) := by decide +kernel
theorem d_X_isPosition_1 : decode b_X_isPosition 1 = .ok (.ifCond .lt 14, 3) := by decide +kernel
theorem d_X_isPosition_4 : decode b_X_isPosition 4 = .ok (.iload_n 0, 1) := by decide +kernel
theorem d_X_isPosition_5 : decode b_X_isPosition 5 = .ok (.sipush 300, 3) := by decide +kernel
theorem d_X_isPosition_8 : decode b_X_isPosition 8 = .ok (.if_icmp .ge 7, 3) := by decide +kernel
theorem d_X_isPosition_11 : decode b_X_isPosition 11 = .ok (.iconst 1, 1) := by decide +kernel
theorem d_X_isPosition_12 : decode b_X_isPosition 12 = .ok (.goto 4, 3) := by decide +kernel
theorem d_X_isPosition_15 : decode b_X_isPosition 15 = .ok (.iconst 0, 1) := by decide +kernel
theorem d_X_isPosition_16 : decode b_X_isPosition 16 = .ok (.ireturn, 1) := by decide +kernel
theorem d_X_isWithin_0 : decode b_X_isWithin 0 = .ok (.lload_n 0, 1) := by decide +kernel
theorem d_X_isWithin_1 : decode b_X_isWithin 1 = .ok (.lload_n 2, 1) := by decide +kernel
theorem d_X_isWithin_2 : decode b_X_isWithin 2 = .ok (.lneg, 1) := by decide +kernel
theorem d_X_isWithin_3 : decode b_X_isWithin 3 = .ok (.lcmp, 1) := by decide +kernel
theorem d_X_isWithin_4 : decode b_X_isWithin 4 = .ok (.ifCond .lt 13, 3) := by decide +kernel
theorem d_X_isWithin_7 : decode b_X_isWithin 7 = .ok (.lload_n 0, 1) := by decide +kernel
theorem d_X_isWithin_8 : decode b_X_isWithin 8 = .ok (.lload_n 2, 1) := by decide +kernel
theorem d_X_isWithin_9 : decode b_X_isWithin 9 = .ok (.lcmp, 1) := by decide +kernel
theorem d_X_isWithin_10 : decode b_X_isWithin 10 = .ok (.ifCond .gt 7, 3) := by decide +kernel
theorem d_X_isWithin_13 : decode b_X_isWithin 13 = .ok (.iconst 1, 1) := by decide +kernel
theorem d_X_isWithin_14 : decode b_X_isWithin 14 = .ok (.goto 4, 3) := by decide +kernel
theorem d_X_isWithin_17 : decode b_X_isWithin 17 = .ok (.iconst 0, 1) := by decide +kernel
theorem d_X_isWithin_18 : decode b_X_isWithin 18 = .ok (.ireturn, 1) := by decide +kernel
theorem d_X_place_0 : decode b_X_place 0 = .ok (.iload_n 1, 1) := by decide +kernel
theorem d_X_place_1 : decode b_X_place 1 = .ok (.invokestatic 25, 3) := by decide +kernel
theorem d_X_place_4 : decode b_X_place 4 = .ok (.ifCond .eq 31, 3) := by decide +kernel
theorem d_X_place_7 : decode b_X_place 7 = .ok (.lload_n 2, 1) := by decide +kernel
theorem d_X_place_8 : decode b_X_place 8 = .ok (.ldc2_w 29, 3) := by decide +kernel
theorem d_X_place_11 : decode b_X_place 11 = .ok (.invokestatic 31, 3) := by decide +kernel
theorem d_X_place_14 : decode b_X_place 14 = .ok (.ifCond .eq 21, 3) := by decide +kernel
theorem d_X_place_17 : decode b_X_place 17 = .ok (.lload 4, 2) := by decide +kernel
theorem d_X_place_19 : decode b_X_place 19 = .ok (.ldc2_w 29, 3) := by decide +kernel
theorem d_X_place_22 : decode b_X_place 22 = .ok (.invokestatic 31, 3) := by decide +kernel
theorem d_X_place_25 : decode b_X_place 25 = .ok (.ifCond .eq 10, 3) := by decide +kernel
theorem d_X_place_28 : decode b_X_place 28 = .ok (.lload_n 2, 1) := by decide +kernel
theorem d_X_place_29 : decode b_X_place 29 = .ok (.lload 4, 2) := by decide +kernel
theorem d_X_place_31 : decode b_X_place 31 = .ok (.lcmp, 1) := by decide +kernel
theorem d_X_place_32 : decode b_X_place 32 = .ok (.ifCond .ge 5, 3) := by decide +kernel
theorem d_X_place_35 : decode b_X_place 35 = .ok (.iconst 0, 1) := by decide +kernel
theorem d_X_place_36 : decode b_X_place 36 = .ok (.ireturn, 1) := by decide +kernel
theorem d_X_place_37 : decode b_X_place 37 = .ok (.aload_n 0, 1) := by decide +kernel
theorem d_X_place_38 : decode b_X_place 38 = .ok (.getfield 10, 3) := by decide +kernel
theorem d_X_place_41 : decode b_X_place 41 = .ok (.getfield 35, 3) := by decide +kernel
theorem d_X_place_44 : decode b_X_place 44 = .ok (.iload_n 1, 1) := by decide +kernel
theorem d_X_place_45 : decode b_X_place 45 = .ok (.lload_n 2, 1) := by decide +kernel
theorem d_X_place_46 : decode b_X_place 46 = .ok (.lastore, 1) := by decide +kernel
theorem d_X_place_47 : decode b_X_place 47 = .ok (.aload_n 0, 1) := by decide +kernel
theorem d_X_place_48 : decode b_X_place 48 = .ok (.getfield 10, 3) := by decide +kernel
theorem d_X_place_51 : decode b_X_place 51 = .ok (.getfield 39, 3) := by decide +kernel
theorem d_X_place_54 : decode b_X_place 54 = .ok (.iload_n 1, 1) := by decide +kernel
theorem d_X_place_55 : decode b_X_place 55 = .ok (.lload 4, 2) := by decide +kernel
theorem d_X_place_57 : decode b_X_place 57 = .ok (.lastore, 1) := by decide +kernel
theorem d_X_place_58 : decode b_X_place 58 = .ok (.iconst 1, 1) := by decide +kernel
theorem d_X_place_59 : decode b_X_place 59 = .ok (.ireturn, 1) := by decide +kernel
theorem d_X_item_0 : decode b_X_item 0 = .ok (.aload_n 0, 1) := by decide +kernel
theorem d_X_item_1 : decode b_X_item 1 = .ok (.getfield 21, 3) := by decide +kernel
theorem d_X_item_4 : decode b_X_item 4 = .ok (.invokevirtual 42, 3) := by decide +kernel
theorem d_X_item_7 : decode b_X_item 7 = .ok (.ifCond .eq 7, 3) := by decide +kernel
theorem d_X_item_10 : decode b_X_item 10 = .ok (.iconst (-1), 1) := by decide +kernel
theorem d_X_item_11 : decode b_X_item 11 = .ok (.goto 10, 3) := by decide +kernel
theorem d_X_item_14 : decode b_X_item 14 = .ok (.aload_n 0, 1) := by decide +kernel
theorem d_X_item_15 : decode b_X_item 15 = .ok (.getfield 21, 3) := by decide +kernel
theorem d_X_item_18 : decode b_X_item 18 = .ok (.invokevirtual 46, 3) := by decide +kernel
theorem d_X_item_21 : decode b_X_item 21 = .ok (.ireturn, 1) := by decide +kernel
theorem d_X_net_0 : decode b_X_net 0 = .ok (.aload_n 0, 1) := by decide +kernel
theorem d_X_net_1 : decode b_X_net 1 = .ok (.getfield 21, 3) := by decide +kernel
theorem d_X_net_4 : decode b_X_net 4 = .ok (.iload_n 1, 1) := by decide +kernel
theorem d_X_net_5 : decode b_X_net 5 = .ok (.invokevirtual 50, 3) := by decide +kernel
theorem d_X_net_8 : decode b_X_net 8 = .ok (.ifCond .eq 20, 3) := by decide +kernel
theorem d_X_net_11 : decode b_X_net 11 = .ok (.iload_n 2, 1) := by decide +kernel
theorem d_X_net_12 : decode b_X_net 12 = .ok (.invokestatic 25, 3) := by decide +kernel
theorem d_X_net_15 : decode b_X_net 15 = .ok (.ifCond .eq 13, 3) := by decide +kernel
theorem d_X_net_18 : decode b_X_net 18 = .ok (.lload_n 3, 1) := by decide +kernel
theorem d_X_net_19 : decode b_X_net 19 = .ok (.ldc2_w 53, 3) := by decide +kernel
theorem d_X_net_22 : decode b_X_net 22 = .ok (.invokestatic 31, 3) := by decide +kernel
theorem d_X_net_25 : decode b_X_net 25 = .ok (.ifCond .ne 5, 3) := by decide +kernel
theorem d_X_net_28 : decode b_X_net 28 = .ok (.iconst 0, 1) := by decide +kernel
theorem d_X_net_29 : decode b_X_net 29 = .ok (.ireturn, 1) := by decide +kernel
theorem d_X_net_30 : decode b_X_net 30 = .ok (.aload_n 0, 1) := by decide +kernel
theorem d_X_net_31 : decode b_X_net 31 = .ok (.getfield 21, 3) := by decide +kernel
theorem d_X_net_34 : decode b_X_net 34 = .ok (.iload_n 1, 1) := by decide +kernel
theorem d_X_net_35 : decode b_X_net 35 = .ok (.iload_n 2, 1) := by decide +kernel
theorem d_X_net_36 : decode b_X_net 36 = .ok (.invokevirtual 55, 3) := by decide +kernel
theorem d_X_net_39 : decode b_X_net 39 = .ok (.lload_n 3, 1) := by decide +kernel
theorem d_X_net_40 : decode b_X_net 40 = .ok (.ladd, 1) := by decide +kernel
theorem d_X_net_41 : decode b_X_net 41 = .ok (.ldc2_w 59, 3) := by decide +kernel
theorem d_X_net_44 : decode b_X_net 44 = .ok (.invokestatic 31, 3) := by decide +kernel
theorem d_X_net_47 : decode b_X_net 47 = .ok (.ifCond .eq 20, 3) := by decide +kernel
theorem d_X_net_50 : decode b_X_net 50 = .ok (.aload_n 0, 1) := by decide +kernel
theorem d_X_net_51 : decode b_X_net 51 = .ok (.getfield 21, 3) := by decide +kernel
theorem d_X_net_54 : decode b_X_net 54 = .ok (.iload_n 1, 1) := by decide +kernel
theorem d_X_net_55 : decode b_X_net 55 = .ok (.iload_n 2, 1) := by decide +kernel
theorem d_X_net_56 : decode b_X_net 56 = .ok (.lload_n 3, 1) := by decide +kernel
theorem d_X_net_57 : decode b_X_net 57 = .ok (.invokevirtual 61, 3) := by decide +kernel
theorem d_X_net_60 : decode b_X_net 60 = .ok (.ifCond .eq 7, 3) := by decide +kernel
theorem d_X_net_63 : decode b_X_net 63 = .ok (.iconst 1, 1) := by decide +kernel
theorem d_X_net_64 : decode b_X_net 64 = .ok (.goto 4, 3) := by decide +kernel
theorem d_X_net_67 : decode b_X_net 67 = .ok (.iconst 0, 1) := by decide +kernel
theorem d_X_net_68 : decode b_X_net 68 = .ok (.ireturn, 1) := by decide +kernel
theorem d_X_go_0 : decode b_X_go 0 = .ok (.aload_n 0, 1) := by decide +kernel
theorem d_X_go_1 : decode b_X_go 1 = .ok (.getfield 21, 3) := by decide +kernel
theorem d_X_go_4 : decode b_X_go 4 = .ok (.iload_n 1, 1) := by decide +kernel
theorem d_X_go_5 : decode b_X_go 5 = .ok (.invokevirtual 50, 3) := by decide +kernel
theorem d_X_go_8 : decode b_X_go 8 = .ok (.ifCond .ne 5, 3) := by decide +kernel
theorem d_X_go_11 : decode b_X_go 11 = .ok (.iconst 0, 1) := by decide +kernel
theorem d_X_go_12 : decode b_X_go 12 = .ok (.ireturn, 1) := by decide +kernel
theorem d_X_go_13 : decode b_X_go 13 = .ok (.aload_n 0, 1) := by decide +kernel
theorem d_X_go_14 : decode b_X_go 14 = .ok (.getfield 21, 3) := by decide +kernel
theorem d_X_go_17 : decode b_X_go 17 = .ok (.getfield 65, 3) := by decide +kernel
theorem d_X_go_20 : decode b_X_go 20 = .ok (.iload_n 1, 1) := by decide +kernel
theorem d_X_go_21 : decode b_X_go 21 = .ok (.iconst 0, 1) := by decide +kernel
theorem d_X_go_22 : decode b_X_go 22 = .ok (.bastore, 1) := by decide +kernel
theorem d_X_go_23 : decode b_X_go 23 = .ok (.iconst 1, 1) := by decide +kernel
theorem d_X_go_24 : decode b_X_go 24 = .ok (.ireturn, 1) := by decide +kernel
theorem d_X_solve_0 : decode b_X_solve 0 = .ok (.aload_n 0, 1) := by decide +kernel
theorem d_X_solve_1 : decode b_X_solve 1 = .ok (.getfield 21, 3) := by decide +kernel
theorem d_X_solve_4 : decode b_X_solve 4 = .ok (.invokevirtual 69, 3) := by decide +kernel
theorem d_X_solve_7 : decode b_X_solve 7 = .ok (.ireturn, 1) := by decide +kernel
theorem d_X_in_0 : decode b_X_in 0 = .ok (.iload_n 1, 1) := by decide +kernel
theorem d_X_in_1 : decode b_X_in 1 = .ok (.ifCond .lt 30, 3) := by decide +kernel
theorem d_X_in_4 : decode b_X_in 4 = .ok (.iload_n 1, 1) := by decide +kernel
theorem d_X_in_5 : decode b_X_in 5 = .ok (.aload_n 0, 1) := by decide +kernel
theorem d_X_in_6 : decode b_X_in 6 = .ok (.getfield 21, 3) := by decide +kernel
theorem d_X_in_9 : decode b_X_in 9 = .ok (.getfield 72, 3) := by decide +kernel
theorem d_X_in_12 : decode b_X_in 12 = .ok (.if_icmp .ge 19, 3) := by decide +kernel
theorem d_X_in_15 : decode b_X_in 15 = .ok (.aload_n 0, 1) := by decide +kernel
theorem d_X_in_16 : decode b_X_in 16 = .ok (.getfield 21, 3) := by decide +kernel
theorem d_X_in_19 : decode b_X_in 19 = .ok (.getfield 76, 3) := by decide +kernel
theorem d_X_in_22 : decode b_X_in 22 = .ok (.iload_n 1, 1) := by decide +kernel
theorem d_X_in_23 : decode b_X_in 23 = .ok (.baload, 1) := by decide +kernel
theorem d_X_in_24 : decode b_X_in 24 = .ok (.ifCond .eq 7, 3) := by decide +kernel
theorem d_X_in_27 : decode b_X_in 27 = .ok (.iconst 1, 1) := by decide +kernel
theorem d_X_in_28 : decode b_X_in 28 = .ok (.goto 4, 3) := by decide +kernel
theorem d_X_in_31 : decode b_X_in 31 = .ok (.iconst 0, 1) := by decide +kernel
theorem d_X_in_32 : decode b_X_in 32 = .ok (.ireturn, 1) := by decide +kernel
theorem d_X_perform_0 : decode b_X_perform 0 = .ok (.aload_n 0, 1) := by decide +kernel
theorem d_X_perform_1 : decode b_X_perform 1 = .ok (.getfield 21, 3) := by decide +kernel
theorem d_X_perform_4 : decode b_X_perform 4 = .ok (.invokevirtual 69, 3) := by decide +kernel
theorem d_X_perform_7 : decode b_X_perform 7 = .ok (.istore_n 1, 1) := by decide +kernel
theorem d_X_perform_8 : decode b_X_perform 8 = .ok (.aload_n 0, 1) := by decide +kernel
theorem d_X_perform_9 : decode b_X_perform 9 = .ok (.getfield 21, 3) := by decide +kernel
theorem d_X_perform_12 : decode b_X_perform 12 = .ok (.getfield 79, 3) := by decide +kernel
theorem d_X_perform_15 : decode b_X_perform 15 = .ok (.astore_n 2, 1) := by decide +kernel
theorem d_X_perform_16 : decode b_X_perform 16 = .ok (.aload_n 2, 1) := by decide +kernel
theorem d_X_perform_17 : decode b_X_perform 17 = .ok (.arraylength, 1) := by decide +kernel
theorem d_X_perform_18 : decode b_X_perform 18 = .ok (.istore_n 3, 1) := by decide +kernel
theorem d_X_perform_19 : decode b_X_perform 19 = .ok (.iconst 0, 1) := by decide +kernel
theorem d_X_perform_20 : decode b_X_perform 20 = .ok (.istore 4, 2) := by decide +kernel
theorem d_X_perform_22 : decode b_X_perform 22 = .ok (.iload 4, 2) := by decide +kernel
theorem d_X_perform_24 : decode b_X_perform 24 = .ok (.iload_n 3, 1) := by decide +kernel
theorem d_X_perform_25 : decode b_X_perform 25 = .ok (.if_icmp .ge 26, 3) := by decide +kernel
theorem d_X_perform_28 : decode b_X_perform 28 = .ok (.aload_n 2, 1) := by decide +kernel
theorem d_X_perform_29 : decode b_X_perform 29 = .ok (.iload 4, 2) := by decide +kernel
theorem d_X_perform_31 : decode b_X_perform 31 = .ok (.laload, 1) := by decide +kernel
theorem d_X_perform_32 : decode b_X_perform 32 = .ok (.lstore 5, 2) := by decide +kernel
theorem d_X_perform_34 : decode b_X_perform 34 = .ok (.lload 5, 2) := by decide +kernel
theorem d_X_perform_36 : decode b_X_perform 36 = .ok (.ldc2_w 29, 3) := by decide +kernel
theorem d_X_perform_39 : decode b_X_perform 39 = .ok (.lcmp, 1) := by decide +kernel
theorem d_X_perform_40 : decode b_X_perform 40 = .ok (.ifCond .le 5, 3) := by decide +kernel
theorem d_X_perform_43 : decode b_X_perform 43 = .ok (.iconst (-1), 1) := by decide +kernel
theorem d_X_perform_44 : decode b_X_perform 44 = .ok (.ireturn, 1) := by decide +kernel
theorem d_X_perform_45 : decode b_X_perform 45 = .ok (.iinc 4 1, 3) := by decide +kernel
theorem d_X_perform_48 : decode b_X_perform 48 = .ok (.goto (-26), 3) := by decide +kernel
theorem d_X_perform_51 : decode b_X_perform 51 = .ok (.iconst 0, 1) := by decide +kernel
theorem d_X_perform_52 : decode b_X_perform 52 = .ok (.istore_n 2, 1) := by decide +kernel
theorem d_X_perform_53 : decode b_X_perform 53 = .ok (.iload_n 2, 1) := by decide +kernel
theorem d_X_perform_54 : decode b_X_perform 54 = .ok (.sipush 300, 3) := by decide +kernel
theorem d_X_perform_57 : decode b_X_perform 57 = .ok (.if_icmp .ge 27, 3) := by decide +kernel
theorem d_X_perform_60 : decode b_X_perform 60 = .ok (.aload_n 0, 1) := by decide +kernel
theorem d_X_perform_61 : decode b_X_perform 61 = .ok (.getfield 10, 3) := by decide +kernel
theorem d_X_perform_64 : decode b_X_perform 64 = .ok (.getfield 35, 3) := by decide +kernel
theorem d_X_perform_67 : decode b_X_perform 67 = .ok (.iload_n 2, 1) := by decide +kernel
theorem d_X_perform_68 : decode b_X_perform 68 = .ok (.aload_n 0, 1) := by decide +kernel
theorem d_X_perform_69 : decode b_X_perform 69 = .ok (.getfield 21, 3) := by decide +kernel
theorem d_X_perform_72 : decode b_X_perform 72 = .ok (.getfield 79, 3) := by decide +kernel
theorem d_X_perform_75 : decode b_X_perform 75 = .ok (.iload_n 2, 1) := by decide +kernel
theorem d_X_perform_76 : decode b_X_perform 76 = .ok (.laload, 1) := by decide +kernel
theorem d_X_perform_77 : decode b_X_perform 77 = .ok (.lastore, 1) := by decide +kernel
theorem d_X_perform_78 : decode b_X_perform 78 = .ok (.iinc 2 1, 3) := by decide +kernel
theorem d_X_perform_81 : decode b_X_perform 81 = .ok (.goto (-28), 3) := by decide +kernel
theorem d_X_perform_84 : decode b_X_perform 84 = .ok (.iconst 0, 1) := by decide +kernel
theorem d_X_perform_85 : decode b_X_perform 85 = .ok (.istore_n 2, 1) := by decide +kernel
theorem d_X_perform_86 : decode b_X_perform 86 = .ok (.iload_n 2, 1) := by decide +kernel
theorem d_X_perform_87 : decode b_X_perform 87 = .ok (.aload_n 0, 1) := by decide +kernel
theorem d_X_perform_88 : decode b_X_perform 88 = .ok (.getfield 21, 3) := by decide +kernel
theorem d_X_perform_91 : decode b_X_perform 91 = .ok (.getfield 72, 3) := by decide +kernel
theorem d_X_perform_94 : decode b_X_perform 94 = .ok (.if_icmp .ge 47, 3) := by decide +kernel
theorem d_X_perform_97 : decode b_X_perform 97 = .ok (.aload_n 0, 1) := by decide +kernel
theorem d_X_perform_98 : decode b_X_perform 98 = .ok (.getfield 21, 3) := by decide +kernel
theorem d_X_perform_101 : decode b_X_perform 101 = .ok (.getfield 65, 3) := by decide +kernel
theorem d_X_perform_104 : decode b_X_perform 104 = .ok (.iload_n 2, 1) := by decide +kernel
theorem d_X_perform_105 : decode b_X_perform 105 = .ok (.aload_n 0, 1) := by decide +kernel
theorem d_X_perform_106 : decode b_X_perform 106 = .ok (.getfield 21, 3) := by decide +kernel
theorem d_X_perform_109 : decode b_X_perform 109 = .ok (.getfield 65, 3) := by decide +kernel
theorem d_X_perform_112 : decode b_X_perform 112 = .ok (.iload_n 2, 1) := by decide +kernel
theorem d_X_perform_113 : decode b_X_perform 113 = .ok (.baload, 1) := by decide +kernel
theorem d_X_perform_114 : decode b_X_perform 114 = .ok (.ifCond .eq 19, 3) := by decide +kernel
theorem d_X_perform_117 : decode b_X_perform 117 = .ok (.aload_n 0, 1) := by decide +kernel
theorem d_X_perform_118 : decode b_X_perform 118 = .ok (.getfield 21, 3) := by decide +kernel
theorem d_X_perform_121 : decode b_X_perform 121 = .ok (.getfield 76, 3) := by decide +kernel
theorem d_X_perform_124 : decode b_X_perform 124 = .ok (.iload_n 2, 1) := by decide +kernel
theorem d_X_perform_125 : decode b_X_perform 125 = .ok (.baload, 1) := by decide +kernel
theorem d_X_perform_126 : decode b_X_perform 126 = .ok (.ifCond .ne 7, 3) := by decide +kernel
theorem d_X_perform_129 : decode b_X_perform 129 = .ok (.iconst 1, 1) := by decide +kernel
theorem d_X_perform_130 : decode b_X_perform 130 = .ok (.goto 4, 3) := by decide +kernel
theorem d_X_perform_133 : decode b_X_perform 133 = .ok (.iconst 0, 1) := by decide +kernel
theorem d_X_perform_134 : decode b_X_perform 134 = .ok (.bastore, 1) := by decide +kernel
theorem d_X_perform_135 : decode b_X_perform 135 = .ok (.iinc 2 1, 3) := by decide +kernel
theorem d_X_perform_138 : decode b_X_perform 138 = .ok (.goto (-52), 3) := by decide +kernel
theorem d_X_perform_141 : decode b_X_perform 141 = .ok (.iload_n 1, 1) := by decide +kernel
theorem d_X_perform_142 : decode b_X_perform 142 = .ok (.ireturn, 1) := by decide +kernel
theorem d_X_value_0 : decode b_X_value 0 = .ok (.iload_n 1, 1) := by decide +kernel
theorem d_X_value_1 : decode b_X_value 1 = .ok (.invokestatic 25, 3) := by decide +kernel
theorem d_X_value_4 : decode b_X_value 4 = .ok (.ifCond .eq 15, 3) := by decide +kernel
theorem d_X_value_7 : decode b_X_value 7 = .ok (.aload_n 0, 1) := by decide +kernel
theorem d_X_value_8 : decode b_X_value 8 = .ok (.getfield 10, 3) := by decide +kernel
theorem d_X_value_11 : decode b_X_value 11 = .ok (.getfield 35, 3) := by decide +kernel
theorem d_X_value_14 : decode b_X_value 14 = .ok (.iload_n 1, 1) := by decide +kernel
theorem d_X_value_15 : decode b_X_value 15 = .ok (.laload, 1) := by decide +kernel
theorem d_X_value_16 : decode b_X_value 16 = .ok (.goto 4, 3) := by decide +kernel
theorem d_X_value_19 : decode b_X_value 19 = .ok (.lconst 0, 1) := by decide +kernel
theorem d_X_value_20 : decode b_X_value 20 = .ok (.lreturn, 1) := by decide +kernel
theorem d_X_netOf_0 : decode b_X_netOf 0 = .ok (.aload_n 0, 1) := by decide +kernel
theorem d_X_netOf_1 : decode b_X_netOf 1 = .ok (.getfield 21, 3) := by decide +kernel
theorem d_X_netOf_4 : decode b_X_netOf 4 = .ok (.iload_n 1, 1) := by decide +kernel
theorem d_X_netOf_5 : decode b_X_netOf 5 = .ok (.invokevirtual 50, 3) := by decide +kernel
theorem d_X_netOf_8 : decode b_X_netOf 8 = .ok (.ifCond .eq 22, 3) := by decide +kernel
theorem d_X_netOf_11 : decode b_X_netOf 11 = .ok (.iload_n 2, 1) := by decide +kernel
theorem d_X_netOf_12 : decode b_X_netOf 12 = .ok (.invokestatic 25, 3) := by decide +kernel
theorem d_X_netOf_15 : decode b_X_netOf 15 = .ok (.ifCond .eq 15, 3) := by decide +kernel
theorem d_X_netOf_18 : decode b_X_netOf 18 = .ok (.aload_n 0, 1) := by decide +kernel
theorem d_X_netOf_19 : decode b_X_netOf 19 = .ok (.getfield 21, 3) := by decide +kernel
theorem d_X_netOf_22 : decode b_X_netOf 22 = .ok (.iload_n 1, 1) := by decide +kernel
theorem d_X_netOf_23 : decode b_X_netOf 23 = .ok (.iload_n 2, 1) := by decide +kernel
theorem d_X_netOf_24 : decode b_X_netOf 24 = .ok (.invokevirtual 55, 3) := by decide +kernel
theorem d_X_netOf_27 : decode b_X_netOf 27 = .ok (.goto 4, 3) := by decide +kernel
theorem d_X_netOf_30 : decode b_X_netOf 30 = .ok (.lconst 0, 1) := by decide +kernel
theorem d_X_netOf_31 : decode b_X_netOf 31 = .ok (.lreturn, 1) := by decide +kernel
theorem d_X_count_0 : decode b_X_count 0 = .ok (.iconst 0, 1) := by decide +kernel
theorem d_X_count_1 : decode b_X_count 1 = .ok (.istore_n 2, 1) := by decide +kernel
theorem d_X_count_2 : decode b_X_count 2 = .ok (.iconst 0, 1) := by decide +kernel
theorem d_X_count_3 : decode b_X_count 3 = .ok (.istore_n 3, 1) := by decide +kernel
theorem d_X_count_4 : decode b_X_count 4 = .ok (.iconst 0, 1) := by decide +kernel
theorem d_X_count_5 : decode b_X_count 5 = .ok (.istore 4, 2) := by decide +kernel
theorem d_X_count_7 : decode b_X_count 7 = .ok (.iload 4, 2) := by decide +kernel
theorem d_X_count_9 : decode b_X_count 9 = .ok (.aload_n 0, 1) := by decide +kernel
theorem d_X_count_10 : decode b_X_count 10 = .ok (.getfield 21, 3) := by decide +kernel
theorem d_X_count_13 : decode b_X_count 13 = .ok (.getfield 72, 3) := by decide +kernel
theorem d_X_count_16 : decode b_X_count 16 = .ok (.if_icmp .ge 51, 3) := by decide +kernel
theorem d_X_count_19 : decode b_X_count 19 = .ok (.iload_n 2, 1) := by decide +kernel
theorem d_X_count_20 : decode b_X_count 20 = .ok (.aload_n 0, 1) := by decide +kernel
theorem d_X_count_21 : decode b_X_count 21 = .ok (.getfield 21, 3) := by decide +kernel
theorem d_X_count_24 : decode b_X_count 24 = .ok (.getfield 65, 3) := by decide +kernel
theorem d_X_count_27 : decode b_X_count 27 = .ok (.iload 4, 2) := by decide +kernel
theorem d_X_count_29 : decode b_X_count 29 = .ok (.baload, 1) := by decide +kernel
theorem d_X_count_30 : decode b_X_count 30 = .ok (.ifCond .eq 7, 3) := by decide +kernel
theorem d_X_count_33 : decode b_X_count 33 = .ok (.iconst 1, 1) := by decide +kernel
theorem d_X_count_34 : decode b_X_count 34 = .ok (.goto 4, 3) := by decide +kernel
theorem d_X_count_37 : decode b_X_count 37 = .ok (.iconst 0, 1) := by decide +kernel
theorem d_X_count_38 : decode b_X_count 38 = .ok (.iadd, 1) := by decide +kernel
theorem d_X_count_39 : decode b_X_count 39 = .ok (.istore_n 2, 1) := by decide +kernel
theorem d_X_count_40 : decode b_X_count 40 = .ok (.iload_n 3, 1) := by decide +kernel
theorem d_X_count_41 : decode b_X_count 41 = .ok (.aload_n 0, 1) := by decide +kernel
theorem d_X_count_42 : decode b_X_count 42 = .ok (.getfield 21, 3) := by decide +kernel
theorem d_X_count_45 : decode b_X_count 45 = .ok (.getfield 76, 3) := by decide +kernel
theorem d_X_count_48 : decode b_X_count 48 = .ok (.iload 4, 2) := by decide +kernel
theorem d_X_count_50 : decode b_X_count 50 = .ok (.baload, 1) := by decide +kernel
theorem d_X_count_51 : decode b_X_count 51 = .ok (.ifCond .eq 7, 3) := by decide +kernel
theorem d_X_count_54 : decode b_X_count 54 = .ok (.iconst 1, 1) := by decide +kernel
theorem d_X_count_55 : decode b_X_count 55 = .ok (.goto 4, 3) := by decide +kernel
theorem d_X_count_58 : decode b_X_count 58 = .ok (.iconst 0, 1) := by decide +kernel
theorem d_X_count_59 : decode b_X_count 59 = .ok (.iadd, 1) := by decide +kernel
theorem d_X_count_60 : decode b_X_count 60 = .ok (.istore_n 3, 1) := by decide +kernel
theorem d_X_count_61 : decode b_X_count 61 = .ok (.iinc 4 1, 3) := by decide +kernel
theorem d_X_count_64 : decode b_X_count 64 = .ok (.goto (-57), 3) := by decide +kernel
theorem d_X_count_67 : decode b_X_count 67 = .ok (.iload_n 1, 1) := by decide +kernel
theorem d_X_count_68 : decode b_X_count 68 = .ok (.ifCond .ne 13, 3) := by decide +kernel
theorem d_X_count_71 : decode b_X_count 71 = .ok (.aload_n 0, 1) := by decide +kernel
theorem d_X_count_72 : decode b_X_count 72 = .ok (.getfield 21, 3) := by decide +kernel
theorem d_X_count_75 : decode b_X_count 75 = .ok (.getfield 72, 3) := by decide +kernel
theorem d_X_count_78 : decode b_X_count 78 = .ok (.goto 22, 3) := by decide +kernel
theorem d_X_count_81 : decode b_X_count 81 = .ok (.iload_n 1, 1) := by decide +kernel
theorem d_X_count_82 : decode b_X_count 82 = .ok (.iconst 1, 1) := by decide +kernel
theorem d_X_count_83 : decode b_X_count 83 = .ok (.if_icmp .ne 7, 3) := by decide +kernel
theorem d_X_count_86 : decode b_X_count 86 = .ok (.iload_n 2, 1) := by decide +kernel
theorem d_X_count_87 : decode b_X_count 87 = .ok (.goto 13, 3) := by decide +kernel
theorem d_X_count_90 : decode b_X_count 90 = .ok (.iload_n 1, 1) := by decide +kernel
theorem d_X_count_91 : decode b_X_count 91 = .ok (.iconst 2, 1) := by decide +kernel
theorem d_X_count_92 : decode b_X_count 92 = .ok (.if_icmp .ne 7, 3) := by decide +kernel
theorem d_X_count_95 : decode b_X_count 95 = .ok (.iload_n 3, 1) := by decide +kernel
theorem d_X_count_96 : decode b_X_count 96 = .ok (.goto 4, 3) := by decide +kernel
theorem d_X_count_99 : decode b_X_count 99 = .ok (.iconst (-1), 1) := by decide +kernel
theorem d_X_count_100 : decode b_X_count 100 = .ok (.ireturn, 1) := by decide +kernel
abbrev rm_X_isPosition : Room := { frames := 0, cells := 0, slots := 0, locals := 0 }
abbrev rm_X_isWithin : Room := { frames := 0, cells := 0, slots := 0, locals := 0 }
abbrev rm_X_place : Room := { frames := 1, cells := 0, slots := 0, locals := 23 }
abbrev rm_X_item : Room := { frames := 1, cells := 0, slots := 0, locals := 20 }
abbrev rm_X_net : Room := { frames := 2, cells := 0, slots := 0, locals := 48 }
abbrev rm_X_go : Room := { frames := 1, cells := 0, slots := 0, locals := 21 }
abbrev rm_X_solve : Room := { frames := 5, cells := 0, slots := 0, locals := 109 }
abbrev rm_X_in : Room := { frames := 0, cells := 0, slots := 0, locals := 0 }
abbrev rm_X_value : Room := { frames := 1, cells := 0, slots := 0, locals := 20 }
abbrev rm_X_netOf : Room := { frames := 2, cells := 0, slots := 0, locals := 46 }
abbrev rm_X_count : Room := { frames := 0, cells := 0, slots := 0, locals := 0 }
abbrev rm_X_perform : Room := { frames := 5, cells := 0, slots := 0, locals := 109 }
theorem cv_X_42 : gd_CV R_X 42 R_G y_G_isFull k_G_isFull 0 := gd_cv tw_125 tw_126 tw_127 tw_3 tw_128 (by decide +kernel)
theorem cv_X_46 : gd_CV R_X 46 R_G y_G_add k_G_add 0 := gd_cv tw_129 tw_130 tw_131 tw_3 tw_132 (by decide +kernel)
theorem cv_X_50 : gd_CV R_X 50 R_G y_G_isThere k_G_isThere 1 := gd_cv tw_137 tw_138 tw_139 tw_3 tw_140 (by decide +kernel)
theorem cv_X_55 : gd_CV R_X 55 R_G y_G_netOf k_G_netOf 2 := gd_cv tw_142 tw_143 tw_144 tw_3 tw_145 (by decide +kernel)
theorem cv_X_61 : gd_CV R_X 61 R_G y_G_net k_G_net 3 := gd_cv tw_151 tw_152 tw_153 tw_3 tw_154 (by decide +kernel)
theorem cv_X_69 : gd_CV R_X 69 R_G y_G_solve k_G_solve 0 := gd_cv tw_167 tw_168 tw_169 tw_3 tw_170 (by decide +kernel)
theorem cs_X_25 : gd_CS R_X 25 y_X_isPosition k_X_isPosition 1 := gd_cs tw_114 tw_115 tw_1 tw_116 (by decide +kernel)
theorem cs_X_31 : gd_CS R_X 31 y_X_isWithin k_X_isWithin 2 := gd_cs tw_118 tw_119 tw_1 tw_120 (by decide +kernel)
set_option maxHeartbeats 4000000 in
set_option maxRecDepth 100000 in
/-- isPosition -/
theorem c_X_isPosition (l : Launch) (D : va_G) (ct : Nat → ClassId) (sz : Nat) (x : Int32) : gd_ctI l y_X_isPosition k_X_isPosition rm_X_isPosition D ct [.int x] sz ([]) (S := Unit) (fun r u => r = mx_b (mx_isP x)) (fun u => []) := by
  refine gd_entI (by decide +kernel) rfl (Nat.le_of_ble_eq_true rfl) (fun p e s m below meth c Q A ls cx hw hl hret => ?_)
  have hx := cx.1
  have hb := cx.2.1
  have hl : lv_has ls 1 [(0, .int x)] := hl
  refine lv_iload_n hx hb d_X_isPosition_0 rfl (lv_at hl 0 rfl) ?_
  refine lv_if_lt (tgt := 15) hx hb d_X_isPosition_1 (by decide) (fun h1 => ?_) (fun h1 => ?_)
  · refine lv_iconst (v := nI 0) hx hb d_X_isPosition_15 (by decide) ?_
    exact hret _ () _ _ _ _ rfl d_X_isPosition_16 (by rw [mx_isP_neg h1]; rfl) hw
  · obtain ⟨j, hj, rfl⟩ := nI_of h1
    refine lv_iload_n hx hb d_X_isPosition_4 rfl (lv_at hl 0 rfl) ?_
    refine lv_sipush (v := nI 300) hx hb d_X_isPosition_5 (by decide) ?_
    refine gd_ge (tgt := 15) hx hb d_X_isPosition_8 (by decide) (by omega) (by omega) (fun h8 => ?_) (fun h8 => ?_)
    · refine lv_iconst (v := nI 0) hx hb d_X_isPosition_15 (by decide) ?_
      exact hret _ () _ _ _ _ rfl d_X_isPosition_16 (by rw [mx_isP_nI hj, decide_eq_false (by omega)]; rfl) hw
    · refine lv_iconst (v := nI 1) hx hb d_X_isPosition_11 (by decide) ?_
      refine lv_goto (tgt := 16) hx hb d_X_isPosition_12 (by decide) ?_
      exact hret _ () _ _ _ _ rfl d_X_isPosition_16 (by rw [mx_isP_nI hj, decide_eq_true (by omega)]; rfl) hw
set_option maxHeartbeats 4000000 in
set_option maxRecDepth 100000 in
/-- isWithin -/
theorem c_X_isWithin (l : Launch) (D : va_G) (ct : Nat → ClassId) (sz : Nat) (z b : Int) (hz : mx_fit z) (hb0 : 0 ≤ b) (hbf : mx_fit b) : gd_ctI l y_X_isWithin k_X_isWithin rm_X_isWithin D ct [.long (mx_l z), .long (mx_l b)] sz ([]) (S := Unit) (fun r u => r = mx_b (mx_in z b)) (fun u => []) := by
  refine gd_entI (by decide +kernel) rfl (Nat.le_of_ble_eq_true rfl) (fun p e s m below meth c Q A ls cx hw hl hret => ?_)
  have hx := cx.1
  have hb := cx.2.1
  have hl : lv_has ls 4 [(0, .long (mx_l z)), (2, .long (mx_l b))] := hl
  refine lv_lload_n hx hb d_X_isWithin_0 rfl (lv_at hl 0 rfl) ?_
  refine lv_lload_n hx hb d_X_isWithin_1 rfl (lv_at hl 1 rfl) ?_
  refine gd_lneg hx hb d_X_isWithin_2 ?_
  refine gd_llt (tgt := 17) hx hb d_X_isWithin_3 d_X_isWithin_4 (by decide) hz (by unfold mx_fit at *; omega) (fun h4 => ?_) (fun h4 => ?_)
  · refine lv_iconst (v := nI 0) hx hb d_X_isWithin_17 (by decide) ?_
    exact hret _ () _ _ _ _ rfl d_X_isWithin_18 (by rw [show mx_in z b = false from Bool.eq_false_iff.mpr (fun h => by have := mx_in_iff.mp h; omega)]; rfl) hw
  · refine lv_lload_n hx hb d_X_isWithin_7 rfl (lv_at hl 0 rfl) ?_
    refine lv_lload_n hx hb d_X_isWithin_8 rfl (lv_at hl 1 rfl) ?_
    refine gd_lgt (tgt := 17) hx hb d_X_isWithin_9 d_X_isWithin_10 (by decide) hz hbf (fun h10 => ?_) (fun h10 => ?_)
    · refine lv_iconst (v := nI 0) hx hb d_X_isWithin_17 (by decide) ?_
      exact hret _ () _ _ _ _ rfl d_X_isWithin_18 (by rw [show mx_in z b = false from Bool.eq_false_iff.mpr (fun h => by have := mx_in_iff.mp h; omega)]; rfl) hw
    · refine lv_iconst (v := nI 1) hx hb d_X_isWithin_13 (by decide) ?_
      refine lv_goto (tgt := 18) hx hb d_X_isWithin_14 (by decide) ?_
      exact hret _ () _ _ _ _ rfl d_X_isWithin_18 (by rw [mx_in_iff.mpr ⟨by omega, by omega⟩]; rfl) hw
set_option maxHeartbeats 4000000 in
set_option maxRecDepth 100000 in
/-- GridDesk.place -/
theorem c_X_place (l : Launch) (D : va_G) (ct : Nat → ClassId) (sz : Nat) (q : Nat → Nat) (X : GX) (inn : Nat → Bool) (ah af la : Nat → Option Nat) (su : Nat → Int) (sr : Nat → Int32) (S : List Nat) (dr : Nat → Int32) (L : List Nat) (x : Int32) (zv zf : Int) (hv : mx_fit zv) (hf : mx_fit zf) : gd_ctI l y_X_place k_X_place rm_X_place D ct [.ref (q 19), .int x, .long (mx_l zv), .long (mx_l zf)] sz (wX q ct X inn ah af la su sr S dr L) (S := GX) (fun r u => r = mx_b (mx_plF X x zv zf).1 ∧ u = (mx_plF X x zv zf).2) (fun u => wX q ct u inn ah af la su sr S dr L) := by
  refine gd_entI (by decide +kernel) rfl (Nat.le_of_ble_eq_true rfl) (fun p e s m below meth c Q A ls cx hw hl hret => ?_)
  have hx := cx.1
  have hb := cx.2.1
  have hl : lv_has ls 6 [(0, .ref (q 19)), (1, .int x), (2, .long (mx_l zv)), (4, .long (mx_l zf))] := hl
  refine lv_iload_n hx hb d_X_place_0 rfl (lv_at hl 1 rfl) ?_
  refine gd_callSI (As := [.int x]) (rest := []) cx hw (c_X_isPosition l D ct _ x) cs_X_25 ⟨by decide, by decide⟩ ⟨rfl, rfl⟩ rfl hl.1 rfl (Nat.le_of_ble_eq_true rfl) ⟨Nat.zero_le _, Nat.zero_le _⟩ d_X_place_1 (fun r H locs hp hw => ?_)
  subst hp
  refine gd_ifeq (tgt := 35) hx hb d_X_place_4 (by decide) (fun h4 => ?_) (fun h4 => ?_)
  · refine lv_iconst (v := nI 0) hx hb d_X_place_35 (by decide) ?_
    exact hret _ X _ _ _ _ rfl d_X_place_36 (by unfold mx_plF; rw [if_neg (fun h => by rw [h.1] at h4; cases h4)]; exact ⟨rfl, rfl⟩) hw
  · refine lv_lload_n hx hb d_X_place_7 rfl (lv_at hl 2 rfl) ?_
    refine lv_ldc2 (v := mx_l 1000000000000000000) hx hb cx.2.2.2.1 (cx.2.2.2.2.1 _ tw_117) d_X_place_8 ?_
    refine gd_callSI (As := [.long (mx_l zv), .long (mx_l 1000000000000000000)]) (rest := []) cx hw (c_X_isWithin l D ct _ zv 1000000000000000000 hv (by decide) (by unfold mx_fit; omega)) cs_X_31 ⟨by decide, by decide⟩ ⟨rfl, rfl⟩ rfl hl.1 rfl (Nat.le_of_ble_eq_true rfl) ⟨Nat.zero_le _, Nat.zero_le _⟩ d_X_place_11 (fun r H locs hp hw => ?_)
    subst hp
    refine gd_ifeq (tgt := 35) hx hb d_X_place_14 (by decide) (fun h14 => ?_) (fun h14 => ?_)
    · refine lv_iconst (v := nI 0) hx hb d_X_place_35 (by decide) ?_
      exact hret _ X _ _ _ _ rfl d_X_place_36 (by unfold mx_plF; rw [if_neg (fun h => by rw [h.2.1] at h14; cases h14)]; exact ⟨rfl, rfl⟩) hw
    · refine lv_lload hx hb d_X_place_17 (lv_at hl 3 rfl) ?_
      refine lv_ldc2 (v := mx_l 1000000000000000000) hx hb cx.2.2.2.1 (cx.2.2.2.2.1 _ tw_117) d_X_place_19 ?_
      refine gd_callSI (As := [.long (mx_l zf), .long (mx_l 1000000000000000000)]) (rest := []) cx hw (c_X_isWithin l D ct _ zf 1000000000000000000 hf (by decide) (by unfold mx_fit; omega)) cs_X_31 ⟨by decide, by decide⟩ ⟨rfl, rfl⟩ rfl hl.1 rfl (Nat.le_of_ble_eq_true rfl) ⟨Nat.zero_le _, Nat.zero_le _⟩ d_X_place_22 (fun r H locs hp hw => ?_)
      subst hp
      refine gd_ifeq (tgt := 35) hx hb d_X_place_25 (by decide) (fun h25 => ?_) (fun h25 => ?_)
      · refine lv_iconst (v := nI 0) hx hb d_X_place_35 (by decide) ?_
        exact hret _ X _ _ _ _ rfl d_X_place_36 (by unfold mx_plF; rw [if_neg (fun h => by rw [h.2.2.1] at h25; cases h25)]; exact ⟨rfl, rfl⟩) hw
      · refine lv_lload_n hx hb d_X_place_28 rfl (lv_at hl 2 rfl) ?_
        refine lv_lload hx hb d_X_place_29 (lv_at hl 3 rfl) ?_
        refine gd_lge (tgt := 37) hx hb d_X_place_31 d_X_place_32 (by decide) hv hf (fun h32 => ?_) (fun h32 => ?_)
        · have hall : mx_isP x = true ∧ mx_in zv 1000000000000000000 = true ∧ mx_in zf 1000000000000000000 = true ∧ zf ≤ zv := ⟨h4, h14, h25, by omega⟩
          obtain ⟨j, hj, rfl⟩ := mx_isP_of h4
          refine lv_aload_n hx hb d_X_place_37 rfl (lv_at hl 0 rfl) ?_
          refine gd_get (v := .ref (q 16)) i_X cx hw 19 rfl rfl 0 (by decide) tw_103 rfl rfl d_X_place_38 ?_
          refine gd_getN (v := .ref (q 17)) i_A cx hw 16 rfl rfl 0 (by decide) cx.2.2.2.2.2.2.1 rfl rfl d_X_place_41 ?_
          refine lv_iload_n hx hb d_X_place_44 rfl (lv_at hl 1 rfl) ?_
          refine lv_lload_n hx hb d_X_place_45 rfl (lv_at hl 2 rfl) ?_
          refine gd_lst (g := fun i9 => mx_l ((va_up (mx_v X) j zv) i9)) (wn := wX q ct (mx_n X, mx_t X, mx_m X, mx_p X, mx_a X, va_up (mx_v X) j zv, mx_f X) inn ah af la su sr S dr L) cx hw 17 rfl (by omega) (by decide) (gd_hl zv) rfl d_X_place_46 (fun H locs hw => ?_)
          refine lv_aload_n hx hb d_X_place_47 rfl (lv_at hl 0 rfl) ?_
          refine gd_get (v := .ref (q 16)) i_X cx hw 19 rfl rfl 0 (by decide) tw_103 rfl rfl d_X_place_48 ?_
          refine gd_getN (v := .ref (q 18)) i_A cx hw 16 rfl rfl 1 (by decide) cx.2.2.2.2.2.2.2.1 rfl rfl d_X_place_51 ?_
          refine lv_iload_n hx hb d_X_place_54 rfl (lv_at hl 1 rfl) ?_
          refine lv_lload hx hb d_X_place_55 (lv_at hl 3 rfl) ?_
          refine gd_lst (g := fun i9 => mx_l ((va_up (mx_f X) j zf) i9)) (wn := wX q ct (mx_n X, mx_t X, mx_m X, mx_p X, mx_a X, va_up (mx_v X) j zv, va_up (mx_f X) j zf) inn ah af la su sr S dr L) cx hw 18 rfl (by omega) (by decide) (gd_hl zf) rfl d_X_place_57 (fun H locs hw => ?_)
          refine lv_iconst (v := nI 1) hx hb d_X_place_58 (by decide) ?_
          exact hret _ (mx_n X, mx_t X, mx_m X, mx_p X, mx_a X, va_up (mx_v X) j zv, va_up (mx_f X) j zf) _ _ _ _ rfl d_X_place_59 (by unfold mx_plF; rw [if_pos hall, mx_ti (by omega)]; exact ⟨rfl, rfl⟩) hw
        · refine lv_iconst (v := nI 0) hx hb d_X_place_35 (by decide) ?_
          exact hret _ X _ _ _ _ rfl d_X_place_36 (by unfold mx_plF; rw [if_neg (fun h => by have := h.2.2.2; omega)]; exact ⟨rfl, rfl⟩) hw
set_option maxHeartbeats 4000000 in
set_option maxRecDepth 100000 in
/-- GridDesk.item -/
theorem c_X_item (l : Launch) (D : va_G) (ct : Nat → ClassId) (sz : Nat) (q : Nat → Nat) (X : GX) (inn : Nat → Bool) (ah af la : Nat → Option Nat) (su : Nat → Int) (sr : Nat → Int32) (S : List Nat) (dr : Nat → Int32) (L : List Nat) (hX : mx_WF X) : gd_ctI l y_X_item k_X_item rm_X_item D ct [.ref (q 19)] sz (wX q ct X inn ah af la su sr S dr L) (S := (GX × (Nat → Bool))) (fun r u => (mx_n X = 200 ∧ r = mx_o none ∧ u = (X, inn)) ∨ (mx_n X < 200 ∧ r = nI (mx_n X) ∧ mx_Rel u.1 (mx_addX X) ∧ u.2 = va_up inn (mx_n X) false)) (fun u => wX q ct u.1 u.2 ah af la su sr S dr L) := by
  refine gd_entI (by decide +kernel) rfl (Nat.le_of_ble_eq_true rfl) (fun p e s m below meth c Q A ls cx hw hl hret => ?_)
  have hx := cx.1
  have hb := cx.2.1
  have hl : lv_has ls 1 [(0, .ref (q 19))] := hl
  have hn := hX.n
  refine lv_aload_n hx hb d_X_item_0 rfl (lv_at hl 0 rfl) ?_
  refine gd_get (v := .ref (q 0)) i_X cx hw 19 rfl rfl 1 (by decide) tw_104 rfl rfl d_X_item_1 ?_
  refine gd_callVI (As := []) (rest := []) cx hw (c_G_isFull l D ct _ q X inn ah af la su sr S dr L hX.n) cv_X_42 ⟨by decide, by decide⟩ ⟨rfl, rfl⟩ [0, 1, 2, 3, 4, 5, 6, 7, 8, 9, 10, 11, 12, 13, 14, 15, 16, 17, 18] rfl rfl 0 2 rfl rfl (gd_jr hw [0, 1, 2, 3, 4, 5, 6, 7, 8, 9, 10, 11, 12, 13, 14, 15, 16, 17, 18] rfl) rfl hl.1 rfl (Nat.le_of_ble_eq_true rfl) ⟨Nat.zero_le _, Nat.zero_le _⟩ d_X_item_4 (fun r u H locs hp hw => ?_)
  subst hp
  refine gd_ifeq (tgt := 14) hx hb d_X_item_7 (by decide) (fun h7 => ?_) (fun h7 => ?_)
  · have hn2 : mx_n X ≠ 200 := of_decide_eq_false h7
    refine lv_aload_n hx hb d_X_item_14 rfl (lv_at hl 0 rfl) ?_
    refine gd_get (v := .ref (q 0)) i_X cx hw 19 rfl rfl 1 (by decide) tw_104 rfl rfl d_X_item_15 ?_
    refine gd_callVI (As := []) (rest := []) cx hw (c_G_add l D ct _ q X inn ah af la su sr S dr L (by omega)) cv_X_46 ⟨by decide, by decide⟩ ⟨rfl, rfl⟩ [0, 1, 2, 3, 4, 5, 6, 7, 8, 9, 10, 11, 12, 13, 14, 15, 16, 17, 18] rfl rfl 0 2 rfl rfl (gd_jn (w2 := fun _ => wX q ct (mx_n X + 1, va_up (mx_t X) (mx_n X) true, va_up (mx_m X) (mx_n X) 0, mx_p X, mx_a X, mx_v X, mx_f X) (va_up inn (mx_n X) false) ah af la su sr S dr L) hw [0, 1, 2, 3, 4, 5, 6, 7, 8, 9, 10, 11, 12, 13, 14, 15, 16, 17, 18] [19] [1, 2, 3, 4, 5, 6, 7, 8, 9, 10, 11, 12, 13, 14, 15, 16, 17, 18, 19, 0] rfl rfl rfl (by decide) (fun _ => rfl) rfl) rfl hl.1 rfl (Nat.le_of_ble_eq_true rfl) ⟨Nat.zero_le _, Nat.zero_le _⟩ d_X_item_18 (fun r u H locs hp hw => ?_)
    subst hp
    refine hret _ ((mx_n X + 1, va_up (mx_t X) (mx_n X) true, va_up (mx_m X) (mx_n X) 0, mx_p X, mx_a X, mx_v X, mx_f X), va_up inn (mx_n X) false) _ _ _ _ rfl d_X_item_21 (Or.inr ⟨by omega, rfl, ⟨rfl, fun _ => rfl, fun i => ?_, fun i k hk => ⟨rfl, rfl⟩, fun _ _ => ⟨rfl, rfl⟩⟩, rfl⟩) hw
    show va_up (mx_m X) (mx_n X) 0 i = mx_m X i
    by_cases e : i = mx_n X
    · subst e; rw [va_up_self]; exact (hX.out (Nat.le_refl _)).2.symm
    · exact va_up_ne _ _ e
  · refine lv_iconst (v := mx_o none) hx hb d_X_item_10 (by decide) ?_
    refine lv_goto (tgt := 21) hx hb d_X_item_11 (by decide) ?_
    exact hret _ (X, inn) _ _ _ _ rfl d_X_item_21 (Or.inl ⟨of_decide_eq_true h7, rfl, rfl⟩) hw
set_option maxHeartbeats 4000000 in
set_option maxRecDepth 100000 in
/-- GridDesk.net -/
theorem c_X_net (l : Launch) (D : va_G) (ct : Nat → ClassId) (sz : Nat) (q : Nat → Nat) (X : GX) (inn : Nat → Bool) (ah af la : Nat → Option Nat) (su : Nat → Int) (sr : Nat → Int32) (S : List Nat) (dr : Nat → Int32) (L : List Nat) (x y : Int32) (z : Int) (hX : mx_WF X) (hz : mx_fit z) : gd_ctI l y_X_net k_X_net rm_X_net D ct [.ref (q 19), .int x, .int y, .long (mx_l z)] sz (wX q ct X inn ah af la su sr S dr L) (S := GX) (fun r u => r = mx_b (mx_netG X x y z).1 ∧ mx_Rel u (mx_netG X x y z).2) (fun u => wX q ct u inn ah af la su sr S dr L) := by
  refine gd_entI (by decide +kernel) rfl (Nat.le_of_ble_eq_true rfl) (fun p e s m below meth c Q A ls cx hw hl hret => ?_)
  have hx := cx.1
  have hb := cx.2.1
  have hl : lv_has ls 5 [(0, .ref (q 19)), (1, .int x), (2, .int y), (3, .long (mx_l z))] := hl
  have hn := hX.n
  refine lv_aload_n hx hb d_X_net_0 rfl (lv_at hl 0 rfl) ?_
  refine gd_get (v := .ref (q 0)) i_X cx hw 19 rfl rfl 1 (by decide) tw_104 rfl rfl d_X_net_1 ?_
  refine lv_iload_n hx hb d_X_net_4 rfl (lv_at hl 1 rfl) ?_
  refine gd_callVI (As := [.int x]) (rest := []) cx hw (c_G_isThere l D ct _ q X inn ah af la su sr S dr L x hX.n) cv_X_50 ⟨by decide, by decide⟩ ⟨rfl, rfl⟩ [0, 1, 2, 3, 4, 5, 6, 7, 8, 9, 10, 11, 12, 13, 14, 15, 16, 17, 18] rfl rfl 0 2 rfl rfl (gd_jr hw [0, 1, 2, 3, 4, 5, 6, 7, 8, 9, 10, 11, 12, 13, 14, 15, 16, 17, 18] rfl) rfl hl.1 rfl (Nat.le_of_ble_eq_true rfl) ⟨Nat.zero_le _, Nat.zero_le _⟩ d_X_net_5 (fun r u H locs hp hw => ?_)
  subst hp
  refine gd_ifeq (tgt := 28) hx hb d_X_net_8 (by decide) (fun h8 => ?_) (fun h8 => ?_)
  · refine lv_iconst (v := nI 0) hx hb d_X_net_28 (by decide) ?_
    exact hret _ X _ _ _ _ rfl d_X_net_29 (by unfold mx_netG; rw [if_neg (fun h => by rw [h.1] at h8; cases h8)]; exact ⟨rfl, mx_Rel.rf X⟩) hw
  · refine lv_iload_n hx hb d_X_net_11 rfl (lv_at hl 2 rfl) ?_
    refine gd_callSI (As := [.int y]) (rest := []) cx hw (c_X_isPosition l D ct _ y) cs_X_25 ⟨by decide, by decide⟩ ⟨rfl, rfl⟩ rfl hl.1 rfl (Nat.le_of_ble_eq_true rfl) ⟨Nat.zero_le _, Nat.zero_le _⟩ d_X_net_12 (fun r H locs hp hw => ?_)
    subst hp
    refine gd_ifeq (tgt := 28) hx hb d_X_net_15 (by decide) (fun h15 => ?_) (fun h15 => ?_)
    · refine lv_iconst (v := nI 0) hx hb d_X_net_28 (by decide) ?_
      exact hret _ X _ _ _ _ rfl d_X_net_29 (by unfold mx_netG; rw [if_neg (fun h => by rw [h.2.1] at h15; cases h15)]; exact ⟨rfl, mx_Rel.rf X⟩) hw
    · refine lv_lload_n hx hb d_X_net_18 rfl (lv_at hl 3 rfl) ?_
      refine lv_ldc2 (v := mx_l 2000000000000000) hx hb cx.2.2.2.1 (cx.2.2.2.2.1 _ tw_141) d_X_net_19 ?_
      refine gd_callSI (As := [.long (mx_l z), .long (mx_l 2000000000000000)]) (rest := []) cx hw (c_X_isWithin l D ct _ z 2000000000000000 hz (by decide) (by unfold mx_fit; omega)) cs_X_31 ⟨by decide, by decide⟩ ⟨rfl, rfl⟩ rfl hl.1 rfl (Nat.le_of_ble_eq_true rfl) ⟨Nat.zero_le _, Nat.zero_le _⟩ d_X_net_22 (fun r H locs hp hw => ?_)
      subst hp
      refine gd_ifne (tgt := 30) hx hb d_X_net_25 (by decide) (fun h25 => ?_) (fun h25 => ?_)
      · obtain ⟨i, hi, hti, rfl⟩ := mx_isT_of h8
        obtain ⟨j, hj, rfl⟩ := mx_isP_of h15
        have hi3 : i < 200 := by omega
        have hzb := mx_in_iff.mp h25
        have hnb := mx_net_bound hX i j
        have ei : (nI i).toInt.toNat = i := mx_ti (by omega)
        have ej : (nI j).toInt.toNat = j := mx_ti (by omega)
        refine lv_aload_n hx hb d_X_net_30 rfl (lv_at hl 0 rfl) ?_
        refine gd_get (v := .ref (q 0)) i_X cx hw 19 rfl rfl 1 (by decide) tw_104 rfl rfl d_X_net_31 ?_
        refine lv_iload_n hx hb d_X_net_34 rfl (lv_at hl 1 rfl) ?_
        refine lv_iload_n hx hb d_X_net_35 rfl (lv_at hl 2 rfl) ?_
        refine gd_callVL (As := [.int (nI i), .int (nI j)]) (rest := []) cx hw (c_G_netOf l D ct _ q X inn ah af la su sr S dr L i j hX hi3 hj) cv_X_55 ⟨by decide, by decide⟩ ⟨rfl, rfl⟩ [0, 1, 2, 3, 4, 5, 6, 7, 8, 9, 10, 11, 12, 13, 14, 15, 16, 17, 18] rfl rfl 0 2 rfl rfl (gd_jr hw [0, 1, 2, 3, 4, 5, 6, 7, 8, 9, 10, 11, 12, 13, 14, 15, 16, 17, 18] rfl) rfl hl.1 rfl (Nat.le_of_ble_eq_true rfl) ⟨Nat.zero_le _, Nat.zero_le _⟩ d_X_net_36 (fun r u H locs hp hw => ?_)
        subst hp
        refine lv_lload_n hx hb d_X_net_39 rfl (lv_at hl 3 rfl) ?_
        refine gd_ladd hx hb d_X_net_40 ?_
        refine lv_ldc2 (v := mx_l 1000000000000000) hx hb cx.2.2.2.1 (cx.2.2.2.2.1 _ tw_150) d_X_net_41 ?_
        refine gd_callSI (As := [.long (mx_l ((mx_net X i j) + z)), .long (mx_l 1000000000000000)]) (rest := []) cx hw (c_X_isWithin l D ct _ (mx_net X i j + z) 1000000000000000 (by unfold mx_fit; omega) (by decide) (by unfold mx_fit; omega)) cs_X_31 ⟨by decide, by decide⟩ ⟨rfl, rfl⟩ rfl hl.1 rfl (Nat.le_of_ble_eq_true rfl) ⟨Nat.zero_le _, Nat.zero_le _⟩ d_X_net_44 (fun r H locs hp hw => ?_)
        subst hp
        refine gd_ifeq (tgt := 67) hx hb d_X_net_47 (by decide) (fun h47 => ?_) (fun h47 => ?_)
        · refine lv_iconst (v := nI 0) hx hb d_X_net_67 (by decide) ?_
          exact hret _ X _ _ _ _ rfl d_X_net_68 (by unfold mx_netG; rw [if_neg (fun h => by rw [ei, ej] at h; rw [h.2.2.2] at h47; cases h47)]; exact ⟨rfl, mx_Rel.rf X⟩) hw
        · refine lv_aload_n hx hb d_X_net_50 rfl (lv_at hl 0 rfl) ?_
          refine gd_get (v := .ref (q 0)) i_X cx hw 19 rfl rfl 1 (by decide) tw_104 rfl rfl d_X_net_51 ?_
          refine lv_iload_n hx hb d_X_net_54 rfl (lv_at hl 1 rfl) ?_
          refine lv_iload_n hx hb d_X_net_55 rfl (lv_at hl 2 rfl) ?_
          refine lv_lload_n hx hb d_X_net_56 rfl (lv_at hl 3 rfl) ?_
          have h4 := mx_in_iff.mp h47
          have hall : mx_isT X (nI i) = true ∧ mx_isP (nI j) = true ∧ mx_in z 2000000000000000 = true ∧ mx_in (mx_net X (nI i).toInt.toNat (nI j).toInt.toNat + z) 1000000000000000 = true := ⟨h8, h15, h25, by rw [ei, ej]; exact h47⟩
          refine gd_callVI (As := [.int (nI i), .int (nI j), .long (mx_l z)]) (rest := []) cx hw (c_G_net l D ct _ q X inn ah af la su sr S dr L i j z hX hi3 hj hz h4.1 h4.2) cv_X_61 ⟨by decide, by decide⟩ ⟨rfl, rfl⟩ [0, 1, 2, 3, 4, 5, 6, 7, 8, 9, 10, 11, 12, 13, 14, 15, 16, 17, 18] rfl rfl 0 2 rfl rfl (gd_jn (w2 := fun u => wX q ct u inn ah af la su sr S dr L) hw [0, 1, 2, 3, 4, 5, 6, 7, 8, 9, 10, 11, 12, 13, 14, 15, 16, 17, 18] [19] [1, 2, 3, 4, 5, 6, 7, 8, 9, 10, 11, 12, 13, 14, 15, 16, 17, 18, 19, 0] rfl rfl rfl (by decide) (fun _ => rfl) rfl) rfl hl.1 rfl (Nat.le_of_ble_eq_true rfl) ⟨Nat.zero_le _, Nat.zero_le _⟩ d_X_net_57 (fun r u H locs hp hw => ?_)
          obtain ⟨rfl, hp2⟩ := hp
          refine gd_ifeq (tgt := 67) hx hb d_X_net_60 (by decide) (fun h60 => ?_) (fun h60 => ?_)
          · refine lv_iconst (v := nI 0) hx hb d_X_net_67 (by decide) ?_
            exact hret _ u _ _ _ _ rfl d_X_net_68 (by unfold mx_netG; rw [if_pos hall, ei, ej]; exact ⟨by rw [h60]; rfl, hp2⟩) hw
          · refine lv_iconst (v := nI 1) hx hb d_X_net_63 (by decide) ?_
            refine lv_goto (tgt := 68) hx hb d_X_net_64 (by decide) ?_
            exact hret _ u _ _ _ _ rfl d_X_net_68 (by unfold mx_netG; rw [if_pos hall, ei, ej]; exact ⟨by rw [h60]; rfl, hp2⟩) hw
      · refine lv_iconst (v := nI 0) hx hb d_X_net_28 (by decide) ?_
        exact hret _ X _ _ _ _ rfl d_X_net_29 (by unfold mx_netG; rw [if_neg (fun h => by rw [h.2.2.1] at h25; cases h25)]; exact ⟨rfl, mx_Rel.rf X⟩) hw
set_option maxHeartbeats 4000000 in
set_option maxRecDepth 100000 in
/-- GridDesk.go -/
theorem c_X_go (l : Launch) (D : va_G) (ct : Nat → ClassId) (sz : Nat) (q : Nat → Nat) (X : GX) (inn : Nat → Bool) (ah af la : Nat → Option Nat) (su : Nat → Int) (sr : Nat → Int32) (S : List Nat) (dr : Nat → Int32) (L : List Nat) (x : Int32) (hX : mx_WF X) : gd_ctI l y_X_go k_X_go rm_X_go D ct [.ref (q 19), .int x] sz (wX q ct X inn ah af la su sr S dr L) (S := GX) (fun r u => r = mx_b (mx_goF X x).1 ∧ u = (mx_goF X x).2) (fun u => wX q ct u inn ah af la su sr S dr L) := by
  refine gd_entI (by decide +kernel) rfl (Nat.le_of_ble_eq_true rfl) (fun p e s m below meth c Q A ls cx hw hl hret => ?_)
  have hx := cx.1
  have hb := cx.2.1
  have hl : lv_has ls 2 [(0, .ref (q 19)), (1, .int x)] := hl
  have hn := hX.n
  refine lv_aload_n hx hb d_X_go_0 rfl (lv_at hl 0 rfl) ?_
  refine gd_get (v := .ref (q 0)) i_X cx hw 19 rfl rfl 1 (by decide) tw_104 rfl rfl d_X_go_1 ?_
  refine lv_iload_n hx hb d_X_go_4 rfl (lv_at hl 1 rfl) ?_
  refine gd_callVI (As := [.int x]) (rest := []) cx hw (c_G_isThere l D ct _ q X inn ah af la su sr S dr L x hX.n) cv_X_50 ⟨by decide, by decide⟩ ⟨rfl, rfl⟩ [0, 1, 2, 3, 4, 5, 6, 7, 8, 9, 10, 11, 12, 13, 14, 15, 16, 17, 18] rfl rfl 0 2 rfl rfl (gd_jr hw [0, 1, 2, 3, 4, 5, 6, 7, 8, 9, 10, 11, 12, 13, 14, 15, 16, 17, 18] rfl) rfl hl.1 rfl (Nat.le_of_ble_eq_true rfl) ⟨Nat.zero_le _, Nat.zero_le _⟩ d_X_go_5 (fun r u H locs hp hw => ?_)
  subst hp
  refine gd_ifne (tgt := 13) hx hb d_X_go_8 (by decide) (fun h8 => ?_) (fun h8 => ?_)
  · obtain ⟨i, hi, hti, rfl⟩ := mx_isT_of h8
    refine lv_aload_n hx hb d_X_go_13 rfl (lv_at hl 0 rfl) ?_
    refine gd_get (v := .ref (q 0)) i_X cx hw 19 rfl rfl 1 (by decide) tw_104 rfl rfl d_X_go_14 ?_
    refine gd_getN (v := .ref (q 1)) i_G cx hw 0 rfl rfl 2 (by decide) cx.2.2.2.2.2.2.2.2.1 rfl rfl d_X_go_17 ?_
    refine lv_iload_n hx hb d_X_go_20 rfl (lv_at hl 1 rfl) ?_
    refine lv_iconst (v := nI 0) hx hb d_X_go_21 (by decide) ?_
    refine gd_zst (g := fun i9 => mx_b ((va_up (mx_t X) i false) i9)) (wn := wX q ct (mx_n X, va_up (mx_t X) i false, mx_m X, mx_p X, mx_a X, mx_v X, mx_f X) inn ah af la su sr S dr L) cx hw 1 rfl (by omega) (by decide) (gd_hz false (by decide)) rfl d_X_go_22 (fun H locs hw => ?_)
    refine lv_iconst (v := nI 1) hx hb d_X_go_23 (by decide) ?_
    exact hret _ (mx_n X, va_up (mx_t X) i false, mx_m X, mx_p X, mx_a X, mx_v X, mx_f X) _ _ _ _ rfl d_X_go_24 (by unfold mx_goF; rw [if_pos h8, mx_ti (by omega)]; exact ⟨rfl, rfl⟩) hw
  · refine lv_iconst (v := nI 0) hx hb d_X_go_11 (by decide) ?_
    exact hret _ X _ _ _ _ rfl d_X_go_12 (by unfold mx_goF; rw [if_neg (by rw [h8]; decide)]; exact ⟨rfl, rfl⟩) hw
abbrev wXs (q : Nat → Nat) (ct : Nat → ClassId) (X : GX) (u : GS) : va_W := wX q ct X u.1 u.2.1 u.2.2.1 u.2.2.2.1 u.2.2.2.2.1 u.2.2.2.2.2.1 [] u.2.2.2.2.2.2 []
set_option maxHeartbeats 4000000 in
set_option maxRecDepth 100000 in
/-- GridDesk.solve -/
theorem c_X_solve (l : Launch) (D : va_G) (ct : Nat → ClassId) (sz : Nat) (q : Nat → Nat) (X : GX) (inn : Nat → Bool) (ah af la : Nat → Option Nat) (su : Nat → Int) (sr dr : Nat → Int32) (hX : mx_WF X) (hinn : ∀ i, mx_n X ≤ i → inn i = false) : gd_ctI l y_X_solve k_X_solve rm_X_solve D ct [.ref (q 19)] sz (wX q ct X inn ah af la su sr ([]) dr ([])) (S := GS) (fun r u => r = nI (mx_cnt u.1 (mx_n X)) ∧ mx_Sol X u.1 ∧ ∀ po, po < 300 → u.2.2.2.2.1 po = mx_tot X u.1 po) (fun u => wXs q ct X u) := by
  refine gd_entI (by decide +kernel) rfl (Nat.le_of_ble_eq_true rfl) (fun p e s m below meth c Q A ls cx hw hl hret => ?_)
  have hx := cx.1
  have hb := cx.2.1
  have hl : lv_has ls 1 [(0, .ref (q 19))] := hl
  refine lv_aload_n hx hb d_X_solve_0 rfl (lv_at hl 0 rfl) ?_
  refine gd_get (v := .ref (q 0)) i_X cx hw 19 rfl rfl 1 (by decide) tw_104 rfl rfl d_X_solve_1 ?_
  refine gd_callVI (As := []) (rest := []) cx hw (c_G_solve l D ct _ q X inn ah af la su sr dr hX hinn) cv_X_69 ⟨by decide, by decide⟩ ⟨rfl, rfl⟩ [0, 1, 2, 3, 4, 5, 6, 7, 8, 9, 10, 11, 12, 13, 14, 15, 16, 17, 18] rfl rfl 0 2 rfl rfl (gd_jn (w2 := fun u => wXs q ct X u) hw [0, 1, 2, 3, 4, 5, 6, 7, 8, 9, 10, 11, 12, 13, 14, 15, 16, 17, 18] [19] [1, 2, 3, 4, 5, 6, 7, 8, 9, 10, 11, 12, 13, 14, 15, 16, 17, 18, 19, 0] rfl rfl rfl (by decide) (fun _ => rfl) rfl) rfl hl.1 rfl (Nat.le_of_ble_eq_true rfl) ⟨Nat.zero_le _, Nat.zero_le _⟩ d_X_solve_4 (fun r u H locs hp hw => ?_)
  exact hret _ u _ _ _ _ rfl d_X_solve_7 hp hw
set_option maxHeartbeats 4000000 in
set_option maxRecDepth 100000 in
/-- GridDesk.in -/
theorem c_X_in (l : Launch) (D : va_G) (ct : Nat → ClassId) (sz : Nat) (q : Nat → Nat) (X : GX) (inn : Nat → Bool) (ah af la : Nat → Option Nat) (su : Nat → Int) (sr : Nat → Int32) (S : List Nat) (dr : Nat → Int32) (L : List Nat) (x : Int32) (hX : mx_WF X) : gd_ctI l y_X_in k_X_in rm_X_in D ct [.ref (q 19), .int x] sz (wX q ct X inn ah af la su sr S dr L) (S := Unit) (fun r u => r = mx_b (mx_inF (mx_n X) inn x)) (fun u => wX q ct X inn ah af la su sr S dr L) := by
  refine gd_entI (by decide +kernel) rfl (Nat.le_of_ble_eq_true rfl) (fun p e s m below meth c Q A ls cx hw hl hret => ?_)
  have hx := cx.1
  have hb := cx.2.1
  have hl : lv_has ls 2 [(0, .ref (q 19)), (1, .int x)] := hl
  have hn := hX.n
  refine lv_iload_n hx hb d_X_in_0 rfl (lv_at hl 1 rfl) ?_
  refine lv_if_lt (tgt := 31) hx hb d_X_in_1 (by decide) (fun h1 => ?_) (fun h1 => ?_)
  · refine lv_iconst (v := nI 0) hx hb d_X_in_31 (by decide) ?_
    exact hret _ () _ _ _ _ rfl d_X_in_32 (by rw [mx_inF_neg h1]; rfl) hw
  · obtain ⟨j, hj, rfl⟩ := nI_of h1
    refine lv_iload_n hx hb d_X_in_4 rfl (lv_at hl 1 rfl) ?_
    refine lv_aload_n hx hb d_X_in_5 rfl (lv_at hl 0 rfl) ?_
    refine gd_get (v := .ref (q 0)) i_X cx hw 19 rfl rfl 1 (by decide) tw_104 rfl rfl d_X_in_6 ?_
    refine gd_getN (v := .int (nI (mx_n X))) i_G cx hw 0 rfl rfl 13 (by decide) cx.2.2.2.2.2.2.2.2.2.2.2.1 rfl rfl d_X_in_9 ?_
    refine gd_ge (tgt := 31) hx hb d_X_in_12 (by decide) (by omega) (by omega) (fun h12 => ?_) (fun h12 => ?_)
    · refine lv_iconst (v := nI 0) hx hb d_X_in_31 (by decide) ?_
      exact hret _ () _ _ _ _ rfl d_X_in_32 (by rw [mx_inF_nI hj, decide_eq_false (by omega)]; rfl) hw
    · refine lv_aload_n hx hb d_X_in_15 rfl (lv_at hl 0 rfl) ?_
      refine gd_get (v := .ref (q 0)) i_X cx hw 19 rfl rfl 1 (by decide) tw_104 rfl rfl d_X_in_16 ?_
      refine gd_getN (v := .ref (q 2)) i_G cx hw 0 rfl rfl 3 (by decide) cx.2.2.2.2.2.2.2.2.2.1 rfl rfl d_X_in_19 ?_
      refine lv_iload_n hx hb d_X_in_22 rfl (lv_at hl 1 rfl) ?_
      refine gd_zld (v := mx_b (inn j)) cx hw 2 rfl (by omega) (by decide) rfl d_X_in_23 ?_
      refine gd_ifeq (tgt := 31) hx hb d_X_in_24 (by decide) (fun h24 => ?_) (fun h24 => ?_)
      · refine lv_iconst (v := nI 0) hx hb d_X_in_31 (by decide) ?_
        exact hret _ () _ _ _ _ rfl d_X_in_32 (by rw [mx_inF_nI hj, decide_eq_true (by omega), h24]; rfl) hw
      · refine lv_iconst (v := nI 1) hx hb d_X_in_27 (by decide) ?_
        refine lv_goto (tgt := 32) hx hb d_X_in_28 (by decide) ?_
        exact hret _ () _ _ _ _ rfl d_X_in_32 (by rw [mx_inF_nI hj, decide_eq_true (by omega), h24]; rfl) hw
set_option maxHeartbeats 4000000 in
set_option maxRecDepth 100000 in
/-- GridDesk.value -/
theorem c_X_value (l : Launch) (D : va_G) (ct : Nat → ClassId) (sz : Nat) (q : Nat → Nat) (X : GX) (inn : Nat → Bool) (ah af la : Nat → Option Nat) (su : Nat → Int) (sr : Nat → Int32) (S : List Nat) (dr : Nat → Int32) (L : List Nat) (x : Int32) : gd_ctL l y_X_value k_X_value rm_X_value D ct [.ref (q 19), .int x] sz (wX q ct X inn ah af la su sr S dr L) (S := Unit) (fun r u => r = mx_l (mx_vF X x)) (fun u => wX q ct X inn ah af la su sr S dr L) := by
  refine gd_entL (by decide +kernel) rfl (Nat.le_of_ble_eq_true rfl) (fun p e s m below meth c Q A ls cx hw hl hret => ?_)
  have hx := cx.1
  have hb := cx.2.1
  have hl : lv_has ls 2 [(0, .ref (q 19)), (1, .int x)] := hl
  refine lv_iload_n hx hb d_X_value_0 rfl (lv_at hl 1 rfl) ?_
  refine gd_callSI (As := [.int x]) (rest := []) cx hw (c_X_isPosition l D ct _ x) cs_X_25 ⟨by decide, by decide⟩ ⟨rfl, rfl⟩ rfl hl.1 rfl (Nat.le_of_ble_eq_true rfl) ⟨Nat.zero_le _, Nat.zero_le _⟩ d_X_value_1 (fun r H locs hp hw => ?_)
  subst hp
  refine gd_ifeq (tgt := 19) hx hb d_X_value_4 (by decide) (fun h4 => ?_) (fun h4 => ?_)
  · refine lv_lconst (v := mx_l 0) hx hb d_X_value_19 (by decide) ?_
    exact hret _ () _ _ _ _ d_X_value_20 (by unfold mx_vF; rw [if_neg (by rw [h4]; decide)]) hw
  · obtain ⟨j, hj, rfl⟩ := mx_isP_of h4
    refine lv_aload_n hx hb d_X_value_7 rfl (lv_at hl 0 rfl) ?_
    refine gd_get (v := .ref (q 16)) i_X cx hw 19 rfl rfl 0 (by decide) tw_103 rfl rfl d_X_value_8 ?_
    refine gd_getN (v := .ref (q 17)) i_A cx hw 16 rfl rfl 0 (by decide) cx.2.2.2.2.2.2.1 rfl rfl d_X_value_11 ?_
    refine lv_iload_n hx hb d_X_value_14 rfl (lv_at hl 1 rfl) ?_
    refine gd_lld (v := mx_l (mx_v X j)) cx hw 17 rfl (by omega) (by decide) rfl d_X_value_15 ?_
    refine lv_goto (tgt := 20) hx hb d_X_value_16 (by decide) ?_
    exact hret _ () _ _ _ _ d_X_value_20 (by unfold mx_vF; rw [if_pos h4, mx_ti (by omega)]) hw
set_option maxHeartbeats 4000000 in
set_option maxRecDepth 100000 in
/-- GridDesk.netOf -/
theorem c_X_netOf (l : Launch) (D : va_G) (ct : Nat → ClassId) (sz : Nat) (q : Nat → Nat) (X : GX) (inn : Nat → Bool) (ah af la : Nat → Option Nat) (su : Nat → Int) (sr : Nat → Int32) (S : List Nat) (dr : Nat → Int32) (L : List Nat) (x y : Int32) (hX : mx_WF X) : gd_ctL l y_X_netOf k_X_netOf rm_X_netOf D ct [.ref (q 19), .int x, .int y] sz (wX q ct X inn ah af la su sr S dr L) (S := Unit) (fun r u => r = mx_l (mx_nF X x y)) (fun u => wX q ct X inn ah af la su sr S dr L) := by
  refine gd_entL (by decide +kernel) rfl (Nat.le_of_ble_eq_true rfl) (fun p e s m below meth c Q A ls cx hw hl hret => ?_)
  have hx := cx.1
  have hb := cx.2.1
  have hl : lv_has ls 3 [(0, .ref (q 19)), (1, .int x), (2, .int y)] := hl
  have hn := hX.n
  refine lv_aload_n hx hb d_X_netOf_0 rfl (lv_at hl 0 rfl) ?_
  refine gd_get (v := .ref (q 0)) i_X cx hw 19 rfl rfl 1 (by decide) tw_104 rfl rfl d_X_netOf_1 ?_
  refine lv_iload_n hx hb d_X_netOf_4 rfl (lv_at hl 1 rfl) ?_
  refine gd_callVI (As := [.int x]) (rest := []) cx hw (c_G_isThere l D ct _ q X inn ah af la su sr S dr L x hX.n) cv_X_50 ⟨by decide, by decide⟩ ⟨rfl, rfl⟩ [0, 1, 2, 3, 4, 5, 6, 7, 8, 9, 10, 11, 12, 13, 14, 15, 16, 17, 18] rfl rfl 0 2 rfl rfl (gd_jr hw [0, 1, 2, 3, 4, 5, 6, 7, 8, 9, 10, 11, 12, 13, 14, 15, 16, 17, 18] rfl) rfl hl.1 rfl (Nat.le_of_ble_eq_true rfl) ⟨Nat.zero_le _, Nat.zero_le _⟩ d_X_netOf_5 (fun r u H locs hp hw => ?_)
  subst hp
  refine gd_ifeq (tgt := 30) hx hb d_X_netOf_8 (by decide) (fun h8 => ?_) (fun h8 => ?_)
  · refine lv_lconst (v := mx_l 0) hx hb d_X_netOf_30 (by decide) ?_
    exact hret _ () _ _ _ _ d_X_netOf_31 (by unfold mx_nF; rw [if_neg (fun h => by rw [h.1] at h8; cases h8)]) hw
  · refine lv_iload_n hx hb d_X_netOf_11 rfl (lv_at hl 2 rfl) ?_
    refine gd_callSI (As := [.int y]) (rest := []) cx hw (c_X_isPosition l D ct _ y) cs_X_25 ⟨by decide, by decide⟩ ⟨rfl, rfl⟩ rfl hl.1 rfl (Nat.le_of_ble_eq_true rfl) ⟨Nat.zero_le _, Nat.zero_le _⟩ d_X_netOf_12 (fun r H locs hp hw => ?_)
    subst hp
    refine gd_ifeq (tgt := 30) hx hb d_X_netOf_15 (by decide) (fun h15 => ?_) (fun h15 => ?_)
    · refine lv_lconst (v := mx_l 0) hx hb d_X_netOf_30 (by decide) ?_
      exact hret _ () _ _ _ _ d_X_netOf_31 (by unfold mx_nF; rw [if_neg (fun h => by rw [h.2] at h15; cases h15)]) hw
    · have hall : mx_isT X x = true ∧ mx_isP y = true := ⟨h8, h15⟩
      obtain ⟨i, hi, hti, rfl⟩ := mx_isT_of h8
      obtain ⟨j, hj, rfl⟩ := mx_isP_of h15
      have hi3 : i < 200 := by omega
      refine lv_aload_n hx hb d_X_netOf_18 rfl (lv_at hl 0 rfl) ?_
      refine gd_get (v := .ref (q 0)) i_X cx hw 19 rfl rfl 1 (by decide) tw_104 rfl rfl d_X_netOf_19 ?_
      refine lv_iload_n hx hb d_X_netOf_22 rfl (lv_at hl 1 rfl) ?_
      refine lv_iload_n hx hb d_X_netOf_23 rfl (lv_at hl 2 rfl) ?_
      refine gd_callVL (As := [.int (nI i), .int (nI j)]) (rest := []) cx hw (c_G_netOf l D ct _ q X inn ah af la su sr S dr L i j hX hi3 hj) cv_X_55 ⟨by decide, by decide⟩ ⟨rfl, rfl⟩ [0, 1, 2, 3, 4, 5, 6, 7, 8, 9, 10, 11, 12, 13, 14, 15, 16, 17, 18] rfl rfl 0 2 rfl rfl (gd_jr hw [0, 1, 2, 3, 4, 5, 6, 7, 8, 9, 10, 11, 12, 13, 14, 15, 16, 17, 18] rfl) rfl hl.1 rfl (Nat.le_of_ble_eq_true rfl) ⟨Nat.zero_le _, Nat.zero_le _⟩ d_X_netOf_24 (fun r u H locs hp hw => ?_)
      subst hp
      refine lv_goto (tgt := 31) hx hb d_X_netOf_27 (by decide) ?_
      exact hret _ () _ _ _ _ d_X_netOf_31 (by unfold mx_nF; rw [if_pos hall, mx_ti (by omega), mx_ti (by omega)]) hw
set_option maxHeartbeats 4000000 in
set_option maxRecDepth 100000 in
/-- count -/
theorem c_X_count (l : Launch) (D : va_G) (ct : Nat → ClassId) (sz : Nat) (q : Nat → Nat) (X : GX) (inn : Nat → Bool) (ah af la : Nat → Option Nat) (su : Nat → Int) (sr : Nat → Int32) (S : List Nat) (dr : Nat → Int32) (L : List Nat) (x : Int32) (hX : mx_WF X) : gd_ctI l y_X_count k_X_count rm_X_count D ct [.ref (q 19), .int x] sz (wX q ct X inn ah af la su sr S dr L) (S := Unit) (fun r u => r = mx_cF (mx_n X) (mx_cnt (mx_t X) (mx_n X)) (mx_cnt inn (mx_n X)) x) (fun u => wX q ct X inn ah af la su sr S dr L) := by
  refine gd_entI (by decide +kernel) rfl (Nat.le_of_ble_eq_true rfl) (fun p e s m below meth c Q A ls cx hw hl hret => ?_)
  have hx := cx.1
  have hb := cx.2.1
  have hl : lv_has ls 5 [(0, .ref (q 19)), (1, .int x)] := hl
  have hn := hX.n
  have loop : ∀ (d i : Nat), i + d = mx_n X → ∀ (H : Heap) (locs : List Loc) (ls : Array Slot), gd_Ws D A s (wX q ct X inn ah af la su sr S dr L) H locs → lv_has ls 5 [(4, .int (nI i)), (3, .int (nI (mx_cnt inn i))), (2, .int (nI (mx_cnt (mx_t X) i))), (0, .ref (q 19)), (1, .int x)] → W p l e rm_X_count s m [.ref (q 19), .int x].toArray below meth c H locs 0 0 Q (F0 m 7 ls []) := by
    intro d
    induction d with
    | zero =>
      intro i hi H locs ls hw hl
      refine lv_iload hx hb d_X_count_7 (lv_at hl 0 rfl) ?_
      refine lv_aload_n hx hb d_X_count_9 rfl (lv_at hl 3 rfl) ?_
      refine gd_get (v := .ref (q 0)) i_X cx hw 19 rfl rfl 1 (by decide) tw_104 rfl rfl d_X_count_10 ?_
      refine gd_getN (v := .int (nI (mx_n X))) i_G cx hw 0 rfl rfl 13 (by decide) cx.2.2.2.2.2.2.2.2.2.2.2.1 rfl rfl d_X_count_13 ?_
      refine gd_ge (tgt := 67) hx hb d_X_count_16 (by decide) (by omega) (by omega) (fun h16 => ?_) (fun h16 => ?_)
      · have e0 : i = mx_n X := by omega
        refine lv_iload_n hx hb d_X_count_67 rfl (lv_at hl 4 rfl) ?_
        refine lv_if_ne (tgt := 81) hx hb d_X_count_68 (by decide) (fun h68 => ?_) (fun h68 => ?_)
        · refine lv_iload_n hx hb d_X_count_81 rfl (lv_at hl 4 rfl) ?_
          refine lv_iconst (v := nI 1) hx hb d_X_count_82 (by decide) ?_
          refine lv_icmp_ne (tgt := 90) hx hb d_X_count_83 (by decide) (fun h83 => ?_) (fun h83 => ?_)
          · refine lv_iload_n hx hb d_X_count_90 rfl (lv_at hl 4 rfl) ?_
            refine lv_iconst (v := nI 2) hx hb d_X_count_91 (by decide) ?_
            refine lv_icmp_ne (tgt := 99) hx hb d_X_count_92 (by decide) (fun h92 => ?_) (fun h92 => ?_)
            · refine lv_iconst (v := mx_o none) hx hb d_X_count_99 (by decide) ?_
              exact hret _ () _ _ _ _ rfl d_X_count_100 (by unfold mx_cF; rw [if_neg h68, if_neg h83, if_neg h92]) hw
            · refine lv_iload_n hx hb d_X_count_95 rfl (lv_at hl 1 rfl) ?_
              refine lv_goto (tgt := 100) hx hb d_X_count_96 (by decide) ?_
              exact hret _ () _ _ _ _ rfl d_X_count_100 (by unfold mx_cF; rw [if_neg h68, if_neg h83, if_pos h92, e0]) hw
          · refine lv_iload_n hx hb d_X_count_86 rfl (lv_at hl 2 rfl) ?_
            refine lv_goto (tgt := 100) hx hb d_X_count_87 (by decide) ?_
            exact hret _ () _ _ _ _ rfl d_X_count_100 (by unfold mx_cF; rw [if_neg h68, if_pos h83, e0]) hw
        · refine lv_aload_n hx hb d_X_count_71 rfl (lv_at hl 3 rfl) ?_
          refine gd_get (v := .ref (q 0)) i_X cx hw 19 rfl rfl 1 (by decide) tw_104 rfl rfl d_X_count_72 ?_
          refine gd_getN (v := .int (nI (mx_n X))) i_G cx hw 0 rfl rfl 13 (by decide) cx.2.2.2.2.2.2.2.2.2.2.2.1 rfl rfl d_X_count_75 ?_
          refine lv_goto (tgt := 100) hx hb d_X_count_78 (by decide) ?_
          exact hret _ () _ _ _ _ rfl d_X_count_100 (by unfold mx_cF; rw [if_pos h68]) hw
      · omega
    | succ d ih =>
      intro i hi H locs ls hw hl
      refine lv_iload hx hb d_X_count_7 (lv_at hl 0 rfl) ?_
      refine lv_aload_n hx hb d_X_count_9 rfl (lv_at hl 3 rfl) ?_
      refine gd_get (v := .ref (q 0)) i_X cx hw 19 rfl rfl 1 (by decide) tw_104 rfl rfl d_X_count_10 ?_
      refine gd_getN (v := .int (nI (mx_n X))) i_G cx hw 0 rfl rfl 13 (by decide) cx.2.2.2.2.2.2.2.2.2.2.2.1 rfl rfl d_X_count_13 ?_
      refine gd_ge (tgt := 67) hx hb d_X_count_16 (by decide) (by omega) (by omega) (fun h16 => ?_) (fun h16 => ?_)
      · omega
      · refine lv_iload_n hx hb d_X_count_19 rfl (lv_at hl 2 rfl) ?_
        refine lv_aload_n hx hb d_X_count_20 rfl (lv_at hl 3 rfl) ?_
        refine gd_get (v := .ref (q 0)) i_X cx hw 19 rfl rfl 1 (by decide) tw_104 rfl rfl d_X_count_21 ?_
        refine gd_getN (v := .ref (q 1)) i_G cx hw 0 rfl rfl 2 (by decide) cx.2.2.2.2.2.2.2.2.1 rfl rfl d_X_count_24 ?_
        refine lv_iload hx hb d_X_count_27 (lv_at hl 0 rfl) ?_
        refine gd_zld (v := mx_b (mx_t X i)) cx hw 1 rfl (by omega) (by decide) rfl d_X_count_29 ?_
        refine gd_ifeq (tgt := 37) hx hb d_X_count_30 (by decide) (fun h30 => ?_) (fun h30 => ?_)
        · refine lv_iconst (v := nI 0) hx hb d_X_count_37 (by decide) ?_
          refine gd_iadd hx hb d_X_count_38 ?_
          refine lv_istore_n (lv' := [(2, .int (nI ((mx_cnt (mx_t X) i) + 0))), (4, .int (nI i)), (3, .int (nI (mx_cnt inn i))), (0, .ref (q 19)), (1, .int x)]) hx hb d_X_count_39 rfl hl (by decide) rfl (fun ls hl => ?_)
          refine lv_iload_n hx hb d_X_count_40 rfl (lv_at hl 2 rfl) ?_
          refine lv_aload_n hx hb d_X_count_41 rfl (lv_at hl 3 rfl) ?_
          refine gd_get (v := .ref (q 0)) i_X cx hw 19 rfl rfl 1 (by decide) tw_104 rfl rfl d_X_count_42 ?_
          refine gd_getN (v := .ref (q 2)) i_G cx hw 0 rfl rfl 3 (by decide) cx.2.2.2.2.2.2.2.2.2.1 rfl rfl d_X_count_45 ?_
          refine lv_iload hx hb d_X_count_48 (lv_at hl 1 rfl) ?_
          refine gd_zld (v := mx_b (inn i)) cx hw 2 rfl (by omega) (by decide) rfl d_X_count_50 ?_
          refine gd_ifeq (tgt := 58) hx hb d_X_count_51 (by decide) (fun h51 => ?_) (fun h51 => ?_)
          · refine lv_iconst (v := nI 0) hx hb d_X_count_58 (by decide) ?_
            refine gd_iadd hx hb d_X_count_59 ?_
            refine lv_istore_n (lv' := [(3, .int (nI ((mx_cnt inn i) + 0))), (2, .int (nI ((mx_cnt (mx_t X) i) + 0))), (4, .int (nI i)), (0, .ref (q 19)), (1, .int x)]) hx hb d_X_count_60 rfl hl (by decide) rfl (fun ls hl => ?_)
            refine lv_iinc (v := nI (i + 1)) (lv' := [(4, .int (nI (i + 1))), (3, .int (nI ((mx_cnt inn i) + 0))), (2, .int (nI ((mx_cnt (mx_t X) i) + 0))), (0, .ref (q 19)), (1, .int x)]) hx hb d_X_count_61 hl (k := 2) rfl (gd_inc1 _) (by decide) rfl (fun ls hl => ?_)
            refine lv_goto (tgt := 7) hx hb d_X_count_64 (by decide) ?_
            have e1 : mx_cnt (mx_t X) (i + 1) = (mx_cnt (mx_t X) i) + 0 := by
              show mx_cnt (mx_t X) i + (if mx_t X i = true then 1 else 0) = _
              rw [if_neg (by rw [h30]; decide)]
            have e2 : mx_cnt inn (i + 1) = (mx_cnt inn i) + 0 := by
              show mx_cnt inn i + (if inn i = true then 1 else 0) = _
              rw [if_neg (by rw [h51]; decide)]
            exact ih (i + 1) (by omega) H locs ls hw (by rw [e1, e2]; exact lv_sub hl [0, 1, 2, 3, 4] rfl)
          · refine lv_iconst (v := nI 1) hx hb d_X_count_54 (by decide) ?_
            refine lv_goto (tgt := 59) hx hb d_X_count_55 (by decide) ?_
            refine gd_iadd hx hb d_X_count_59 ?_
            refine lv_istore_n (lv' := [(3, .int (nI ((mx_cnt inn i) + 1))), (2, .int (nI ((mx_cnt (mx_t X) i) + 0))), (4, .int (nI i)), (0, .ref (q 19)), (1, .int x)]) hx hb d_X_count_60 rfl hl (by decide) rfl (fun ls hl => ?_)
            refine lv_iinc (v := nI (i + 1)) (lv' := [(4, .int (nI (i + 1))), (3, .int (nI ((mx_cnt inn i) + 1))), (2, .int (nI ((mx_cnt (mx_t X) i) + 0))), (0, .ref (q 19)), (1, .int x)]) hx hb d_X_count_61 hl (k := 2) rfl (gd_inc1 _) (by decide) rfl (fun ls hl => ?_)
            refine lv_goto (tgt := 7) hx hb d_X_count_64 (by decide) ?_
            have e1 : mx_cnt (mx_t X) (i + 1) = (mx_cnt (mx_t X) i) + 0 := by
              show mx_cnt (mx_t X) i + (if mx_t X i = true then 1 else 0) = _
              rw [if_neg (by rw [h30]; decide)]
            have e2 : mx_cnt inn (i + 1) = (mx_cnt inn i) + 1 := by
              show mx_cnt inn i + (if inn i = true then 1 else 0) = _
              rw [if_pos h51]
            exact ih (i + 1) (by omega) H locs ls hw (by rw [e1, e2]; exact lv_sub hl [0, 1, 2, 3, 4] rfl)
        · refine lv_iconst (v := nI 1) hx hb d_X_count_33 (by decide) ?_
          refine lv_goto (tgt := 38) hx hb d_X_count_34 (by decide) ?_
          refine gd_iadd hx hb d_X_count_38 ?_
          refine lv_istore_n (lv' := [(2, .int (nI ((mx_cnt (mx_t X) i) + 1))), (4, .int (nI i)), (3, .int (nI (mx_cnt inn i))), (0, .ref (q 19)), (1, .int x)]) hx hb d_X_count_39 rfl hl (by decide) rfl (fun ls hl => ?_)
          refine lv_iload_n hx hb d_X_count_40 rfl (lv_at hl 2 rfl) ?_
          refine lv_aload_n hx hb d_X_count_41 rfl (lv_at hl 3 rfl) ?_
          refine gd_get (v := .ref (q 0)) i_X cx hw 19 rfl rfl 1 (by decide) tw_104 rfl rfl d_X_count_42 ?_
          refine gd_getN (v := .ref (q 2)) i_G cx hw 0 rfl rfl 3 (by decide) cx.2.2.2.2.2.2.2.2.2.1 rfl rfl d_X_count_45 ?_
          refine lv_iload hx hb d_X_count_48 (lv_at hl 1 rfl) ?_
          refine gd_zld (v := mx_b (inn i)) cx hw 2 rfl (by omega) (by decide) rfl d_X_count_50 ?_
          refine gd_ifeq (tgt := 58) hx hb d_X_count_51 (by decide) (fun h51 => ?_) (fun h51 => ?_)
          · refine lv_iconst (v := nI 0) hx hb d_X_count_58 (by decide) ?_
            refine gd_iadd hx hb d_X_count_59 ?_
            refine lv_istore_n (lv' := [(3, .int (nI ((mx_cnt inn i) + 0))), (2, .int (nI ((mx_cnt (mx_t X) i) + 1))), (4, .int (nI i)), (0, .ref (q 19)), (1, .int x)]) hx hb d_X_count_60 rfl hl (by decide) rfl (fun ls hl => ?_)
            refine lv_iinc (v := nI (i + 1)) (lv' := [(4, .int (nI (i + 1))), (3, .int (nI ((mx_cnt inn i) + 0))), (2, .int (nI ((mx_cnt (mx_t X) i) + 1))), (0, .ref (q 19)), (1, .int x)]) hx hb d_X_count_61 hl (k := 2) rfl (gd_inc1 _) (by decide) rfl (fun ls hl => ?_)
            refine lv_goto (tgt := 7) hx hb d_X_count_64 (by decide) ?_
            have e1 : mx_cnt (mx_t X) (i + 1) = (mx_cnt (mx_t X) i) + 1 := by
              show mx_cnt (mx_t X) i + (if mx_t X i = true then 1 else 0) = _
              rw [if_pos h30]
            have e2 : mx_cnt inn (i + 1) = (mx_cnt inn i) + 0 := by
              show mx_cnt inn i + (if inn i = true then 1 else 0) = _
              rw [if_neg (by rw [h51]; decide)]
            exact ih (i + 1) (by omega) H locs ls hw (by rw [e1, e2]; exact lv_sub hl [0, 1, 2, 3, 4] rfl)
          · refine lv_iconst (v := nI 1) hx hb d_X_count_54 (by decide) ?_
            refine lv_goto (tgt := 59) hx hb d_X_count_55 (by decide) ?_
            refine gd_iadd hx hb d_X_count_59 ?_
            refine lv_istore_n (lv' := [(3, .int (nI ((mx_cnt inn i) + 1))), (2, .int (nI ((mx_cnt (mx_t X) i) + 1))), (4, .int (nI i)), (0, .ref (q 19)), (1, .int x)]) hx hb d_X_count_60 rfl hl (by decide) rfl (fun ls hl => ?_)
            refine lv_iinc (v := nI (i + 1)) (lv' := [(4, .int (nI (i + 1))), (3, .int (nI ((mx_cnt inn i) + 1))), (2, .int (nI ((mx_cnt (mx_t X) i) + 1))), (0, .ref (q 19)), (1, .int x)]) hx hb d_X_count_61 hl (k := 2) rfl (gd_inc1 _) (by decide) rfl (fun ls hl => ?_)
            refine lv_goto (tgt := 7) hx hb d_X_count_64 (by decide) ?_
            have e1 : mx_cnt (mx_t X) (i + 1) = (mx_cnt (mx_t X) i) + 1 := by
              show mx_cnt (mx_t X) i + (if mx_t X i = true then 1 else 0) = _
              rw [if_pos h30]
            have e2 : mx_cnt inn (i + 1) = (mx_cnt inn i) + 1 := by
              show mx_cnt inn i + (if inn i = true then 1 else 0) = _
              rw [if_pos h51]
            exact ih (i + 1) (by omega) H locs ls hw (by rw [e1, e2]; exact lv_sub hl [0, 1, 2, 3, 4] rfl)
  refine lv_iconst (v := nI 0) hx hb d_X_count_0 (by decide) ?_
  refine lv_istore_n (lv' := [(2, .int (nI 0)), (0, .ref (q 19)), (1, .int x)]) hx hb d_X_count_1 rfl hl (by decide) rfl (fun ls hl => ?_)
  refine lv_iconst (v := nI 0) hx hb d_X_count_2 (by decide) ?_
  refine lv_istore_n (lv' := [(3, .int (nI 0)), (2, .int (nI 0)), (0, .ref (q 19)), (1, .int x)]) hx hb d_X_count_3 rfl hl (by decide) rfl (fun ls hl => ?_)
  refine lv_iconst (v := nI 0) hx hb d_X_count_4 (by decide) ?_
  refine lv_istore (lv' := [(4, .int (nI 0)), (3, .int (nI 0)), (2, .int (nI 0)), (0, .ref (q 19)), (1, .int x)]) hx hb d_X_count_5 hl (by decide) rfl (fun ls hl => ?_)
  exact loop (mx_n X) 0 (by omega) _ _ ls hw (lv_sub hl [0, 1, 2, 3, 4] rfl)
end
section
def mx_PfP (X : GX) (r : Int32) (inn : Nat → Bool) (X2 : GX) : Prop := ((∃ po, po < 300 ∧ 1000000000000000000 < mx_tot X inn po) ∧ r = mx_o none ∧ X2 = X) ∨ ((∀ po, po < 300 → mx_tot X inn po ≤ 1000000000000000000) ∧ r = nI (mx_cnt inn (mx_n X)) ∧ mx_Pf X inn X2)
set_option maxHeartbeats 4000000 in
set_option maxRecDepth 100000 in
/-- GridDesk.perform -/
theorem c_X_perform (l : Launch) (D : va_G) (ct : Nat → ClassId) (sz : Nat) (q : Nat → Nat) (X : GX) (inn : Nat → Bool) (ah af la : Nat → Option Nat) (su : Nat → Int) (sr dr : Nat → Int32) (hX : mx_WF X) (hinn : ∀ i, mx_n X ≤ i → inn i = false) : gd_ctI l y_X_perform k_X_perform rm_X_perform D ct [.ref (q 19)] sz (wX q ct X inn ah af la su sr ([]) dr ([])) (S := (GS × GX)) (fun r u => mx_Sol X u.1.1 ∧ mx_PfP X r u.1.1 u.2) (fun u => wXs q ct u.2 u.1) := by
  refine gd_entI (by decide +kernel) rfl (Nat.le_of_ble_eq_true rfl) (fun p e s m below meth c Q A ls cx hw hl hret => ?_)
  have hx := cx.1
  have hb := cx.2.1
  have hl : lv_has ls 7 [(0, .ref (q 19))] := hl
  have hn := hX.n
  refine lv_aload_n hx hb d_X_perform_0 rfl (lv_at hl 0 rfl) ?_
  refine gd_get (v := .ref (q 0)) i_X cx hw 19 rfl rfl 1 (by decide) tw_104 rfl rfl d_X_perform_1 ?_
  refine gd_callVI (As := []) (rest := []) cx hw (c_G_solve l D ct _ q X inn ah af la su sr dr hX hinn) cv_X_69 ⟨by decide, by decide⟩ ⟨rfl, rfl⟩ [0, 1, 2, 3, 4, 5, 6, 7, 8, 9, 10, 11, 12, 13, 14, 15, 16, 17, 18] rfl rfl 0 2 rfl rfl (gd_jn (w2 := fun u => wXs q ct X u) hw [0, 1, 2, 3, 4, 5, 6, 7, 8, 9, 10, 11, 12, 13, 14, 15, 16, 17, 18] [19] [1, 2, 3, 4, 5, 6, 7, 8, 9, 10, 11, 12, 13, 14, 15, 16, 17, 18, 19, 0] rfl rfl rfl (by decide) (fun _ => rfl) rfl) rfl hl.1 rfl (Nat.le_of_ble_eq_true rfl) ⟨Nat.zero_le _, Nat.zero_le _⟩ d_X_perform_4 (fun r u H locs hp hw => ?_)
  obtain ⟨inn2, ah2, af2, la2, su2, sr2, dr2⟩ := u
  obtain ⟨rfl, hSol, hsu⟩ := hp
  have hSol : mx_Sol X inn2 := hSol
  have hsu : ∀ po, po < 300 → su2 po = mx_tot X inn2 po := hsu
  have loop3 : ∀ (v2 : Nat → Int), (∀ j, j < 300 → v2 j = su2 j) → (∀ j, j < 300 → su2 j ≤ 1000000000000000000) → ∀ (d i : Nat), i + d = mx_n X → ∀ (t2 : Nat → Bool), (∀ j, j < i → t2 j = (mx_t X j && !inn2 j)) → (∀ j, i ≤ j → t2 j = mx_t X j) → ∀ (H : Heap) (locs : List Loc) (ls : Array Slot), gd_Ws D A s (wX q ct (mx_n X, t2, mx_m X, mx_p X, mx_a X, v2, mx_f X) inn2 ah2 af2 la2 su2 sr2 ([]) dr2 ([])) H locs → lv_has ls 7 [(2, .int (nI i)), (1, .int (nI (mx_cnt inn2 (mx_n X)))), (0, .ref (q 19))] → W p l e rm_X_perform s m [.ref (q 19)].toArray below meth c H locs 0 0 Q (F0 m 86 ls []) := by
    intro v2 hv2 hle d
    induction d with
    | zero =>
      intro i hi t2 ht1 ht2 H locs ls hw hl
      refine lv_iload_n hx hb d_X_perform_86 rfl (lv_at hl 0 rfl) ?_
      refine lv_aload_n hx hb d_X_perform_87 rfl (lv_at hl 2 rfl) ?_
      refine gd_get (v := .ref (q 0)) i_X cx hw 19 rfl rfl 1 (by decide) tw_104 rfl rfl d_X_perform_88 ?_
      refine gd_getN (v := .int (nI (mx_n X))) i_G cx hw 0 rfl rfl 13 (by decide) cx.2.2.2.2.2.2.2.2.2.2.2.1 rfl rfl d_X_perform_91 ?_
      refine gd_ge (tgt := 141) hx hb d_X_perform_94 (by decide) (by omega) (by omega) (fun h94 => ?_) (fun h94 => ?_)
      · refine lv_iload_n hx hb d_X_perform_141 rfl (lv_at hl 1 rfl) ?_
        exact hret _ ((inn2, ah2, af2, la2, su2, sr2, dr2), (mx_n X, t2, mx_m X, mx_p X, mx_a X, v2, mx_f X)) _ _ _ _ rfl d_X_perform_142 ⟨hSol, Or.inr ⟨fun po hpo => by rw [← hsu po hpo]; exact hle po hpo, rfl, rfl, fun j => by
          by_cases h : j < mx_n X
          · exact ht1 j (by omega)
          · show t2 j = _
            rw [ht2 j (by omega), (hX.out (by omega)).1]; rfl, fun _ => rfl, fun _ _ _ => ⟨rfl, rfl⟩, fun po hpo => ⟨(hv2 po hpo).trans (hsu po hpo), rfl⟩⟩⟩ hw
      · omega
    | succ d ih =>
      intro i hi t2 ht1 ht2 H locs ls hw hl
      refine lv_iload_n hx hb d_X_perform_86 rfl (lv_at hl 0 rfl) ?_
      refine lv_aload_n hx hb d_X_perform_87 rfl (lv_at hl 2 rfl) ?_
      refine gd_get (v := .ref (q 0)) i_X cx hw 19 rfl rfl 1 (by decide) tw_104 rfl rfl d_X_perform_88 ?_
      refine gd_getN (v := .int (nI (mx_n X))) i_G cx hw 0 rfl rfl 13 (by decide) cx.2.2.2.2.2.2.2.2.2.2.2.1 rfl rfl d_X_perform_91 ?_
      refine gd_ge (tgt := 141) hx hb d_X_perform_94 (by decide) (by omega) (by omega) (fun h94 => ?_) (fun h94 => ?_)
      · omega
      · have et : t2 i = mx_t X i := ht2 i (Nat.le_refl _)
        refine lv_aload_n hx hb d_X_perform_97 rfl (lv_at hl 2 rfl) ?_
        refine gd_get (v := .ref (q 0)) i_X cx hw 19 rfl rfl 1 (by decide) tw_104 rfl rfl d_X_perform_98 ?_
        refine gd_getN (v := .ref (q 1)) i_G cx hw 0 rfl rfl 2 (by decide) cx.2.2.2.2.2.2.2.2.1 rfl rfl d_X_perform_101 ?_
        refine lv_iload_n hx hb d_X_perform_104 rfl (lv_at hl 0 rfl) ?_
        refine lv_aload_n hx hb d_X_perform_105 rfl (lv_at hl 2 rfl) ?_
        refine gd_get (v := .ref (q 0)) i_X cx hw 19 rfl rfl 1 (by decide) tw_104 rfl rfl d_X_perform_106 ?_
        refine gd_getN (v := .ref (q 1)) i_G cx hw 0 rfl rfl 2 (by decide) cx.2.2.2.2.2.2.2.2.1 rfl rfl d_X_perform_109 ?_
        refine lv_iload_n hx hb d_X_perform_112 rfl (lv_at hl 0 rfl) ?_
        refine gd_zld (v := mx_b (t2 i)) cx hw 1 rfl (by omega) (by decide) rfl d_X_perform_113 ?_
        refine gd_ifeq (tgt := 133) hx hb d_X_perform_114 (by decide) (fun h114 => ?_) (fun h114 => ?_)
        · refine lv_iconst (v := nI 0) hx hb d_X_perform_133 (by decide) ?_
          refine gd_zst (g := fun i9 => mx_b (va_up t2 i false i9)) (wn := wX q ct (mx_n X, va_up t2 i false, mx_m X, mx_p X, mx_a X, v2, mx_f X) inn2 ah2 af2 la2 su2 sr2 ([]) dr2 ([])) cx hw 1 rfl (by omega) (by decide) (gd_hz false (by decide)) rfl d_X_perform_134 (fun H locs hw => ?_)
          refine lv_iinc (v := nI (i + 1)) (lv' := [(2, .int (nI (i + 1))), (1, .int (nI (mx_cnt inn2 (mx_n X)))), (0, .ref (q 19))]) hx hb d_X_perform_135 hl (k := 0) rfl (gd_inc1 _) (by decide) rfl (fun ls hl => ?_)
          refine lv_goto (tgt := 86) hx hb d_X_perform_138 (by decide) ?_
          exact ih (i + 1) (by omega) _ (fun j hj => by
            by_cases e : j = i
            · subst e; rw [va_up_self, ← et, h114]; rfl
            · rw [va_up_ne _ _ e]; exact ht1 j (by omega)) (fun j hj => by rw [va_up_ne _ _ (by omega)]; exact ht2 j (by omega)) H locs ls hw (lv_sub hl [0, 1, 2] rfl)
        · refine lv_aload_n hx hb d_X_perform_117 rfl (lv_at hl 2 rfl) ?_
          refine gd_get (v := .ref (q 0)) i_X cx hw 19 rfl rfl 1 (by decide) tw_104 rfl rfl d_X_perform_118 ?_
          refine gd_getN (v := .ref (q 2)) i_G cx hw 0 rfl rfl 3 (by decide) cx.2.2.2.2.2.2.2.2.2.1 rfl rfl d_X_perform_121 ?_
          refine lv_iload_n hx hb d_X_perform_124 rfl (lv_at hl 0 rfl) ?_
          refine gd_zld (v := mx_b (inn2 i)) cx hw 2 rfl (by omega) (by decide) rfl d_X_perform_125 ?_
          refine gd_ifne (tgt := 133) hx hb d_X_perform_126 (by decide) (fun h126 => ?_) (fun h126 => ?_)
          · refine lv_iconst (v := nI 0) hx hb d_X_perform_133 (by decide) ?_
            refine gd_zst (g := fun i9 => mx_b (va_up t2 i false i9)) (wn := wX q ct (mx_n X, va_up t2 i false, mx_m X, mx_p X, mx_a X, v2, mx_f X) inn2 ah2 af2 la2 su2 sr2 ([]) dr2 ([])) cx hw 1 rfl (by omega) (by decide) (gd_hz false (by decide)) rfl d_X_perform_134 (fun H locs hw => ?_)
            refine lv_iinc (v := nI (i + 1)) (lv' := [(2, .int (nI (i + 1))), (1, .int (nI (mx_cnt inn2 (mx_n X)))), (0, .ref (q 19))]) hx hb d_X_perform_135 hl (k := 0) rfl (gd_inc1 _) (by decide) rfl (fun ls hl => ?_)
            refine lv_goto (tgt := 86) hx hb d_X_perform_138 (by decide) ?_
            exact ih (i + 1) (by omega) _ (fun j hj => by
              by_cases e : j = i
              · subst e; rw [va_up_self, h126]; simp
              · rw [va_up_ne _ _ e]; exact ht1 j (by omega)) (fun j hj => by rw [va_up_ne _ _ (by omega)]; exact ht2 j (by omega)) H locs ls hw (lv_sub hl [0, 1, 2] rfl)
          · refine lv_iconst (v := nI 1) hx hb d_X_perform_129 (by decide) ?_
            refine lv_goto (tgt := 134) hx hb d_X_perform_130 (by decide) ?_
            refine gd_zst (g := fun i9 => mx_b (va_up t2 i true i9)) (wn := wX q ct (mx_n X, va_up t2 i true, mx_m X, mx_p X, mx_a X, v2, mx_f X) inn2 ah2 af2 la2 su2 sr2 ([]) dr2 ([])) cx hw 1 rfl (by omega) (by decide) (gd_hz true (by decide)) rfl d_X_perform_134 (fun H locs hw => ?_)
            refine lv_iinc (v := nI (i + 1)) (lv' := [(2, .int (nI (i + 1))), (1, .int (nI (mx_cnt inn2 (mx_n X)))), (0, .ref (q 19))]) hx hb d_X_perform_135 hl (k := 0) rfl (gd_inc1 _) (by decide) rfl (fun ls hl => ?_)
            refine lv_goto (tgt := 86) hx hb d_X_perform_138 (by decide) ?_
            exact ih (i + 1) (by omega) _ (fun j hj => by
              by_cases e : j = i
              · subst e; rw [va_up_self, ← et, h114, h126]; rfl
              · rw [va_up_ne _ _ e]; exact ht1 j (by omega)) (fun j hj => by rw [va_up_ne _ _ (by omega)]; exact ht2 j (by omega)) H locs ls hw (lv_sub hl [0, 1, 2] rfl)
  have loop2 : (∀ j, j < 300 → su2 j ≤ 1000000000000000000) → ∀ (d k : Nat), k + d = 300 → ∀ (v2 : Nat → Int), (∀ j, j < k → v2 j = su2 j) → ∀ (H : Heap) (locs : List Loc) (ls : Array Slot), gd_Ws D A s (wX q ct (mx_n X, mx_t X, mx_m X, mx_p X, mx_a X, v2, mx_f X) inn2 ah2 af2 la2 su2 sr2 ([]) dr2 ([])) H locs → lv_has ls 7 [(2, .int (nI k)), (1, .int (nI (mx_cnt inn2 (mx_n X)))), (0, .ref (q 19))] → W p l e rm_X_perform s m [.ref (q 19)].toArray below meth c H locs 0 0 Q (F0 m 53 ls []) := by
    intro hle d
    induction d with
    | zero =>
      intro k hk v2 hv2 H locs ls hw hl
      refine lv_iload_n hx hb d_X_perform_53 rfl (lv_at hl 0 rfl) ?_
      refine lv_sipush (v := nI 300) hx hb d_X_perform_54 (by decide) ?_
      refine gd_ge (tgt := 84) hx hb d_X_perform_57 (by decide) (by omega) (by omega) (fun h57 => ?_) (fun h57 => ?_)
      · refine lv_iconst (v := nI 0) hx hb d_X_perform_84 (by decide) ?_
        refine lv_istore_n (lv' := [(2, .int (nI 0)), (1, .int (nI (mx_cnt inn2 (mx_n X)))), (0, .ref (q 19))]) hx hb d_X_perform_85 rfl hl (by decide) rfl (fun ls hl => ?_)
        exact loop3 v2 (fun j hj => hv2 j (by omega)) hle (mx_n X) 0 (by omega) (mx_t X) (fun j hj => by omega) (fun j hj => rfl) H locs ls hw (lv_sub hl [0, 1, 2] rfl)
      · omega
    | succ d ih =>
      intro k hk v2 hv2 H locs ls hw hl
      refine lv_iload_n hx hb d_X_perform_53 rfl (lv_at hl 0 rfl) ?_
      refine lv_sipush (v := nI 300) hx hb d_X_perform_54 (by decide) ?_
      refine gd_ge (tgt := 84) hx hb d_X_perform_57 (by decide) (by omega) (by omega) (fun h57 => ?_) (fun h57 => ?_)
      · omega
      · refine lv_aload_n hx hb d_X_perform_60 rfl (lv_at hl 2 rfl) ?_
        refine gd_get (v := .ref (q 16)) i_X cx hw 19 rfl rfl 0 (by decide) tw_103 rfl rfl d_X_perform_61 ?_
        refine gd_getN (v := .ref (q 17)) i_A cx hw 16 rfl rfl 0 (by decide) cx.2.2.2.2.2.2.1 rfl rfl d_X_perform_64 ?_
        refine lv_iload_n hx hb d_X_perform_67 rfl (lv_at hl 0 rfl) ?_
        refine lv_aload_n hx hb d_X_perform_68 rfl (lv_at hl 2 rfl) ?_
        refine gd_get (v := .ref (q 0)) i_X cx hw 19 rfl rfl 1 (by decide) tw_104 rfl rfl d_X_perform_69 ?_
        refine gd_getN (v := .ref (q 9)) i_G cx hw 0 rfl rfl 10 (by decide) cx.2.2.2.2.2.2.2.2.2.2.1 rfl rfl d_X_perform_72 ?_
        refine lv_iload_n hx hb d_X_perform_75 rfl (lv_at hl 0 rfl) ?_
        refine gd_lld (v := mx_l (su2 k)) cx hw 9 rfl (by omega) (by decide) rfl d_X_perform_76 ?_
        refine gd_lst (g := fun i9 => mx_l ((va_up v2 k (su2 k)) i9)) (wn := wX q ct (mx_n X, mx_t X, mx_m X, mx_p X, mx_a X, va_up v2 k (su2 k), mx_f X) inn2 ah2 af2 la2 su2 sr2 ([]) dr2 ([])) cx hw 17 rfl (by omega) (by decide) (gd_hl (su2 k)) rfl d_X_perform_77 (fun H locs hw => ?_)
        refine lv_iinc (v := nI (k + 1)) (lv' := [(2, .int (nI (k + 1))), (1, .int (nI (mx_cnt inn2 (mx_n X)))), (0, .ref (q 19))]) hx hb d_X_perform_78 hl (k := 0) rfl (gd_inc1 _) (by decide) rfl (fun ls hl => ?_)
        refine lv_goto (tgt := 53) hx hb d_X_perform_81 (by decide) ?_
        exact ih (k + 1) (by omega) _ (fun j hj => by
          by_cases e : j = k
          · subst e; exact va_up_self _ _ _
          · rw [va_up_ne _ _ e]; exact hv2 j (by omega)) H locs ls hw (lv_sub hl [0, 1, 2] rfl)
  have loop1 : ∀ (d k : Nat), k + d = 300 → (∀ j, j < k → su2 j ≤ 1000000000000000000) → ∀ (H : Heap) (locs : List Loc) (ls : Array Slot), gd_Ws D A s (wX q ct X inn2 ah2 af2 la2 su2 sr2 ([]) dr2 ([])) H locs → lv_has ls 7 [(4, .int (nI k)), (3, .int (nI 300)), (2, .ref (q 9)), (1, .int (nI (mx_cnt inn2 (mx_n X)))), (0, .ref (q 19))] → W p l e rm_X_perform s m [.ref (q 19)].toArray below meth c H locs 0 0 Q (F0 m 22 ls []) := by
    intro d
    induction d with
    | zero =>
      intro k hk hle H locs ls hw hl
      refine lv_iload hx hb d_X_perform_22 (lv_at hl 0 rfl) ?_
      refine lv_iload_n hx hb d_X_perform_24 rfl (lv_at hl 1 rfl) ?_
      refine gd_ge (tgt := 51) hx hb d_X_perform_25 (by decide) (by omega) (by omega) (fun h25 => ?_) (fun h25 => ?_)
      · refine lv_iconst (v := nI 0) hx hb d_X_perform_51 (by decide) ?_
        refine lv_istore_n (lv' := [(2, .int (nI 0)), (4, .int (nI k)), (3, .int (nI 300)), (1, .int (nI (mx_cnt inn2 (mx_n X)))), (0, .ref (q 19))]) hx hb d_X_perform_52 rfl hl (by decide) rfl (fun ls hl => ?_)
        exact loop2 (fun j hj => hle j (by omega)) 300 0 (by omega) (mx_v X) (fun j hj => by omega) H locs ls hw (lv_sub hl [0, 3, 4] rfl)
      · omega
    | succ d ih =>
      intro k hk hle H locs ls hw hl
      refine lv_iload hx hb d_X_perform_22 (lv_at hl 0 rfl) ?_
      refine lv_iload_n hx hb d_X_perform_24 rfl (lv_at hl 1 rfl) ?_
      refine gd_ge (tgt := 51) hx hb d_X_perform_25 (by decide) (by omega) (by omega) (fun h25 => ?_) (fun h25 => ?_)
      · omega
      · have hfit : mx_fit (su2 k) := by
          rw [hsu k (by omega)]
          have := mx_tot_fit hX inn2 (p := k) (by omega)
          unfold mx_fit; omega
        refine lv_aload_n hx hb d_X_perform_28 rfl (lv_at hl 2 rfl) ?_
        refine lv_iload hx hb d_X_perform_29 (lv_at hl 0 rfl) ?_
        refine gd_lld (v := mx_l (su2 k)) cx hw 9 rfl (by omega) (by decide) rfl d_X_perform_31 ?_
        refine lv_lstore (lv' := [(5, .long (mx_l (su2 k))), (4, .int (nI k)), (3, .int (nI 300)), (2, .ref (q 9)), (1, .int (nI (mx_cnt inn2 (mx_n X)))), (0, .ref (q 19))]) hx hb d_X_perform_32 hl (by decide) rfl (fun ls hl => ?_)
        refine lv_lload hx hb d_X_perform_34 (lv_at hl 0 rfl) ?_
        refine lv_ldc2 (v := mx_l 1000000000000000000) hx hb cx.2.2.2.1 (cx.2.2.2.2.1 _ tw_117) d_X_perform_36 ?_
        refine gd_lle (tgt := 45) hx hb d_X_perform_39 d_X_perform_40 (by decide) hfit (by unfold mx_fit; omega) (fun h40 => ?_) (fun h40 => ?_)
        · refine lv_iinc (v := nI (k + 1)) (lv' := [(4, .int (nI (k + 1))), (5, .long (mx_l (su2 k))), (3, .int (nI 300)), (2, .ref (q 9)), (1, .int (nI (mx_cnt inn2 (mx_n X)))), (0, .ref (q 19))]) hx hb d_X_perform_45 hl (k := 1) rfl (gd_inc1 _) (by decide) rfl (fun ls hl => ?_)
          refine lv_goto (tgt := 22) hx hb d_X_perform_48 (by decide) ?_
          exact ih (k + 1) (by omega) (fun j hj => by
            by_cases e : j = k
            · subst e; omega
            · exact hle j (by omega)) H locs ls hw (lv_sub hl [0, 2, 3, 4, 5] rfl)
        · refine lv_iconst (v := mx_o none) hx hb d_X_perform_43 (by decide) ?_
          exact hret _ ((inn2, ah2, af2, la2, su2, sr2, dr2), X) _ _ _ _ rfl d_X_perform_44 ⟨hSol, Or.inl ⟨⟨k, by omega, by show _ < mx_tot X inn2 k; rw [← hsu k (by omega)]; omega⟩, rfl, rfl⟩⟩ hw
  refine lv_istore_n (lv' := [(1, .int (nI (mx_cnt inn2 (mx_n X)))), (0, .ref (q 19))]) hx hb d_X_perform_7 rfl hl (by decide) rfl (fun ls hl => ?_)
  refine lv_aload_n hx hb d_X_perform_8 rfl (lv_at hl 1 rfl) ?_
  refine gd_get (v := .ref (q 0)) i_X cx hw 19 rfl rfl 1 (by decide) tw_104 rfl rfl d_X_perform_9 ?_
  refine gd_getN (v := .ref (q 9)) i_G cx hw 0 rfl rfl 10 (by decide) cx.2.2.2.2.2.2.2.2.2.2.1 rfl rfl d_X_perform_12 ?_
  refine lv_astore_n (lv' := [(2, .ref (q 9)), (1, .int (nI (mx_cnt inn2 (mx_n X)))), (0, .ref (q 19))]) hx hb d_X_perform_15 rfl hl (by decide) rfl (fun ls hl => ?_)
  refine lv_aload_n hx hb d_X_perform_16 rfl (lv_at hl 0 rfl) ?_
  refine gd_len cx hw 9 (t0 := 4) rfl rfl d_X_perform_17 ?_
  refine lv_istore_n (lv' := [(3, .int (nI 300)), (2, .ref (q 9)), (1, .int (nI (mx_cnt inn2 (mx_n X)))), (0, .ref (q 19))]) hx hb d_X_perform_18 rfl hl (by decide) rfl (fun ls hl => ?_)
  refine lv_iconst (v := nI 0) hx hb d_X_perform_19 (by decide) ?_
  refine lv_istore (lv' := [(4, .int (nI 0)), (3, .int (nI 300)), (2, .ref (q 9)), (1, .int (nI (mx_cnt inn2 (mx_n X)))), (0, .ref (q 19))]) hx hb d_X_perform_20 hl (by decide) rfl (fun ls hl => ?_)
  exact loop1 300 0 (by omega) (fun j hj => by omega) H locs ls hw (lv_sub hl [0, 1, 2, 3, 4] rfl)
end
section
theorem d_M_isPosition_0 : decode b_M_isPosition 0 = .ok (.iload_n 0, 1) := by decide +kernel
theorem d_M_isPosition_1 : decode b_M_isPosition 1 = .ok (.ifCond .lt 14, 3) := by decide +kernel
theorem d_M_isPosition_4 : decode b_M_isPosition 4 = .ok (.iload_n 0, 1) := by decide +kernel
theorem d_M_isPosition_5 : decode b_M_isPosition 5 = .ok (.sipush 300, 3) := by decide +kernel
theorem d_M_isPosition_8 : decode b_M_isPosition 8 = .ok (.if_icmp .ge 7, 3) := by decide +kernel
theorem d_M_isPosition_11 : decode b_M_isPosition 11 = .ok (.iconst 1, 1) := by decide +kernel
theorem d_M_isPosition_12 : decode b_M_isPosition 12 = .ok (.goto 4, 3) := by decide +kernel
theorem d_M_isPosition_15 : decode b_M_isPosition 15 = .ok (.iconst 0, 1) := by decide +kernel
theorem d_M_isPosition_16 : decode b_M_isPosition 16 = .ok (.ireturn, 1) := by decide +kernel
theorem d_M_isValue_0 : decode b_M_isValue 0 = .ok (.lload_n 0, 1) := by decide +kernel
theorem d_M_isValue_1 : decode b_M_isValue 1 = .ok (.ldc2_w 33, 3) := by decide +kernel
theorem d_M_isValue_4 : decode b_M_isValue 4 = .ok (.lcmp, 1) := by decide +kernel
theorem d_M_isValue_5 : decode b_M_isValue 5 = .ok (.ifCond .lt 15, 3) := by decide +kernel
theorem d_M_isValue_8 : decode b_M_isValue 8 = .ok (.lload_n 0, 1) := by decide +kernel
theorem d_M_isValue_9 : decode b_M_isValue 9 = .ok (.ldc2_w 35, 3) := by decide +kernel
theorem d_M_isValue_12 : decode b_M_isValue 12 = .ok (.lcmp, 1) := by decide +kernel
theorem d_M_isValue_13 : decode b_M_isValue 13 = .ok (.ifCond .gt 7, 3) := by decide +kernel
theorem d_M_isValue_16 : decode b_M_isValue 16 = .ok (.iconst 1, 1) := by decide +kernel
theorem d_M_isValue_17 : decode b_M_isValue 17 = .ok (.goto 4, 3) := by decide +kernel
theorem d_M_isValue_20 : decode b_M_isValue 20 = .ok (.iconst 0, 1) := by decide +kernel
theorem d_M_isValue_21 : decode b_M_isValue 21 = .ok (.ireturn, 1) := by decide +kernel
theorem d_M_place_0 : decode b_M_place 0 = .ok (.iload_n 1, 1) := by decide +kernel
theorem d_M_place_1 : decode b_M_place 1 = .ok (.invokestatic 37, 3) := by decide +kernel
theorem d_M_place_4 : decode b_M_place 4 = .ok (.ifCond .eq 25, 3) := by decide +kernel
theorem d_M_place_7 : decode b_M_place 7 = .ok (.lload_n 2, 1) := by decide +kernel
theorem d_M_place_8 : decode b_M_place 8 = .ok (.invokestatic 41, 3) := by decide +kernel
theorem d_M_place_11 : decode b_M_place 11 = .ok (.ifCond .eq 18, 3) := by decide +kernel
theorem d_M_place_14 : decode b_M_place 14 = .ok (.lload 4, 2) := by decide +kernel
theorem d_M_place_16 : decode b_M_place 16 = .ok (.invokestatic 41, 3) := by decide +kernel
theorem d_M_place_19 : decode b_M_place 19 = .ok (.ifCond .eq 10, 3) := by decide +kernel
theorem d_M_place_22 : decode b_M_place 22 = .ok (.lload_n 2, 1) := by decide +kernel
theorem d_M_place_23 : decode b_M_place 23 = .ok (.lload 4, 2) := by decide +kernel
theorem d_M_place_25 : decode b_M_place 25 = .ok (.lcmp, 1) := by decide +kernel
theorem d_M_place_26 : decode b_M_place 26 = .ok (.ifCond .ge 5, 3) := by decide +kernel
theorem d_M_place_29 : decode b_M_place 29 = .ok (.iconst 0, 1) := by decide +kernel
theorem d_M_place_30 : decode b_M_place 30 = .ok (.ireturn, 1) := by decide +kernel
theorem d_M_place_31 : decode b_M_place 31 = .ok (.aload_n 0, 1) := by decide +kernel
theorem d_M_place_32 : decode b_M_place 32 = .ok (.getfield 7, 3) := by decide +kernel
theorem d_M_place_35 : decode b_M_place 35 = .ok (.iload_n 1, 1) := by decide +kernel
theorem d_M_place_36 : decode b_M_place 36 = .ok (.lload_n 2, 1) := by decide +kernel
theorem d_M_place_37 : decode b_M_place 37 = .ok (.lastore, 1) := by decide +kernel
theorem d_M_place_38 : decode b_M_place 38 = .ok (.aload_n 0, 1) := by decide +kernel
theorem d_M_place_39 : decode b_M_place 39 = .ok (.getfield 13, 3) := by decide +kernel
theorem d_M_place_42 : decode b_M_place 42 = .ok (.iload_n 1, 1) := by decide +kernel
theorem d_M_place_43 : decode b_M_place 43 = .ok (.lload 4, 2) := by decide +kernel
theorem d_M_place_45 : decode b_M_place 45 = .ok (.lastore, 1) := by decide +kernel
theorem d_M_place_46 : decode b_M_place 46 = .ok (.iconst 1, 1) := by decide +kernel
theorem d_M_place_47 : decode b_M_place 47 = .ok (.ireturn, 1) := by decide +kernel
theorem d_M_item_0 : decode b_M_item 0 = .ok (.aload_n 0, 1) := by decide +kernel
theorem d_M_item_1 : decode b_M_item 1 = .ok (.getfield 45, 3) := by decide +kernel
theorem d_M_item_4 : decode b_M_item 4 = .ok (.sipush 200, 3) := by decide +kernel
theorem d_M_item_7 : decode b_M_item 7 = .ok (.if_icmp .ne 5, 3) := by decide +kernel
theorem d_M_item_10 : decode b_M_item 10 = .ok (.iconst (-1), 1) := by decide +kernel
theorem d_M_item_11 : decode b_M_item 11 = .ok (.ireturn, 1) := by decide +kernel
theorem d_M_item_12 : decode b_M_item 12 = .ok (.aload_n 0, 1) := by decide +kernel
theorem d_M_item_13 : decode b_M_item 13 = .ok (.getfield 16, 3) := by decide +kernel
theorem d_M_item_16 : decode b_M_item 16 = .ok (.aload_n 0, 1) := by decide +kernel
theorem d_M_item_17 : decode b_M_item 17 = .ok (.getfield 45, 3) := by decide +kernel
theorem d_M_item_20 : decode b_M_item 20 = .ok (.iconst 1, 1) := by decide +kernel
theorem d_M_item_21 : decode b_M_item 21 = .ok (.bastore, 1) := by decide +kernel
theorem d_M_item_22 : decode b_M_item 22 = .ok (.aload_n 0, 1) := by decide +kernel
theorem d_M_item_23 : decode b_M_item 23 = .ok (.aload_n 0, 1) := by decide +kernel
theorem d_M_item_24 : decode b_M_item 24 = .ok (.getfield 45, 3) := by decide +kernel
theorem d_M_item_27 : decode b_M_item 27 = .ok (.iconst 1, 1) := by decide +kernel
theorem d_M_item_28 : decode b_M_item 28 = .ok (.iadd, 1) := by decide +kernel
theorem d_M_item_29 : decode b_M_item 29 = .ok (.putfield 45, 3) := by decide +kernel
theorem d_M_item_32 : decode b_M_item 32 = .ok (.aload_n 0, 1) := by decide +kernel
theorem d_M_item_33 : decode b_M_item 33 = .ok (.getfield 45, 3) := by decide +kernel
theorem d_M_item_36 : decode b_M_item 36 = .ok (.iconst 1, 1) := by decide +kernel
theorem d_M_item_37 : decode b_M_item 37 = .ok (.isub, 1) := by decide +kernel
theorem d_M_item_38 : decode b_M_item 38 = .ok (.ireturn, 1) := by decide +kernel
theorem d_M_isThere_0 : decode b_M_isThere 0 = .ok (.iload_n 1, 1) := by decide +kernel
theorem d_M_isThere_1 : decode b_M_isThere 1 = .ok (.ifCond .lt 24, 3) := by decide +kernel
theorem d_M_isThere_4 : decode b_M_isThere 4 = .ok (.iload_n 1, 1) := by decide +kernel
theorem d_M_isThere_5 : decode b_M_isThere 5 = .ok (.aload_n 0, 1) := by decide +kernel
theorem d_M_isThere_6 : decode b_M_isThere 6 = .ok (.getfield 45, 3) := by decide +kernel
theorem d_M_isThere_9 : decode b_M_isThere 9 = .ok (.if_icmp .ge 16, 3) := by decide +kernel
theorem d_M_isThere_12 : decode b_M_isThere 12 = .ok (.aload_n 0, 1) := by decide +kernel
theorem d_M_isThere_13 : decode b_M_isThere 13 = .ok (.getfield 16, 3) := by decide +kernel
theorem d_M_isThere_16 : decode b_M_isThere 16 = .ok (.iload_n 1, 1) := by decide +kernel
theorem d_M_isThere_17 : decode b_M_isThere 17 = .ok (.baload, 1) := by decide +kernel
theorem d_M_isThere_18 : decode b_M_isThere 18 = .ok (.ifCond .eq 7, 3) := by decide +kernel
theorem d_M_isThere_21 : decode b_M_isThere 21 = .ok (.iconst 1, 1) := by decide +kernel
theorem d_M_isThere_22 : decode b_M_isThere 22 = .ok (.goto 4, 3) := by decide +kernel
theorem d_M_isThere_25 : decode b_M_isThere 25 = .ok (.iconst 0, 1) := by decide +kernel
theorem d_M_isThere_26 : decode b_M_isThere 26 = .ok (.ireturn, 1) := by decide +kernel
theorem d_M_find_0 : decode b_M_find 0 = .ok (.bipush 16, 2) := by decide +kernel
theorem d_M_find_2 : decode b_M_find 2 = .ok (.iload_n 1, 1) := by decide +kernel
theorem d_M_find_3 : decode b_M_find 3 = .ok (.imul, 1) := by decide +kernel
theorem d_M_find_4 : decode b_M_find 4 = .ok (.istore_n 3, 1) := by decide +kernel
theorem d_M_find_5 : decode b_M_find 5 = .ok (.iload_n 3, 1) := by decide +kernel
theorem d_M_find_6 : decode b_M_find 6 = .ok (.bipush 16, 2) := by decide +kernel
theorem d_M_find_8 : decode b_M_find 8 = .ok (.iload_n 1, 1) := by decide +kernel
theorem d_M_find_9 : decode b_M_find 9 = .ok (.imul, 1) := by decide +kernel
theorem d_M_find_10 : decode b_M_find 10 = .ok (.aload_n 0, 1) := by decide +kernel
theorem d_M_find_11 : decode b_M_find 11 = .ok (.getfield 23, 3) := by decide +kernel
theorem d_M_find_14 : decode b_M_find 14 = .ok (.iload_n 1, 1) := by decide +kernel
theorem d_M_find_15 : decode b_M_find 15 = .ok (.iaload, 1) := by decide +kernel
theorem d_M_find_16 : decode b_M_find 16 = .ok (.iadd, 1) := by decide +kernel
theorem d_M_find_17 : decode b_M_find 17 = .ok (.if_icmp .ge 20, 3) := by decide +kernel
theorem d_M_find_20 : decode b_M_find 20 = .ok (.aload_n 0, 1) := by decide +kernel
theorem d_M_find_21 : decode b_M_find 21 = .ok (.getfield 27, 3) := by decide +kernel
theorem d_M_find_24 : decode b_M_find 24 = .ok (.iload_n 3, 1) := by decide +kernel
theorem d_M_find_25 : decode b_M_find 25 = .ok (.iaload, 1) := by decide +kernel
theorem d_M_find_26 : decode b_M_find 26 = .ok (.iload_n 2, 1) := by decide +kernel
theorem d_M_find_27 : decode b_M_find 27 = .ok (.if_icmp .eq 10, 3) := by decide +kernel
theorem d_M_find_30 : decode b_M_find 30 = .ok (.iload_n 3, 1) := by decide +kernel
theorem d_M_find_31 : decode b_M_find 31 = .ok (.iconst 1, 1) := by decide +kernel
theorem d_M_find_32 : decode b_M_find 32 = .ok (.iadd, 1) := by decide +kernel
theorem d_M_find_33 : decode b_M_find 33 = .ok (.istore_n 3, 1) := by decide +kernel
theorem d_M_find_34 : decode b_M_find 34 = .ok (.goto (-29), 3) := by decide +kernel
theorem d_M_find_37 : decode b_M_find 37 = .ok (.iload_n 3, 1) := by decide +kernel
theorem d_M_find_38 : decode b_M_find 38 = .ok (.ireturn, 1) := by decide +kernel
theorem d_M_netAt_0 : decode b_M_netAt 0 = .ok (.aload_n 0, 1) := by decide +kernel
theorem d_M_netAt_1 : decode b_M_netAt 1 = .ok (.iload_n 1, 1) := by decide +kernel
theorem d_M_netAt_2 : decode b_M_netAt 2 = .ok (.iload_n 2, 1) := by decide +kernel
theorem d_M_netAt_3 : decode b_M_netAt 3 = .ok (.invokevirtual 49, 3) := by decide +kernel
theorem d_M_netAt_6 : decode b_M_netAt 6 = .ok (.istore_n 3, 1) := by decide +kernel
theorem d_M_netAt_7 : decode b_M_netAt 7 = .ok (.iload_n 3, 1) := by decide +kernel
theorem d_M_netAt_8 : decode b_M_netAt 8 = .ok (.bipush 16, 2) := by decide +kernel
theorem d_M_netAt_10 : decode b_M_netAt 10 = .ok (.iload_n 1, 1) := by decide +kernel
theorem d_M_netAt_11 : decode b_M_netAt 11 = .ok (.imul, 1) := by decide +kernel
theorem d_M_netAt_12 : decode b_M_netAt 12 = .ok (.aload_n 0, 1) := by decide +kernel
theorem d_M_netAt_13 : decode b_M_netAt 13 = .ok (.getfield 23, 3) := by decide +kernel
theorem d_M_netAt_16 : decode b_M_netAt 16 = .ok (.iload_n 1, 1) := by decide +kernel
theorem d_M_netAt_17 : decode b_M_netAt 17 = .ok (.iaload, 1) := by decide +kernel
theorem d_M_netAt_18 : decode b_M_netAt 18 = .ok (.iadd, 1) := by decide +kernel
theorem d_M_netAt_19 : decode b_M_netAt 19 = .ok (.if_icmp .ge 12, 3) := by decide +kernel
theorem d_M_netAt_22 : decode b_M_netAt 22 = .ok (.aload_n 0, 1) := by decide +kernel
theorem d_M_netAt_23 : decode b_M_netAt 23 = .ok (.getfield 30, 3) := by decide +kernel
theorem d_M_netAt_26 : decode b_M_netAt 26 = .ok (.iload_n 3, 1) := by decide +kernel
theorem d_M_netAt_27 : decode b_M_netAt 27 = .ok (.laload, 1) := by decide +kernel
theorem d_M_netAt_28 : decode b_M_netAt 28 = .ok (.goto 4, 3) := by decide +kernel
theorem d_M_netAt_31 : decode b_M_netAt 31 = .ok (.lconst 0, 1) := by decide +kernel
theorem d_M_netAt_32 : decode b_M_netAt 32 = .ok (.lreturn, 1) := by decide +kernel
theorem d_M_net_0 : decode b_M_net 0 = .ok (.aload_n 0, 1) := by decide +kernel
theorem d_M_net_1 : decode b_M_net 1 = .ok (.iload_n 1, 1) := by decide +kernel
theorem d_M_net_2 : decode b_M_net 2 = .ok (.invokevirtual 53, 3) := by decide +kernel
theorem d_M_net_5 : decode b_M_net 5 = .ok (.ifCond .eq 10, 3) := by decide +kernel
theorem d_M_net_8 : decode b_M_net 8 = .ok (.iload_n 2, 1) := by decide +kernel
theorem d_M_net_9 : decode b_M_net 9 = .ok (.invokestatic 37, 3) := by decide +kernel
theorem d_M_net_12 : decode b_M_net 12 = .ok (.ifCond .ne 5, 3) := by decide +kernel
theorem d_M_net_15 : decode b_M_net 15 = .ok (.iconst 0, 1) := by decide +kernel
theorem d_M_net_16 : decode b_M_net 16 = .ok (.ireturn, 1) := by decide +kernel
theorem d_M_net_17 : decode b_M_net 17 = .ok (.lload_n 3, 1) := by decide +kernel
theorem d_M_net_18 : decode b_M_net 18 = .ok (.ldc2_w 56, 3) := by decide +kernel
theorem d_M_net_21 : decode b_M_net 21 = .ok (.lcmp, 1) := by decide +kernel
theorem d_M_net_22 : decode b_M_net 22 = .ok (.ifCond .gt 11, 3) := by decide +kernel
theorem d_M_net_25 : decode b_M_net 25 = .ok (.lload_n 3, 1) := by decide +kernel
theorem d_M_net_26 : decode b_M_net 26 = .ok (.ldc2_w 58, 3) := by decide +kernel
theorem d_M_net_29 : decode b_M_net 29 = .ok (.lcmp, 1) := by decide +kernel
theorem d_M_net_30 : decode b_M_net 30 = .ok (.ifCond .ge 5, 3) := by decide +kernel
theorem d_M_net_33 : decode b_M_net 33 = .ok (.iconst 0, 1) := by decide +kernel
theorem d_M_net_34 : decode b_M_net 34 = .ok (.ireturn, 1) := by decide +kernel
theorem d_M_net_35 : decode b_M_net 35 = .ok (.aload_n 0, 1) := by decide +kernel
theorem d_M_net_36 : decode b_M_net 36 = .ok (.iload_n 1, 1) := by decide +kernel
theorem d_M_net_37 : decode b_M_net 37 = .ok (.iload_n 2, 1) := by decide +kernel
theorem d_M_net_38 : decode b_M_net 38 = .ok (.invokevirtual 60, 3) := by decide +kernel
theorem d_M_net_41 : decode b_M_net 41 = .ok (.lload_n 3, 1) := by decide +kernel
theorem d_M_net_42 : decode b_M_net 42 = .ok (.ladd, 1) := by decide +kernel
theorem d_M_net_43 : decode b_M_net 43 = .ok (.lstore 5, 2) := by decide +kernel
theorem d_M_net_45 : decode b_M_net 45 = .ok (.lload 5, 2) := by decide +kernel
theorem d_M_net_47 : decode b_M_net 47 = .ok (.ldc2_w 64, 3) := by decide +kernel
theorem d_M_net_50 : decode b_M_net 50 = .ok (.lcmp, 1) := by decide +kernel
theorem d_M_net_51 : decode b_M_net 51 = .ok (.ifCond .gt 12, 3) := by decide +kernel
theorem d_M_net_54 : decode b_M_net 54 = .ok (.lload 5, 2) := by decide +kernel
theorem d_M_net_56 : decode b_M_net 56 = .ok (.ldc2_w 66, 3) := by decide +kernel
theorem d_M_net_59 : decode b_M_net 59 = .ok (.lcmp, 1) := by decide +kernel
theorem d_M_net_60 : decode b_M_net 60 = .ok (.ifCond .ge 5, 3) := by decide +kernel
theorem d_M_net_63 : decode b_M_net 63 = .ok (.iconst 0, 1) := by decide +kernel
theorem d_M_net_64 : decode b_M_net 64 = .ok (.ireturn, 1) := by decide +kernel
theorem d_M_net_65 : decode b_M_net 65 = .ok (.aload_n 0, 1) := by decide +kernel
theorem d_M_net_66 : decode b_M_net 66 = .ok (.iload_n 1, 1) := by decide +kernel
theorem d_M_net_67 : decode b_M_net 67 = .ok (.iload_n 2, 1) := by decide +kernel
theorem d_M_net_68 : decode b_M_net 68 = .ok (.invokevirtual 49, 3) := by decide +kernel
theorem d_M_net_71 : decode b_M_net 71 = .ok (.istore 7, 2) := by decide +kernel
theorem d_M_net_73 : decode b_M_net 73 = .ok (.bipush 16, 2) := by decide +kernel
theorem d_M_net_75 : decode b_M_net 75 = .ok (.iload_n 1, 1) := by decide +kernel
theorem d_M_net_76 : decode b_M_net 76 = .ok (.imul, 1) := by decide +kernel
theorem d_M_net_77 : decode b_M_net 77 = .ok (.aload_n 0, 1) := by decide +kernel
theorem d_M_net_78 : decode b_M_net 78 = .ok (.getfield 23, 3) := by decide +kernel
theorem d_M_net_81 : decode b_M_net 81 = .ok (.iload_n 1, 1) := by decide +kernel
theorem d_M_net_82 : decode b_M_net 82 = .ok (.iaload, 1) := by decide +kernel
theorem d_M_net_83 : decode b_M_net 83 = .ok (.iadd, 1) := by decide +kernel
theorem d_M_net_84 : decode b_M_net 84 = .ok (.istore 8, 2) := by decide +kernel
theorem d_M_net_86 : decode b_M_net 86 = .ok (.iload 7, 2) := by decide +kernel
theorem d_M_net_88 : decode b_M_net 88 = .ok (.iload 8, 2) := by decide +kernel
theorem d_M_net_90 : decode b_M_net 90 = .ok (.if_icmp .ge 58, 3) := by decide +kernel
theorem d_M_net_93 : decode b_M_net 93 = .ok (.lload 5, 2) := by decide +kernel
theorem d_M_net_95 : decode b_M_net 95 = .ok (.lconst 0, 1) := by decide +kernel
theorem d_M_net_96 : decode b_M_net 96 = .ok (.lcmp, 1) := by decide +kernel
theorem d_M_net_97 : decode b_M_net 97 = .ok (.ifCond .ne 51, 3) := by decide +kernel
theorem d_M_net_100 : decode b_M_net 100 = .ok (.aload_n 0, 1) := by decide +kernel
theorem d_M_net_101 : decode b_M_net 101 = .ok (.getfield 27, 3) := by decide +kernel
theorem d_M_net_104 : decode b_M_net 104 = .ok (.iload 7, 2) := by decide +kernel
theorem d_M_net_106 : decode b_M_net 106 = .ok (.aload_n 0, 1) := by decide +kernel
theorem d_M_net_107 : decode b_M_net 107 = .ok (.getfield 27, 3) := by decide +kernel
theorem d_M_net_110 : decode b_M_net 110 = .ok (.iload 8, 2) := by decide +kernel
theorem d_M_net_112 : decode b_M_net 112 = .ok (.iconst 1, 1) := by decide +kernel
theorem d_M_net_113 : decode b_M_net 113 = .ok (.isub, 1) := by decide +kernel
theorem d_M_net_114 : decode b_M_net 114 = .ok (.iaload, 1) := by decide +kernel
theorem d_M_net_115 : decode b_M_net 115 = .ok (.iastore, 1) := by decide +kernel
theorem d_M_net_116 : decode b_M_net 116 = .ok (.aload_n 0, 1) := by decide +kernel
theorem d_M_net_117 : decode b_M_net 117 = .ok (.getfield 30, 3) := by decide +kernel
theorem d_M_net_120 : decode b_M_net 120 = .ok (.iload 7, 2) := by decide +kernel
theorem d_M_net_122 : decode b_M_net 122 = .ok (.aload_n 0, 1) := by decide +kernel
theorem d_M_net_123 : decode b_M_net 123 = .ok (.getfield 30, 3) := by decide +kernel
theorem d_M_net_126 : decode b_M_net 126 = .ok (.iload 8, 2) := by decide +kernel
theorem d_M_net_128 : decode b_M_net 128 = .ok (.iconst 1, 1) := by decide +kernel
theorem d_M_net_129 : decode b_M_net 129 = .ok (.isub, 1) := by decide +kernel
theorem d_M_net_130 : decode b_M_net 130 = .ok (.laload, 1) := by decide +kernel
theorem d_M_net_131 : decode b_M_net 131 = .ok (.lastore, 1) := by decide +kernel
theorem d_M_net_132 : decode b_M_net 132 = .ok (.aload_n 0, 1) := by decide +kernel
theorem d_M_net_133 : decode b_M_net 133 = .ok (.getfield 23, 3) := by decide +kernel
theorem d_M_net_136 : decode b_M_net 136 = .ok (.iload_n 1, 1) := by decide +kernel
theorem d_M_net_137 : decode b_M_net 137 = .ok (.aload_n 0, 1) := by decide +kernel
theorem d_M_net_138 : decode b_M_net 138 = .ok (.getfield 23, 3) := by decide +kernel
theorem d_M_net_141 : decode b_M_net 141 = .ok (.iload_n 1, 1) := by decide +kernel
theorem d_M_net_142 : decode b_M_net 142 = .ok (.iaload, 1) := by decide +kernel
theorem d_M_net_143 : decode b_M_net 143 = .ok (.iconst 1, 1) := by decide +kernel
theorem d_M_net_144 : decode b_M_net 144 = .ok (.isub, 1) := by decide +kernel
theorem d_M_net_145 : decode b_M_net 145 = .ok (.iastore, 1) := by decide +kernel
theorem d_M_net_146 : decode b_M_net 146 = .ok (.iconst 1, 1) := by decide +kernel
theorem d_M_net_147 : decode b_M_net 147 = .ok (.ireturn, 1) := by decide +kernel
theorem d_M_net_148 : decode b_M_net 148 = .ok (.lload 5, 2) := by decide +kernel
theorem d_M_net_150 : decode b_M_net 150 = .ok (.lconst 0, 1) := by decide +kernel
theorem d_M_net_151 : decode b_M_net 151 = .ok (.lcmp, 1) := by decide +kernel
theorem d_M_net_152 : decode b_M_net 152 = .ok (.ifCond .ne 5, 3) := by decide +kernel
theorem d_M_net_155 : decode b_M_net 155 = .ok (.iconst 1, 1) := by decide +kernel
theorem d_M_net_156 : decode b_M_net 156 = .ok (.ireturn, 1) := by decide +kernel
theorem d_M_net_157 : decode b_M_net 157 = .ok (.iload 7, 2) := by decide +kernel
theorem d_M_net_159 : decode b_M_net 159 = .ok (.iload 8, 2) := by decide +kernel
theorem d_M_net_161 : decode b_M_net 161 = .ok (.if_icmp .ne 16, 3) := by decide +kernel
theorem d_M_net_164 : decode b_M_net 164 = .ok (.aload_n 0, 1) := by decide +kernel
theorem d_M_net_165 : decode b_M_net 165 = .ok (.getfield 23, 3) := by decide +kernel
theorem d_M_net_168 : decode b_M_net 168 = .ok (.iload_n 1, 1) := by decide +kernel
theorem d_M_net_169 : decode b_M_net 169 = .ok (.iaload, 1) := by decide +kernel
theorem d_M_net_170 : decode b_M_net 170 = .ok (.bipush 16, 2) := by decide +kernel
theorem d_M_net_172 : decode b_M_net 172 = .ok (.if_icmp .ne 5, 3) := by decide +kernel
theorem d_M_net_175 : decode b_M_net 175 = .ok (.iconst 0, 1) := by decide +kernel
theorem d_M_net_176 : decode b_M_net 176 = .ok (.ireturn, 1) := by decide +kernel
theorem d_M_net_177 : decode b_M_net 177 = .ok (.iload 7, 2) := by decide +kernel
theorem d_M_net_179 : decode b_M_net 179 = .ok (.iload 8, 2) := by decide +kernel
theorem d_M_net_181 : decode b_M_net 181 = .ok (.if_icmp .ne 17, 3) := by decide +kernel
theorem d_M_net_184 : decode b_M_net 184 = .ok (.aload_n 0, 1) := by decide +kernel
theorem d_M_net_185 : decode b_M_net 185 = .ok (.getfield 23, 3) := by decide +kernel
theorem d_M_net_188 : decode b_M_net 188 = .ok (.iload_n 1, 1) := by decide +kernel
theorem d_M_net_189 : decode b_M_net 189 = .ok (.aload_n 0, 1) := by decide +kernel
theorem d_M_net_190 : decode b_M_net 190 = .ok (.getfield 23, 3) := by decide +kernel
theorem d_M_net_193 : decode b_M_net 193 = .ok (.iload_n 1, 1) := by decide +kernel
theorem d_M_net_194 : decode b_M_net 194 = .ok (.iaload, 1) := by decide +kernel
theorem d_M_net_195 : decode b_M_net 195 = .ok (.iconst 1, 1) := by decide +kernel
theorem d_M_net_196 : decode b_M_net 196 = .ok (.iadd, 1) := by decide +kernel
theorem d_M_net_197 : decode b_M_net 197 = .ok (.iastore, 1) := by decide +kernel
theorem d_M_net_198 : decode b_M_net 198 = .ok (.aload_n 0, 1) := by decide +kernel
theorem d_M_net_199 : decode b_M_net 199 = .ok (.getfield 27, 3) := by decide +kernel
theorem d_M_net_202 : decode b_M_net 202 = .ok (.iload 7, 2) := by decide +kernel
theorem d_M_net_204 : decode b_M_net 204 = .ok (.iload_n 2, 1) := by decide +kernel
theorem d_M_net_205 : decode b_M_net 205 = .ok (.iastore, 1) := by decide +kernel
theorem d_M_net_206 : decode b_M_net 206 = .ok (.aload_n 0, 1) := by decide +kernel
theorem d_M_net_207 : decode b_M_net 207 = .ok (.getfield 30, 3) := by decide +kernel
theorem d_M_net_210 : decode b_M_net 210 = .ok (.iload 7, 2) := by decide +kernel
theorem d_M_net_212 : decode b_M_net 212 = .ok (.lload 5, 2) := by decide +kernel
theorem d_M_net_214 : decode b_M_net 214 = .ok (.lastore, 1) := by decide +kernel
theorem d_M_net_215 : decode b_M_net 215 = .ok (.iconst 1, 1) := by decide +kernel
theorem d_M_net_216 : decode b_M_net 216 = .ok (.ireturn, 1) := by decide +kernel
theorem d_M_go_0 : decode b_M_go 0 = .ok (.aload_n 0, 1) := by decide +kernel
theorem d_M_go_1 : decode b_M_go 1 = .ok (.iload_n 1, 1) := by decide +kernel
theorem d_M_go_2 : decode b_M_go 2 = .ok (.invokevirtual 53, 3) := by decide +kernel
theorem d_M_go_5 : decode b_M_go 5 = .ok (.ifCond .ne 5, 3) := by decide +kernel
theorem d_M_go_8 : decode b_M_go 8 = .ok (.iconst 0, 1) := by decide +kernel
theorem d_M_go_9 : decode b_M_go 9 = .ok (.ireturn, 1) := by decide +kernel
theorem d_M_go_10 : decode b_M_go 10 = .ok (.aload_n 0, 1) := by decide +kernel
theorem d_M_go_11 : decode b_M_go 11 = .ok (.getfield 16, 3) := by decide +kernel
theorem d_M_go_14 : decode b_M_go 14 = .ok (.iload_n 1, 1) := by decide +kernel
theorem d_M_go_15 : decode b_M_go 15 = .ok (.iconst 0, 1) := by decide +kernel
theorem d_M_go_16 : decode b_M_go 16 = .ok (.bastore, 1) := by decide +kernel
theorem d_M_go_17 : decode b_M_go 17 = .ok (.iconst 1, 1) := by decide +kernel
theorem d_M_go_18 : decode b_M_go 18 = .ok (.ireturn, 1) := by decide +kernel
theorem d_M_in_0 : decode b_M_in 0 = .ok (.iload_n 1, 1) := by decide +kernel
theorem d_M_in_1 : decode b_M_in 1 = .ok (.ifCond .lt 23, 3) := by decide +kernel
theorem d_M_in_4 : decode b_M_in 4 = .ok (.iload_n 1, 1) := by decide +kernel
theorem d_M_in_5 : decode b_M_in 5 = .ok (.sipush 200, 3) := by decide +kernel
theorem d_M_in_8 : decode b_M_in 8 = .ok (.if_icmp .ge 16, 3) := by decide +kernel
theorem d_M_in_11 : decode b_M_in 11 = .ok (.aload_n 0, 1) := by decide +kernel
theorem d_M_in_12 : decode b_M_in 12 = .ok (.getfield 20, 3) := by decide +kernel
theorem d_M_in_15 : decode b_M_in 15 = .ok (.iload_n 1, 1) := by decide +kernel
theorem d_M_in_16 : decode b_M_in 16 = .ok (.baload, 1) := by decide +kernel
theorem d_M_in_17 : decode b_M_in 17 = .ok (.ifCond .eq 7, 3) := by decide +kernel
theorem d_M_in_20 : decode b_M_in 20 = .ok (.iconst 1, 1) := by decide +kernel
theorem d_M_in_21 : decode b_M_in 21 = .ok (.goto 4, 3) := by decide +kernel
theorem d_M_in_24 : decode b_M_in 24 = .ok (.iconst 0, 1) := by decide +kernel
theorem d_M_in_25 : decode b_M_in 25 = .ok (.ireturn, 1) := by decide +kernel
theorem d_M_value_0 : decode b_M_value 0 = .ok (.iload_n 1, 1) := by decide +kernel
theorem d_M_value_1 : decode b_M_value 1 = .ok (.invokestatic 37, 3) := by decide +kernel
theorem d_M_value_4 : decode b_M_value 4 = .ok (.ifCond .eq 12, 3) := by decide +kernel
theorem d_M_value_7 : decode b_M_value 7 = .ok (.aload_n 0, 1) := by decide +kernel
theorem d_M_value_8 : decode b_M_value 8 = .ok (.getfield 7, 3) := by decide +kernel
theorem d_M_value_11 : decode b_M_value 11 = .ok (.iload_n 1, 1) := by decide +kernel
theorem d_M_value_12 : decode b_M_value 12 = .ok (.laload, 1) := by decide +kernel
theorem d_M_value_13 : decode b_M_value 13 = .ok (.goto 4, 3) := by decide +kernel
theorem d_M_value_16 : decode b_M_value 16 = .ok (.lconst 0, 1) := by decide +kernel
theorem d_M_value_17 : decode b_M_value 17 = .ok (.lreturn, 1) := by decide +kernel
theorem d_M_netOf_0 : decode b_M_netOf 0 = .ok (.aload_n 0, 1) := by decide +kernel
theorem d_M_netOf_1 : decode b_M_netOf 1 = .ok (.iload_n 1, 1) := by decide +kernel
theorem d_M_netOf_2 : decode b_M_netOf 2 = .ok (.invokevirtual 53, 3) := by decide +kernel
theorem d_M_netOf_5 : decode b_M_netOf 5 = .ok (.ifCond .eq 19, 3) := by decide +kernel
theorem d_M_netOf_8 : decode b_M_netOf 8 = .ok (.iload_n 2, 1) := by decide +kernel
theorem d_M_netOf_9 : decode b_M_netOf 9 = .ok (.invokestatic 37, 3) := by decide +kernel
theorem d_M_netOf_12 : decode b_M_netOf 12 = .ok (.ifCond .eq 12, 3) := by decide +kernel
theorem d_M_netOf_15 : decode b_M_netOf 15 = .ok (.aload_n 0, 1) := by decide +kernel
theorem d_M_netOf_16 : decode b_M_netOf 16 = .ok (.iload_n 1, 1) := by decide +kernel
theorem d_M_netOf_17 : decode b_M_netOf 17 = .ok (.iload_n 2, 1) := by decide +kernel
theorem d_M_netOf_18 : decode b_M_netOf 18 = .ok (.invokevirtual 60, 3) := by decide +kernel
theorem d_M_netOf_21 : decode b_M_netOf 21 = .ok (.goto 4, 3) := by decide +kernel
theorem d_M_netOf_24 : decode b_M_netOf 24 = .ok (.lconst 0, 1) := by decide +kernel
theorem d_M_netOf_25 : decode b_M_netOf 25 = .ok (.lreturn, 1) := by decide +kernel
theorem d_M_count_0 : decode b_M_count 0 = .ok (.iconst 0, 1) := by decide +kernel
theorem d_M_count_1 : decode b_M_count 1 = .ok (.istore_n 2, 1) := by decide +kernel
theorem d_M_count_2 : decode b_M_count 2 = .ok (.iconst 0, 1) := by decide +kernel
theorem d_M_count_3 : decode b_M_count 3 = .ok (.istore_n 3, 1) := by decide +kernel
theorem d_M_count_4 : decode b_M_count 4 = .ok (.iconst 0, 1) := by decide +kernel
theorem d_M_count_5 : decode b_M_count 5 = .ok (.istore 4, 2) := by decide +kernel
theorem d_M_count_7 : decode b_M_count 7 = .ok (.iload 4, 2) := by decide +kernel
theorem d_M_count_9 : decode b_M_count 9 = .ok (.sipush 200, 3) := by decide +kernel
theorem d_M_count_12 : decode b_M_count 12 = .ok (.if_icmp .ge 45, 3) := by decide +kernel
theorem d_M_count_15 : decode b_M_count 15 = .ok (.iload_n 2, 1) := by decide +kernel
theorem d_M_count_16 : decode b_M_count 16 = .ok (.aload_n 0, 1) := by decide +kernel
theorem d_M_count_17 : decode b_M_count 17 = .ok (.getfield 16, 3) := by decide +kernel
theorem d_M_count_20 : decode b_M_count 20 = .ok (.iload 4, 2) := by decide +kernel
theorem d_M_count_22 : decode b_M_count 22 = .ok (.baload, 1) := by decide +kernel
theorem d_M_count_23 : decode b_M_count 23 = .ok (.ifCond .eq 7, 3) := by decide +kernel
theorem d_M_count_26 : decode b_M_count 26 = .ok (.iconst 1, 1) := by decide +kernel
theorem d_M_count_27 : decode b_M_count 27 = .ok (.goto 4, 3) := by decide +kernel
theorem d_M_count_30 : decode b_M_count 30 = .ok (.iconst 0, 1) := by decide +kernel
theorem d_M_count_31 : decode b_M_count 31 = .ok (.iadd, 1) := by decide +kernel
theorem d_M_count_32 : decode b_M_count 32 = .ok (.istore_n 2, 1) := by decide +kernel
theorem d_M_count_33 : decode b_M_count 33 = .ok (.iload_n 3, 1) := by decide +kernel
theorem d_M_count_34 : decode b_M_count 34 = .ok (.aload_n 0, 1) := by decide +kernel
theorem d_M_count_35 : decode b_M_count 35 = .ok (.getfield 20, 3) := by decide +kernel
theorem d_M_count_38 : decode b_M_count 38 = .ok (.iload 4, 2) := by decide +kernel
theorem d_M_count_40 : decode b_M_count 40 = .ok (.baload, 1) := by decide +kernel
theorem d_M_count_41 : decode b_M_count 41 = .ok (.ifCond .eq 7, 3) := by decide +kernel
theorem d_M_count_44 : decode b_M_count 44 = .ok (.iconst 1, 1) := by decide +kernel
theorem d_M_count_45 : decode b_M_count 45 = .ok (.goto 4, 3) := by decide +kernel
theorem d_M_count_48 : decode b_M_count 48 = .ok (.iconst 0, 1) := by decide +kernel
theorem d_M_count_49 : decode b_M_count 49 = .ok (.iadd, 1) := by decide +kernel
theorem d_M_count_50 : decode b_M_count 50 = .ok (.istore_n 3, 1) := by decide +kernel
theorem d_M_count_51 : decode b_M_count 51 = .ok (.iinc 4 1, 3) := by decide +kernel
theorem d_M_count_54 : decode b_M_count 54 = .ok (.goto (-47), 3) := by decide +kernel
theorem d_M_count_57 : decode b_M_count 57 = .ok (.iload_n 1, 1) := by decide +kernel
theorem d_M_count_58 : decode b_M_count 58 = .ok (.ifCond .ne 10, 3) := by decide +kernel
theorem d_M_count_61 : decode b_M_count 61 = .ok (.aload_n 0, 1) := by decide +kernel
theorem d_M_count_62 : decode b_M_count 62 = .ok (.getfield 45, 3) := by decide +kernel
theorem d_M_count_65 : decode b_M_count 65 = .ok (.goto 22, 3) := by decide +kernel
theorem d_M_count_68 : decode b_M_count 68 = .ok (.iload_n 1, 1) := by decide +kernel
theorem d_M_count_69 : decode b_M_count 69 = .ok (.iconst 1, 1) := by decide +kernel
theorem d_M_count_70 : decode b_M_count 70 = .ok (.if_icmp .ne 7, 3) := by decide +kernel
theorem d_M_count_73 : decode b_M_count 73 = .ok (.iload_n 2, 1) := by decide +kernel
theorem d_M_count_74 : decode b_M_count 74 = .ok (.goto 13, 3) := by decide +kernel
theorem d_M_count_77 : decode b_M_count 77 = .ok (.iload_n 1, 1) := by decide +kernel
theorem d_M_count_78 : decode b_M_count 78 = .ok (.iconst 2, 1) := by decide +kernel
theorem d_M_count_79 : decode b_M_count 79 = .ok (.if_icmp .ne 7, 3) := by decide +kernel
theorem d_M_count_82 : decode b_M_count 82 = .ok (.iload_n 3, 1) := by decide +kernel
theorem d_M_count_83 : decode b_M_count 83 = .ok (.goto 4, 3) := by decide +kernel
theorem d_M_count_86 : decode b_M_count 86 = .ok (.iconst (-1), 1) := by decide +kernel
theorem d_M_count_87 : decode b_M_count 87 = .ok (.ireturn, 1) := by decide +kernel
abbrev rm_M_isPosition : Room := { frames := 0, cells := 0, slots := 0, locals := 0 }
abbrev rm_M_isValue : Room := { frames := 0, cells := 0, slots := 0, locals := 0 }
abbrev rm_M_place : Room := { frames := 1, cells := 0, slots := 0, locals := 21 }
abbrev rm_M_item : Room := { frames := 0, cells := 0, slots := 0, locals := 0 }
abbrev rm_M_isThere : Room := { frames := 0, cells := 0, slots := 0, locals := 0 }
abbrev rm_M_find : Room := { frames := 0, cells := 0, slots := 0, locals := 0 }
abbrev rm_M_netAt : Room := { frames := 1, cells := 0, slots := 0, locals := 23 }
abbrev rm_M_net : Room := { frames := 2, cells := 0, slots := 0, locals := 46 }
abbrev rm_M_go : Room := { frames := 1, cells := 0, slots := 0, locals := 21 }
abbrev rm_M_in : Room := { frames := 0, cells := 0, slots := 0, locals := 0 }
abbrev rm_M_value : Room := { frames := 1, cells := 0, slots := 0, locals := 20 }
abbrev rm_M_netOf : Room := { frames := 2, cells := 0, slots := 0, locals := 46 }
abbrev rm_M_count : Room := { frames := 0, cells := 0, slots := 0, locals := 0 }
theorem cv_M_49 : gd_CV R_M 49 R_M y_M_find k_M_find 2 := gd_cv tw_307 tw_309 ts_M_find tw_5 tw_310 (by decide +kernel)
theorem cv_M_53 : gd_CV R_M 53 R_M y_M_isThere k_M_isThere 1 := gd_cv tw_297 tw_299 ts_M_isThere tw_5 tw_300 (by decide +kernel)
theorem cv_M_60 : gd_CV R_M 60 R_M y_M_netAt k_M_netAt 2 := gd_cv tw_303 tw_305 ts_M_netAt tw_5 tw_306 (by decide +kernel)
theorem cv_M_83 : gd_CV R_M 83 R_M y_M_count k_M_count 1 := gd_cv tw_337 tw_338 tw_339 tw_5 tw_340 (by decide +kernel)
theorem cs_M_37 : gd_CS R_M 37 y_M_isPosition k_M_isPosition 1 := gd_cs tw_281 tw_282 tw_5 tw_283 (by decide +kernel)
theorem cs_M_41 : gd_CS R_M 41 y_M_isValue k_M_isValue 1 := gd_cs tw_284 tw_285 tw_5 tw_286 (by decide +kernel)
set_option maxHeartbeats 4000000 in
set_option maxRecDepth 100000 in
/-- isPosition -/
theorem c_M_isPosition (l : Launch) (D : va_G) (ct : Nat → ClassId) (sz : Nat) (x : Int32) : gd_ctI l y_M_isPosition k_M_isPosition rm_M_isPosition D ct [.int x] sz ([]) (S := Unit) (fun r u => r = mx_b (mx_isP x)) (fun u => []) := by
  refine gd_entI (by decide +kernel) rfl (Nat.le_of_ble_eq_true rfl) (fun p e s m below meth c Q A ls cx hw hl hret => ?_)
  have hx := cx.1
  have hb := cx.2.1
  have hl : lv_has ls 1 [(0, .int x)] := hl
  refine lv_iload_n hx hb d_M_isPosition_0 rfl (lv_at hl 0 rfl) ?_
  refine lv_if_lt (tgt := 15) hx hb d_M_isPosition_1 (by decide) (fun h1 => ?_) (fun h1 => ?_)
  · refine lv_iconst (v := nI 0) hx hb d_M_isPosition_15 (by decide) ?_
    exact hret _ () _ _ _ _ rfl d_M_isPosition_16 (by rw [mx_isP_neg h1]; rfl) hw
  · obtain ⟨j, hj, rfl⟩ := nI_of h1
    refine lv_iload_n hx hb d_M_isPosition_4 rfl (lv_at hl 0 rfl) ?_
    refine lv_sipush (v := nI 300) hx hb d_M_isPosition_5 (by decide) ?_
    refine gd_ge (tgt := 15) hx hb d_M_isPosition_8 (by decide) (by omega) (by omega) (fun h8 => ?_) (fun h8 => ?_)
    · refine lv_iconst (v := nI 0) hx hb d_M_isPosition_15 (by decide) ?_
      exact hret _ () _ _ _ _ rfl d_M_isPosition_16 (by rw [mx_isP_nI hj, decide_eq_false (by omega)]; rfl) hw
    · refine lv_iconst (v := nI 1) hx hb d_M_isPosition_11 (by decide) ?_
      refine lv_goto (tgt := 16) hx hb d_M_isPosition_12 (by decide) ?_
      exact hret _ () _ _ _ _ rfl d_M_isPosition_16 (by rw [mx_isP_nI hj, decide_eq_true (by omega)]; rfl) hw
set_option maxHeartbeats 4000000 in
set_option maxRecDepth 100000 in
/-- isValue -/
theorem c_M_isValue (l : Launch) (D : va_G) (ct : Nat → ClassId) (sz : Nat) (z : Int) (hz : mx_fit z) : gd_ctI l y_M_isValue k_M_isValue rm_M_isValue D ct [.long (mx_l z)] sz ([]) (S := Unit) (fun r u => r = mx_b (mx_in z 1000000000000000000)) (fun u => []) := by
  refine gd_entI (by decide +kernel) rfl (Nat.le_of_ble_eq_true rfl) (fun p e s m below meth c Q A ls cx hw hl hret => ?_)
  have hx := cx.1
  have hb := cx.2.1
  have hl : lv_has ls 2 [(0, .long (mx_l z))] := hl
  refine lv_lload_n hx hb d_M_isValue_0 rfl (lv_at hl 0 rfl) ?_
  refine lv_ldc2 (v := mx_l (-1000000000000000000)) hx hb cx.2.2.2.1 (cx.2.2.2.2.1 _ tw_287) d_M_isValue_1 ?_
  refine gd_llt (tgt := 20) hx hb d_M_isValue_4 d_M_isValue_5 (by decide) hz (by unfold mx_fit; omega) (fun h5 => ?_) (fun h5 => ?_)
  · refine lv_iconst (v := nI 0) hx hb d_M_isValue_20 (by decide) ?_
    exact hret _ () _ _ _ _ rfl d_M_isValue_21 (by rw [show mx_in z 1000000000000000000 = false from Bool.eq_false_iff.mpr (fun h => by have := mx_in_iff.mp h; omega)]; rfl) hw
  · refine lv_lload_n hx hb d_M_isValue_8 rfl (lv_at hl 0 rfl) ?_
    refine lv_ldc2 (v := mx_l 1000000000000000000) hx hb cx.2.2.2.1 (cx.2.2.2.2.1 _ tw_288) d_M_isValue_9 ?_
    refine gd_lgt (tgt := 20) hx hb d_M_isValue_12 d_M_isValue_13 (by decide) hz (by unfold mx_fit; omega) (fun h13 => ?_) (fun h13 => ?_)
    · refine lv_iconst (v := nI 0) hx hb d_M_isValue_20 (by decide) ?_
      exact hret _ () _ _ _ _ rfl d_M_isValue_21 (by rw [show mx_in z 1000000000000000000 = false from Bool.eq_false_iff.mpr (fun h => by have := mx_in_iff.mp h; omega)]; rfl) hw
    · refine lv_iconst (v := nI 1) hx hb d_M_isValue_16 (by decide) ?_
      refine lv_goto (tgt := 21) hx hb d_M_isValue_17 (by decide) ?_
      exact hret _ () _ _ _ _ rfl d_M_isValue_21 (by rw [mx_in_iff.mpr ⟨by omega, by omega⟩]; rfl) hw
set_option maxHeartbeats 4000000 in
set_option maxRecDepth 100000 in
/-- GridDeskModel.place -/
theorem c_M_place (l : Launch) (D : va_G) (ct : Nat → ClassId) (sz : Nat) (q : Nat → Nat) (X : GX) (ch : Nat → Bool) (x : Int32) (zv zf : Int) (hv : mx_fit zv) (hf : mx_fit zf) : gd_ctI l y_M_place k_M_place rm_M_place D ct [.ref (q 0), .int x, .long (mx_l zv), .long (mx_l zf)] sz (wM q ct X ch) (S := GX) (fun r u => r = mx_b (mx_plF X x zv zf).1 ∧ u = (mx_plF X x zv zf).2) (fun u => wM q ct u ch) := by
  refine gd_entI (by decide +kernel) rfl (Nat.le_of_ble_eq_true rfl) (fun p e s m below meth c Q A ls cx hw hl hret => ?_)
  have hx := cx.1
  have hb := cx.2.1
  have hl : lv_has ls 6 [(0, .ref (q 0)), (1, .int x), (2, .long (mx_l zv)), (4, .long (mx_l zf))] := hl
  refine lv_iload_n hx hb d_M_place_0 rfl (lv_at hl 1 rfl) ?_
  refine gd_callSI (As := [.int x]) (rest := []) cx hw (c_M_isPosition l D ct _ x) cs_M_37 ⟨by decide, by decide⟩ ⟨rfl, rfl⟩ rfl hl.1 rfl (Nat.le_of_ble_eq_true rfl) ⟨Nat.zero_le _, Nat.zero_le _⟩ d_M_place_1 (fun r H locs hp hw => ?_)
  subst hp
  refine gd_ifeq (tgt := 29) hx hb d_M_place_4 (by decide) (fun h4 => ?_) (fun h4 => ?_)
  · refine lv_iconst (v := nI 0) hx hb d_M_place_29 (by decide) ?_
    exact hret _ X _ _ _ _ rfl d_M_place_30 (by unfold mx_plF; rw [if_neg (fun h => by rw [h.1] at h4; cases h4)]; exact ⟨rfl, rfl⟩) hw
  · refine lv_lload_n hx hb d_M_place_7 rfl (lv_at hl 2 rfl) ?_
    refine gd_callSI (As := [.long (mx_l zv)]) (rest := []) cx hw (c_M_isValue l D ct _ zv hv) cs_M_41 ⟨by decide, by decide⟩ ⟨rfl, rfl⟩ rfl hl.1 rfl (Nat.le_of_ble_eq_true rfl) ⟨Nat.zero_le _, Nat.zero_le _⟩ d_M_place_8 (fun r H locs hp hw => ?_)
    subst hp
    refine gd_ifeq (tgt := 29) hx hb d_M_place_11 (by decide) (fun h11 => ?_) (fun h11 => ?_)
    · refine lv_iconst (v := nI 0) hx hb d_M_place_29 (by decide) ?_
      exact hret _ X _ _ _ _ rfl d_M_place_30 (by unfold mx_plF; rw [if_neg (fun h => by rw [h.2.1] at h11; cases h11)]; exact ⟨rfl, rfl⟩) hw
    · refine lv_lload hx hb d_M_place_14 (lv_at hl 3 rfl) ?_
      refine gd_callSI (As := [.long (mx_l zf)]) (rest := []) cx hw (c_M_isValue l D ct _ zf hf) cs_M_41 ⟨by decide, by decide⟩ ⟨rfl, rfl⟩ rfl hl.1 rfl (Nat.le_of_ble_eq_true rfl) ⟨Nat.zero_le _, Nat.zero_le _⟩ d_M_place_16 (fun r H locs hp hw => ?_)
      subst hp
      refine gd_ifeq (tgt := 29) hx hb d_M_place_19 (by decide) (fun h19 => ?_) (fun h19 => ?_)
      · refine lv_iconst (v := nI 0) hx hb d_M_place_29 (by decide) ?_
        exact hret _ X _ _ _ _ rfl d_M_place_30 (by unfold mx_plF; rw [if_neg (fun h => by rw [h.2.2.1] at h19; cases h19)]; exact ⟨rfl, rfl⟩) hw
      · refine lv_lload_n hx hb d_M_place_22 rfl (lv_at hl 2 rfl) ?_
        refine lv_lload hx hb d_M_place_23 (lv_at hl 3 rfl) ?_
        refine gd_lge (tgt := 31) hx hb d_M_place_25 d_M_place_26 (by decide) hv hf (fun h26 => ?_) (fun h26 => ?_)
        · have hall : mx_isP x = true ∧ mx_in zv 1000000000000000000 = true ∧ mx_in zf 1000000000000000000 = true ∧ zf ≤ zv := ⟨h4, h11, h19, by omega⟩
          obtain ⟨j, hj, rfl⟩ := mx_isP_of h4
          refine lv_aload_n hx hb d_M_place_31 rfl (lv_at hl 0 rfl) ?_
          refine gd_get (v := .ref (q 1)) i_M cx hw 0 rfl rfl 0 (by decide) tw_252 rfl rfl d_M_place_32 ?_
          refine lv_iload_n hx hb d_M_place_35 rfl (lv_at hl 1 rfl) ?_
          refine lv_lload_n hx hb d_M_place_36 rfl (lv_at hl 2 rfl) ?_
          refine gd_lst (g := fun i9 => mx_l ((va_up (mx_v X) j zv) i9)) (wn := wM q ct (mx_n X, mx_t X, mx_m X, mx_p X, mx_a X, va_up (mx_v X) j zv, mx_f X) ch) cx hw 1 rfl (by omega) (by decide) (gd_hl zv) rfl d_M_place_37 (fun H locs hw => ?_)
          refine lv_aload_n hx hb d_M_place_38 rfl (lv_at hl 0 rfl) ?_
          refine gd_get (v := .ref (q 2)) i_M cx hw 0 rfl rfl 1 (by decide) tw_253 rfl rfl d_M_place_39 ?_
          refine lv_iload_n hx hb d_M_place_42 rfl (lv_at hl 1 rfl) ?_
          refine lv_lload hx hb d_M_place_43 (lv_at hl 3 rfl) ?_
          refine gd_lst (g := fun i9 => mx_l ((va_up (mx_f X) j zf) i9)) (wn := wM q ct (mx_n X, mx_t X, mx_m X, mx_p X, mx_a X, va_up (mx_v X) j zv, va_up (mx_f X) j zf) ch) cx hw 2 rfl (by omega) (by decide) (gd_hl zf) rfl d_M_place_45 (fun H locs hw => ?_)
          refine lv_iconst (v := nI 1) hx hb d_M_place_46 (by decide) ?_
          exact hret _ (mx_n X, mx_t X, mx_m X, mx_p X, mx_a X, va_up (mx_v X) j zv, va_up (mx_f X) j zf) _ _ _ _ rfl d_M_place_47 (by unfold mx_plF; rw [if_pos hall, mx_ti (by omega)]; exact ⟨rfl, rfl⟩) hw
        · refine lv_iconst (v := nI 0) hx hb d_M_place_29 (by decide) ?_
          exact hret _ X _ _ _ _ rfl d_M_place_30 (by unfold mx_plF; rw [if_neg (fun h => by have := h.2.2.2; omega)]; exact ⟨rfl, rfl⟩) hw
set_option maxHeartbeats 4000000 in
set_option maxRecDepth 100000 in
/-- GridDeskModel.item -/
theorem c_M_item (l : Launch) (D : va_G) (ct : Nat → ClassId) (sz : Nat) (q : Nat → Nat) (X : GX) (ch : Nat → Bool) (hX : mx_WF X) : gd_ctI l y_M_item k_M_item rm_M_item D ct [.ref (q 0)] sz (wM q ct X ch) (S := GX) (fun r u => (mx_n X = 200 ∧ r = mx_o none ∧ u = X) ∨ (mx_n X < 200 ∧ r = nI (mx_n X) ∧ u = mx_addX X)) (fun u => wM q ct u ch) := by
  refine gd_entI (by decide +kernel) rfl (Nat.le_of_ble_eq_true rfl) (fun p e s m below meth c Q A ls cx hw hl hret => ?_)
  have hx := cx.1
  have hb := cx.2.1
  have hl : lv_has ls 1 [(0, .ref (q 0))] := hl
  have hn := hX.n
  refine lv_aload_n hx hb d_M_item_0 rfl (lv_at hl 0 rfl) ?_
  refine gd_get (v := .int (nI (mx_n X))) i_M cx hw 0 rfl rfl 2 (by decide) tw_254 rfl rfl d_M_item_1 ?_
  refine lv_sipush (v := nI 200) hx hb d_M_item_4 (by decide) ?_
  refine gd_ne (tgt := 12) hx hb d_M_item_7 (by decide) (by omega) (by omega) (fun h7 => ?_) (fun h7 => ?_)
  · refine lv_aload_n hx hb d_M_item_12 rfl (lv_at hl 0 rfl) ?_
    refine gd_get (v := .ref (q 3)) i_M cx hw 0 rfl rfl 3 (by decide) tw_255 rfl rfl d_M_item_13 ?_
    refine lv_aload_n hx hb d_M_item_16 rfl (lv_at hl 0 rfl) ?_
    refine gd_get (v := .int (nI (mx_n X))) i_M cx hw 0 rfl rfl 2 (by decide) tw_254 rfl rfl d_M_item_17 ?_
    refine lv_iconst (v := nI 1) hx hb d_M_item_20 (by decide) ?_
    refine gd_zst (g := fun i9 => mx_b ((va_up (mx_t X) (mx_n X) true) i9)) (wn := wM q ct (mx_n X, va_up (mx_t X) (mx_n X) true, mx_m X, mx_p X, mx_a X, mx_v X, mx_f X) ch) cx hw 3 rfl (by omega) (by decide) (gd_hz true (by decide)) rfl d_M_item_21 (fun H locs hw => ?_)
    refine lv_aload_n hx hb d_M_item_22 rfl (lv_at hl 0 rfl) ?_
    refine lv_aload_n hx hb d_M_item_23 rfl (lv_at hl 0 rfl) ?_
    refine gd_get (v := .int (nI (mx_n X))) i_M cx hw 0 rfl rfl 2 (by decide) tw_254 rfl rfl d_M_item_24 ?_
    refine lv_iconst (v := nI 1) hx hb d_M_item_27 (by decide) ?_
    refine gd_iadd hx hb d_M_item_28 ?_
    refine gd_put (ty := .int) (wn := wM q ct ((mx_n X) + 1, va_up (mx_t X) (mx_n X) true, mx_m X, mx_p X, mx_a X, mx_v X, mx_f X) ch) i_M t_M t_M_ok n_M cx hw 0 rfl rfl 2 (by decide) tw_254 rfl rfl (by decide +kernel) rfl rfl (Nat.le_of_ble_eq_true rfl) rfl d_M_item_29 (fun H locs hw => ?_)
    refine lv_aload_n hx hb d_M_item_32 rfl (lv_at hl 0 rfl) ?_
    refine gd_get (v := .int (nI ((mx_n X) + 1))) i_M cx hw 0 rfl rfl 2 (by decide) tw_254 rfl rfl d_M_item_33 ?_
    refine lv_iconst (v := nI 1) hx hb d_M_item_36 (by decide) ?_
    refine gd_isub hx hb d_M_item_37 (by omega) ?_
    exact hret _ (mx_addX X) _ _ _ _ rfl d_M_item_38 (Or.inr ⟨by omega, rfl, rfl⟩) hw
  · refine lv_iconst (v := mx_o none) hx hb d_M_item_10 (by decide) ?_
    exact hret _ X _ _ _ _ rfl d_M_item_11 (Or.inl ⟨h7, rfl, rfl⟩) hw
set_option maxHeartbeats 4000000 in
set_option maxRecDepth 100000 in
/-- GridDeskModel.isThere -/
theorem c_M_isThere (l : Launch) (D : va_G) (ct : Nat → ClassId) (sz : Nat) (q : Nat → Nat) (X : GX) (ch : Nat → Bool) (x : Int32) (hn : mx_n X ≤ 200) : gd_ctI l y_M_isThere k_M_isThere rm_M_isThere D ct [.ref (q 0), .int x] sz (wM q ct X ch) (S := Unit) (fun r u => r = mx_b (mx_isT X x)) (fun u => wM q ct X ch) := by
  refine gd_entI (by decide +kernel) rfl (Nat.le_of_ble_eq_true rfl) (fun p e s m below meth c Q A ls cx hw hl hret => ?_)
  have hx := cx.1
  have hb := cx.2.1
  have hl : lv_has ls 2 [(0, .ref (q 0)), (1, .int x)] := hl
  refine lv_iload_n hx hb d_M_isThere_0 rfl (lv_at hl 1 rfl) ?_
  refine lv_if_lt (tgt := 25) hx hb d_M_isThere_1 (by decide) (fun h1 => ?_) (fun h1 => ?_)
  · refine lv_iconst (v := nI 0) hx hb d_M_isThere_25 (by decide) ?_
    exact hret _ () _ _ _ _ rfl d_M_isThere_26 (by rw [mx_isT_neg h1]; rfl) hw
  · obtain ⟨j, hj, rfl⟩ := nI_of h1
    refine lv_iload_n hx hb d_M_isThere_4 rfl (lv_at hl 1 rfl) ?_
    refine lv_aload_n hx hb d_M_isThere_5 rfl (lv_at hl 0 rfl) ?_
    refine gd_get (v := .int (nI (mx_n X))) i_M cx hw 0 rfl rfl 2 (by decide) tw_254 rfl rfl d_M_isThere_6 ?_
    refine gd_ge (tgt := 25) hx hb d_M_isThere_9 (by decide) (by omega) (by omega) (fun h9 => ?_) (fun h9 => ?_)
    · refine lv_iconst (v := nI 0) hx hb d_M_isThere_25 (by decide) ?_
      exact hret _ () _ _ _ _ rfl d_M_isThere_26 (by rw [mx_isT_nI hj, decide_eq_false (by omega)]; rfl) hw
    · refine lv_aload_n hx hb d_M_isThere_12 rfl (lv_at hl 0 rfl) ?_
      refine gd_get (v := .ref (q 3)) i_M cx hw 0 rfl rfl 3 (by decide) tw_255 rfl rfl d_M_isThere_13 ?_
      refine lv_iload_n hx hb d_M_isThere_16 rfl (lv_at hl 1 rfl) ?_
      refine gd_zld (v := mx_b (mx_t X j)) cx hw 3 rfl (by omega) (by decide) rfl d_M_isThere_17 ?_
      refine gd_ifeq (tgt := 25) hx hb d_M_isThere_18 (by decide) (fun h18 => ?_) (fun h18 => ?_)
      · refine lv_iconst (v := nI 0) hx hb d_M_isThere_25 (by decide) ?_
        exact hret _ () _ _ _ _ rfl d_M_isThere_26 (by rw [mx_isT_nI hj, decide_eq_true (by omega), h18]; rfl) hw
      · refine lv_iconst (v := nI 1) hx hb d_M_isThere_21 (by decide) ?_
        refine lv_goto (tgt := 26) hx hb d_M_isThere_22 (by decide) ?_
        exact hret _ () _ _ _ _ rfl d_M_isThere_26 (by rw [mx_isT_nI hj, decide_eq_true (by omega), h18]; rfl) hw
set_option maxHeartbeats 4000000 in
set_option maxRecDepth 100000 in
/-- GridDeskModel.find -/
theorem c_M_find (l : Launch) (D : va_G) (ct : Nat → ClassId) (sz : Nat) (q : Nat → Nat) (X : GX) (ch : Nat → Bool) (i po : Nat) (hX : mx_WF X) (hi : i < 200) (hpo : po < 300) : gd_ctI l y_M_find k_M_find rm_M_find D ct [.ref (q 0), .int (nI i), .int (nI po)] sz (wM q ct X ch) (S := Nat) (fun r u => r = nI (16 * i + u) ∧ ((u < mx_m X i ∧ mx_p X (16 * i + u) = po) ∨ (u = mx_m X i ∧ ∀ k, k < mx_m X i → mx_p X (16 * i + k) ≠ po))) (fun u => wM q ct X ch) := by
  refine gd_entI (by decide +kernel) rfl (Nat.le_of_ble_eq_true rfl) (fun p e s m below meth c Q A ls cx hw hl hret => ?_)
  have hx := cx.1
  have hb := cx.2.1
  have hl : lv_has ls 4 [(0, .ref (q 0)), (1, .int (nI i)), (2, .int (nI po))] := hl
  have hm16 := hX.m i
  have loop : ∀ (d k : Nat), k + d = mx_m X i → (∀ j, j < k → mx_p X (16 * i + j) ≠ po) → ∀ (H : Heap) (locs : List Loc) (ls : Array Slot), gd_Ws D A s (wM q ct X ch) H locs → lv_has ls 4 [(3, .int (nI (16 * i + k))), (0, .ref (q 0)), (1, .int (nI i)), (2, .int (nI po))] → W p l e rm_M_find s m [.ref (q 0), .int (nI i), .int (nI po)].toArray below meth c H locs 0 0 Q (F0 m 5 ls []) := by
    intro d
    induction d with
    | zero =>
      intro k hk hno H locs ls hw hl
      refine lv_iload_n hx hb d_M_find_5 rfl (lv_at hl 0 rfl) ?_
      refine lv_bipush (v := nI 16) hx hb d_M_find_6 (by decide) ?_
      refine lv_iload_n hx hb d_M_find_8 rfl (lv_at hl 2 rfl) ?_
      refine gd_imul hx hb d_M_find_9 ?_
      refine lv_aload_n hx hb d_M_find_10 rfl (lv_at hl 1 rfl) ?_
      refine gd_get (v := .ref (q 5)) i_M cx hw 0 rfl rfl 5 (by decide) tw_257 rfl rfl d_M_find_11 ?_
      refine lv_iload_n hx hb d_M_find_14 rfl (lv_at hl 2 rfl) ?_
      refine gd_ild (v := nI (mx_m X i)) cx hw 5 rfl (by omega) (by decide) rfl d_M_find_15 ?_
      refine gd_iadd hx hb d_M_find_16 ?_
      refine gd_ge (tgt := 37) hx hb d_M_find_17 (by decide) (by omega) (by omega) (fun h17 => ?_) (fun h17 => ?_)
      · refine lv_iload_n hx hb d_M_find_37 rfl (lv_at hl 0 rfl) ?_
        exact hret _ k _ _ _ _ rfl d_M_find_38 ⟨rfl, Or.inr ⟨by omega, fun j hj => hno j (by omega)⟩⟩ hw
      · omega
    | succ d ih =>
      intro k hk hno H locs ls hw hl
      refine lv_iload_n hx hb d_M_find_5 rfl (lv_at hl 0 rfl) ?_
      refine lv_bipush (v := nI 16) hx hb d_M_find_6 (by decide) ?_
      refine lv_iload_n hx hb d_M_find_8 rfl (lv_at hl 2 rfl) ?_
      refine gd_imul hx hb d_M_find_9 ?_
      refine lv_aload_n hx hb d_M_find_10 rfl (lv_at hl 1 rfl) ?_
      refine gd_get (v := .ref (q 5)) i_M cx hw 0 rfl rfl 5 (by decide) tw_257 rfl rfl d_M_find_11 ?_
      refine lv_iload_n hx hb d_M_find_14 rfl (lv_at hl 2 rfl) ?_
      refine gd_ild (v := nI (mx_m X i)) cx hw 5 rfl (by omega) (by decide) rfl d_M_find_15 ?_
      refine gd_iadd hx hb d_M_find_16 ?_
      refine gd_ge (tgt := 37) hx hb d_M_find_17 (by decide) (by omega) (by omega) (fun h17 => ?_) (fun h17 => ?_)
      · omega
      · have hpk := (hX.net (i := i) (k := k) (by omega)).1
        refine lv_aload_n hx hb d_M_find_20 rfl (lv_at hl 1 rfl) ?_
        refine gd_get (v := .ref (q 6)) i_M cx hw 0 rfl rfl 6 (by decide) tw_258 rfl rfl d_M_find_21 ?_
        refine lv_iload_n hx hb d_M_find_24 rfl (lv_at hl 0 rfl) ?_
        refine gd_ild (v := nI (mx_p X (16 * i + k))) cx hw 6 rfl (by omega) (by decide) rfl d_M_find_25 ?_
        refine lv_iload_n hx hb d_M_find_26 rfl (lv_at hl 3 rfl) ?_
        refine gd_eq (tgt := 37) hx hb d_M_find_27 (by decide) (by omega) (by omega) (fun h27 => ?_) (fun h27 => ?_)
        · refine lv_iload_n hx hb d_M_find_37 rfl (lv_at hl 0 rfl) ?_
          exact hret _ k _ _ _ _ rfl d_M_find_38 ⟨rfl, Or.inl ⟨by omega, h27⟩⟩ hw
        · refine lv_iload_n hx hb d_M_find_30 rfl (lv_at hl 0 rfl) ?_
          refine lv_iconst (v := nI 1) hx hb d_M_find_31 (by decide) ?_
          refine gd_iadd hx hb d_M_find_32 ?_
          refine lv_istore_n (lv' := [(3, .int (nI ((16 * i + k) + 1))), (0, .ref (q 0)), (1, .int (nI i)), (2, .int (nI po))]) hx hb d_M_find_33 rfl hl (by decide) rfl (fun ls hl => ?_)
          refine lv_goto (tgt := 5) hx hb d_M_find_34 (by decide) ?_
          exact ih (k + 1) (by omega) (fun j hj => by
            by_cases e : j = k
            · subst e; exact h27
            · exact hno j (by omega)) H locs ls hw (lv_sub hl [0, 1, 2, 3] rfl)
  refine lv_bipush (v := nI 16) hx hb d_M_find_0 (by decide) ?_
  refine lv_iload_n hx hb d_M_find_2 rfl (lv_at hl 1 rfl) ?_
  refine gd_imul hx hb d_M_find_3 ?_
  refine lv_istore_n (lv' := [(3, .int (nI (16 * i))), (0, .ref (q 0)), (1, .int (nI i)), (2, .int (nI po))]) hx hb d_M_find_4 rfl hl (by decide) rfl (fun ls hl => ?_)
  exact loop (mx_m X i) 0 (by omega) (fun j hj => by omega) _ _ ls hw (lv_sub hl [0, 1, 2, 3] rfl)
set_option maxHeartbeats 4000000 in
set_option maxRecDepth 100000 in
/-- GridDeskModel.netAt -/
theorem c_M_netAt (l : Launch) (D : va_G) (ct : Nat → ClassId) (sz : Nat) (q : Nat → Nat) (X : GX) (ch : Nat → Bool) (i po : Nat) (hX : mx_WF X) (hi : i < 200) (hpo : po < 300) : gd_ctL l y_M_netAt k_M_netAt rm_M_netAt D ct [.ref (q 0), .int (nI i), .int (nI po)] sz (wM q ct X ch) (S := Unit) (fun r u => r = mx_l (mx_net X i po)) (fun u => wM q ct X ch) := by
  refine gd_entL (by decide +kernel) rfl (Nat.le_of_ble_eq_true rfl) (fun p e s m below meth c Q A ls cx hw hl hret => ?_)
  have hx := cx.1
  have hb := cx.2.1
  have hl : lv_has ls 4 [(0, .ref (q 0)), (1, .int (nI i)), (2, .int (nI po))] := hl
  have hm16 := hX.m i
  refine lv_aload_n hx hb d_M_netAt_0 rfl (lv_at hl 0 rfl) ?_
  refine lv_iload_n hx hb d_M_netAt_1 rfl (lv_at hl 1 rfl) ?_
  refine lv_iload_n hx hb d_M_netAt_2 rfl (lv_at hl 2 rfl) ?_
  refine gd_callVI (As := [.int (nI i), .int (nI po)]) (rest := []) cx hw (c_M_find l D ct _ q X ch i po hX hi hpo) cv_M_49 ⟨by decide, by decide⟩ ⟨rfl, rfl⟩ [0, 1, 2, 3, 4, 5, 6, 7] rfl rfl 0 4 rfl rfl (gd_jr hw [0, 1, 2, 3, 4, 5, 6, 7] rfl) rfl hl.1 rfl (Nat.le_of_ble_eq_true rfl) ⟨Nat.zero_le _, Nat.zero_le _⟩ d_M_netAt_3 (fun r k H locs hp hw => ?_)
  obtain ⟨rfl, hk⟩ := hp
  have hk3 : k ≤ mx_m X i := by rcases hk with h | h <;> omega
  refine lv_istore_n (lv' := [(3, .int (nI (16 * i + k))), (0, .ref (q 0)), (1, .int (nI i)), (2, .int (nI po))]) hx hb d_M_netAt_6 rfl hl (by decide) rfl (fun ls hl => ?_)
  refine lv_iload_n hx hb d_M_netAt_7 rfl (lv_at hl 0 rfl) ?_
  refine lv_bipush (v := nI 16) hx hb d_M_netAt_8 (by decide) ?_
  refine lv_iload_n hx hb d_M_netAt_10 rfl (lv_at hl 2 rfl) ?_
  refine gd_imul hx hb d_M_netAt_11 ?_
  refine lv_aload_n hx hb d_M_netAt_12 rfl (lv_at hl 1 rfl) ?_
  refine gd_get (v := .ref (q 5)) i_M cx hw 0 rfl rfl 5 (by decide) tw_257 rfl rfl d_M_netAt_13 ?_
  refine lv_iload_n hx hb d_M_netAt_16 rfl (lv_at hl 2 rfl) ?_
  refine gd_ild (v := nI (mx_m X i)) cx hw 5 rfl (by omega) (by decide) rfl d_M_netAt_17 ?_
  refine gd_iadd hx hb d_M_netAt_18 ?_
  refine gd_ge (tgt := 31) hx hb d_M_netAt_19 (by decide) (by omega) (by omega) (fun h19 => ?_) (fun h19 => ?_)
  · refine lv_lconst (v := mx_l 0) hx hb d_M_netAt_31 (by decide) ?_
    exact hret _ () _ _ _ _ d_M_netAt_32 (by rw [mx_net_no (by rcases hk with h | h; omega; exact h.2)]) hw
  · have hk2 : k < mx_m X i ∧ mx_p X (16 * i + k) = po := by
      rcases hk with h | h
      · exact h
      · omega
    refine lv_aload_n hx hb d_M_netAt_22 rfl (lv_at hl 1 rfl) ?_
    refine gd_get (v := .ref (q 7)) i_M cx hw 0 rfl rfl 7 (by decide) tw_259 rfl rfl d_M_netAt_23 ?_
    refine lv_iload_n hx hb d_M_netAt_26 rfl (lv_at hl 0 rfl) ?_
    refine gd_lld (v := mx_l (mx_a X (16 * i + k))) cx hw 7 rfl (by omega) (by decide) rfl d_M_netAt_27 ?_
    refine lv_goto (tgt := 32) hx hb d_M_netAt_28 (by decide) ?_
    exact hret _ () _ _ _ _ d_M_netAt_32 (by rw [mx_net_at hX hk2.1 hk2.2]) hw
set_option maxHeartbeats 4000000 in
set_option maxRecDepth 100000 in
/-- GridDeskModel.net -/
theorem c_M_net (l : Launch) (D : va_G) (ct : Nat → ClassId) (sz : Nat) (q : Nat → Nat) (X : GX) (ch : Nat → Bool) (x y : Int32) (z : Int) (hX : mx_WF X) (hz : mx_fit z) : gd_ctI l y_M_net k_M_net rm_M_net D ct [.ref (q 0), .int x, .int y, .long (mx_l z)] sz (wM q ct X ch) (S := GX) (fun r u => r = mx_b (mx_netG X x y z).1 ∧ mx_Rel u (mx_netG X x y z).2) (fun u => wM q ct u ch) := by
  refine gd_entI (by decide +kernel) rfl (Nat.le_of_ble_eq_true rfl) (fun p e s m below meth c Q A ls cx hw hl hret => ?_)
  have hx := cx.1
  have hb := cx.2.1
  have hl : lv_has ls 9 [(0, .ref (q 0)), (1, .int x), (2, .int y), (3, .long (mx_l z))] := hl
  have hn := hX.n
  refine lv_aload_n hx hb d_M_net_0 rfl (lv_at hl 0 rfl) ?_
  refine lv_iload_n hx hb d_M_net_1 rfl (lv_at hl 1 rfl) ?_
  refine gd_callVI (As := [.int x]) (rest := []) cx hw (c_M_isThere l D ct _ q X ch x hX.n) cv_M_53 ⟨by decide, by decide⟩ ⟨rfl, rfl⟩ [0, 1, 2, 3, 4, 5, 6, 7] rfl rfl 0 4 rfl rfl (gd_jr hw [0, 1, 2, 3, 4, 5, 6, 7] rfl) rfl hl.1 rfl (Nat.le_of_ble_eq_true rfl) ⟨Nat.zero_le _, Nat.zero_le _⟩ d_M_net_2 (fun r u H locs hp hw => ?_)
  subst hp
  refine gd_ifeq (tgt := 15) hx hb d_M_net_5 (by decide) (fun h5 => ?_) (fun h5 => ?_)
  · refine lv_iconst (v := nI 0) hx hb d_M_net_15 (by decide) ?_
    exact hret _ X _ _ _ _ rfl d_M_net_16 (by unfold mx_netG; rw [if_neg (fun h => by rw [h.1] at h5; cases h5)]; exact ⟨rfl, mx_Rel.rf X⟩) hw
  · refine lv_iload_n hx hb d_M_net_8 rfl (lv_at hl 2 rfl) ?_
    refine gd_callSI (As := [.int y]) (rest := []) cx hw (c_M_isPosition l D ct _ y) cs_M_37 ⟨by decide, by decide⟩ ⟨rfl, rfl⟩ rfl hl.1 rfl (Nat.le_of_ble_eq_true rfl) ⟨Nat.zero_le _, Nat.zero_le _⟩ d_M_net_9 (fun r H locs hp hw => ?_)
    subst hp
    refine gd_ifne (tgt := 17) hx hb d_M_net_12 (by decide) (fun h12 => ?_) (fun h12 => ?_)
    · refine lv_lload_n hx hb d_M_net_17 rfl (lv_at hl 3 rfl) ?_
      refine lv_ldc2 (v := mx_l 2000000000000000) hx hb cx.2.2.2.1 (cx.2.2.2.2.1 _ tw_301) d_M_net_18 ?_
      refine gd_lgt (tgt := 33) hx hb d_M_net_21 d_M_net_22 (by decide) hz (by unfold mx_fit; omega) (fun h22 => ?_) (fun h22 => ?_)
      · refine lv_iconst (v := nI 0) hx hb d_M_net_33 (by decide) ?_
        exact hret _ X _ _ _ _ rfl d_M_net_34 (by unfold mx_netG; rw [if_neg (fun h => by have := mx_in_iff.mp h.2.2.1; omega)]; exact ⟨rfl, mx_Rel.rf X⟩) hw
      · refine lv_lload_n hx hb d_M_net_25 rfl (lv_at hl 3 rfl) ?_
        refine lv_ldc2 (v := mx_l (-2000000000000000)) hx hb cx.2.2.2.1 (cx.2.2.2.2.1 _ tw_302) d_M_net_26 ?_
        refine gd_lge (tgt := 35) hx hb d_M_net_29 d_M_net_30 (by decide) hz (by unfold mx_fit; omega) (fun h30 => ?_) (fun h30 => ?_)
        · have hz2 : mx_in z 2000000000000000 = true := mx_in_iff.mpr ⟨by omega, by omega⟩
          obtain ⟨i, hi, hti, rfl⟩ := mx_isT_of h5
          obtain ⟨j, hj, rfl⟩ := mx_isP_of h12
          have hi3 : i < 200 := by omega
          have hnb := mx_net_bound hX i j
          have hm16 := hX.m i
          have ei : (nI i).toInt.toNat = i := mx_ti (by omega)
          have ej : (nI j).toInt.toNat = j := mx_ti (by omega)
          refine lv_aload_n hx hb d_M_net_35 rfl (lv_at hl 0 rfl) ?_
          refine lv_iload_n hx hb d_M_net_36 rfl (lv_at hl 1 rfl) ?_
          refine lv_iload_n hx hb d_M_net_37 rfl (lv_at hl 2 rfl) ?_
          refine gd_callVL (As := [.int (nI i), .int (nI j)]) (rest := []) cx hw (c_M_netAt l D ct _ q X ch i j hX hi3 hj) cv_M_60 ⟨by decide, by decide⟩ ⟨rfl, rfl⟩ [0, 1, 2, 3, 4, 5, 6, 7] rfl rfl 0 4 rfl rfl (gd_jr hw [0, 1, 2, 3, 4, 5, 6, 7] rfl) rfl hl.1 rfl (Nat.le_of_ble_eq_true rfl) ⟨Nat.zero_le _, Nat.zero_le _⟩ d_M_net_38 (fun r u H locs hp hw => ?_)
          subst hp
          refine lv_lload_n hx hb d_M_net_41 rfl (lv_at hl 3 rfl) ?_
          refine gd_ladd hx hb d_M_net_42 ?_
          refine lv_lstore (lv' := [(5, .long (mx_l ((mx_net X i j) + z))), (0, .ref (q 0)), (1, .int (nI i)), (2, .int (nI j)), (3, .long (mx_l z))]) hx hb d_M_net_43 hl (by decide) rfl (fun ls hl => ?_)
          refine lv_lload hx hb d_M_net_45 (lv_at hl 0 rfl) ?_
          refine lv_ldc2 (v := mx_l 1000000000000000) hx hb cx.2.2.2.1 (cx.2.2.2.2.1 _ tw_311) d_M_net_47 ?_
          refine gd_lgt (tgt := 63) hx hb d_M_net_50 d_M_net_51 (by decide) (by unfold mx_fit; omega) (by unfold mx_fit; omega) (fun h51 => ?_) (fun h51 => ?_)
          · refine lv_iconst (v := nI 0) hx hb d_M_net_63 (by decide) ?_
            exact hret _ X _ _ _ _ rfl d_M_net_64 (by unfold mx_netG; rw [if_neg (fun h => by have h9 := mx_in_iff.mp h.2.2.2; rw [ei, ej] at h9; omega)]; exact ⟨rfl, mx_Rel.rf X⟩) hw
          · refine lv_lload hx hb d_M_net_54 (lv_at hl 0 rfl) ?_
            refine lv_ldc2 (v := mx_l (-1000000000000000)) hx hb cx.2.2.2.1 (cx.2.2.2.2.1 _ tw_312) d_M_net_56 ?_
            refine gd_lge (tgt := 65) hx hb d_M_net_59 d_M_net_60 (by decide) (by unfold mx_fit; omega) (by unfold mx_fit; omega) (fun h60 => ?_) (fun h60 => ?_)
            · have hall : mx_isT X (nI i) = true ∧ mx_isP (nI j) = true ∧ mx_in z 2000000000000000 = true ∧ mx_in (mx_net X (nI i).toInt.toNat (nI j).toInt.toNat + z) 1000000000000000 = true := ⟨h5, h12, hz2, by rw [ei, ej]; exact mx_in_iff.mpr ⟨by omega, by omega⟩⟩
              refine lv_aload_n hx hb d_M_net_65 rfl (lv_at hl 1 rfl) ?_
              refine lv_iload_n hx hb d_M_net_66 rfl (lv_at hl 2 rfl) ?_
              refine lv_iload_n hx hb d_M_net_67 rfl (lv_at hl 3 rfl) ?_
              refine gd_callVI (As := [.int (nI i), .int (nI j)]) (rest := []) cx hw (c_M_find l D ct _ q X ch i j hX hi3 hj) cv_M_49 ⟨by decide, by decide⟩ ⟨rfl, rfl⟩ [0, 1, 2, 3, 4, 5, 6, 7] rfl rfl 0 4 rfl rfl (gd_jr hw [0, 1, 2, 3, 4, 5, 6, 7] rfl) rfl hl.1 rfl (Nat.le_of_ble_eq_true rfl) ⟨Nat.zero_le _, Nat.zero_le _⟩ d_M_net_68 (fun r k H locs hp hw => ?_)
              obtain ⟨rfl, hk⟩ := hp
              have hk3 : k ≤ mx_m X i := by rcases hk with h | h <;> omega
              refine lv_istore (lv' := [(7, .int (nI (16 * i + k))), (5, .long (mx_l ((mx_net X i j) + z))), (0, .ref (q 0)), (1, .int (nI i)), (2, .int (nI j)), (3, .long (mx_l z))]) hx hb d_M_net_71 hl (by decide) rfl (fun ls hl => ?_)
              refine lv_bipush (v := nI 16) hx hb d_M_net_73 (by decide) ?_
              refine lv_iload_n hx hb d_M_net_75 rfl (lv_at hl 3 rfl) ?_
              refine gd_imul hx hb d_M_net_76 ?_
              refine lv_aload_n hx hb d_M_net_77 rfl (lv_at hl 2 rfl) ?_
              refine gd_get (v := .ref (q 5)) i_M cx hw 0 rfl rfl 5 (by decide) tw_257 rfl rfl d_M_net_78 ?_
              refine lv_iload_n hx hb d_M_net_81 rfl (lv_at hl 3 rfl) ?_
              refine gd_ild (v := nI (mx_m X i)) cx hw 5 rfl (by omega) (by decide) rfl d_M_net_82 ?_
              refine gd_iadd hx hb d_M_net_83 ?_
              refine lv_istore (lv' := [(8, .int (nI ((16 * i) + (mx_m X i)))), (7, .int (nI (16 * i + k))), (5, .long (mx_l ((mx_net X i j) + z))), (0, .ref (q 0)), (1, .int (nI i)), (2, .int (nI j)), (3, .long (mx_l z))]) hx hb d_M_net_84 hl (by decide) rfl (fun ls hl => ?_)
              refine lv_iload hx hb d_M_net_86 (lv_at hl 1 rfl) ?_
              refine lv_iload hx hb d_M_net_88 (lv_at hl 0 rfl) ?_
              refine gd_ge (tgt := 148) hx hb d_M_net_90 (by decide) (by omega) (by omega) (fun h90 => ?_) (fun h90 => ?_)
              · have hk2 : k = mx_m X i ∧ ∀ k, k < mx_m X i → mx_p X (16 * i + k) ≠ j := by
                  rcases hk with h | h
                  · omega
                  · exact h
                have hnet := mx_net_no hk2.2
                have hfi := mx_fi_no hk2.2
                obtain ⟨rfl, hk2⟩ := hk2
                refine lv_lload hx hb d_M_net_148 (lv_at hl 2 rfl) ?_
                refine lv_lconst (v := mx_l 0) hx hb d_M_net_150 (by decide) ?_
                refine gd_lne (tgt := 157) hx hb d_M_net_151 d_M_net_152 (by decide) (by unfold mx_fit; omega) (by unfold mx_fit; omega) (fun h152 => ?_) (fun h152 => ?_)
                · refine lv_iload hx hb d_M_net_157 (lv_at hl 1 rfl) ?_
                  refine lv_iload hx hb d_M_net_159 (lv_at hl 0 rfl) ?_
                  refine gd_ne (tgt := 177) hx hb d_M_net_161 (by decide) (by omega) (by omega) (fun h161 => ?_) (fun h161 => ?_)
                  · omega
                  · refine lv_aload_n hx hb d_M_net_164 rfl (lv_at hl 3 rfl) ?_
                    refine gd_get (v := .ref (q 5)) i_M cx hw 0 rfl rfl 5 (by decide) tw_257 rfl rfl d_M_net_165 ?_
                    refine lv_iload_n hx hb d_M_net_168 rfl (lv_at hl 4 rfl) ?_
                    refine gd_ild (v := nI (mx_m X i)) cx hw 5 rfl (by omega) (by decide) rfl d_M_net_169 ?_
                    refine lv_bipush (v := nI 16) hx hb d_M_net_170 (by decide) ?_
                    refine gd_ne (tgt := 177) hx hb d_M_net_172 (by decide) (by omega) (by omega) (fun h172 => ?_) (fun h172 => ?_)
                    · refine lv_iload hx hb d_M_net_177 (lv_at hl 1 rfl) ?_
                      refine lv_iload hx hb d_M_net_179 (lv_at hl 0 rfl) ?_
                      refine gd_ne (tgt := 198) hx hb d_M_net_181 (by decide) (by omega) (by omega) (fun h181 => ?_) (fun h181 => ?_)
                      · omega
                      · refine lv_aload_n hx hb d_M_net_184 rfl (lv_at hl 3 rfl) ?_
                        refine gd_get (v := .ref (q 5)) i_M cx hw 0 rfl rfl 5 (by decide) tw_257 rfl rfl d_M_net_185 ?_
                        refine lv_iload_n hx hb d_M_net_188 rfl (lv_at hl 4 rfl) ?_
                        refine lv_aload_n hx hb d_M_net_189 rfl (lv_at hl 3 rfl) ?_
                        refine gd_get (v := .ref (q 5)) i_M cx hw 0 rfl rfl 5 (by decide) tw_257 rfl rfl d_M_net_190 ?_
                        refine lv_iload_n hx hb d_M_net_193 rfl (lv_at hl 4 rfl) ?_
                        refine gd_ild (v := nI (mx_m X i)) cx hw 5 rfl (by omega) (by decide) rfl d_M_net_194 ?_
                        refine lv_iconst (v := nI 1) hx hb d_M_net_195 (by decide) ?_
                        refine gd_iadd hx hb d_M_net_196 ?_
                        refine gd_ist (g := fun i9 => nI ((va_up (mx_m X) i ((mx_m X i) + 1)) i9)) (wn := wM q ct (mx_n X, mx_t X, va_up (mx_m X) i ((mx_m X i) + 1), mx_p X, mx_a X, mx_v X, mx_f X) ch) cx hw 5 rfl (by omega) (by decide) (gd_hi ((mx_m X i) + 1)) rfl d_M_net_197 (fun H locs hw => ?_)
                        refine lv_aload_n hx hb d_M_net_198 rfl (lv_at hl 3 rfl) ?_
                        refine gd_get (v := .ref (q 6)) i_M cx hw 0 rfl rfl 6 (by decide) tw_258 rfl rfl d_M_net_199 ?_
                        refine lv_iload hx hb d_M_net_202 (lv_at hl 1 rfl) ?_
                        refine lv_iload_n hx hb d_M_net_204 rfl (lv_at hl 5 rfl) ?_
                        refine gd_ist (g := fun i9 => nI ((va_up (mx_p X) (16 * i + mx_m X i) j) i9)) (wn := wM q ct (mx_n X, mx_t X, va_up (mx_m X) i ((mx_m X i) + 1), va_up (mx_p X) (16 * i + mx_m X i) j, mx_a X, mx_v X, mx_f X) ch) cx hw 6 rfl (by omega) (by decide) (gd_hi j) rfl d_M_net_205 (fun H locs hw => ?_)
                        refine lv_aload_n hx hb d_M_net_206 rfl (lv_at hl 3 rfl) ?_
                        refine gd_get (v := .ref (q 7)) i_M cx hw 0 rfl rfl 7 (by decide) tw_259 rfl rfl d_M_net_207 ?_
                        refine lv_iload hx hb d_M_net_210 (lv_at hl 1 rfl) ?_
                        refine lv_lload hx hb d_M_net_212 (lv_at hl 2 rfl) ?_
                        refine gd_lst (g := fun i9 => mx_l ((va_up (mx_a X) (16 * i + mx_m X i) ((mx_net X i j) + z)) i9)) (wn := wM q ct (mx_n X, mx_t X, va_up (mx_m X) i ((mx_m X i) + 1), va_up (mx_p X) (16 * i + mx_m X i) j, va_up (mx_a X) (16 * i + mx_m X i) ((mx_net X i j) + z), mx_v X, mx_f X) ch) cx hw 7 rfl (by omega) (by decide) (gd_hl ((mx_net X i j) + z)) rfl d_M_net_214 (fun H locs hw => ?_)
                        refine lv_iconst (v := nI 1) hx hb d_M_net_215 (by decide) ?_
                        exact hret _ (mx_n X, mx_t X, va_up (mx_m X) i ((mx_m X i) + 1), va_up (mx_p X) (16 * i + mx_m X i) j, va_up (mx_a X) (16 * i + mx_m X i) ((mx_net X i j) + z), mx_v X, mx_f X) _ _ _ _ rfl d_M_net_216 (by unfold mx_netG; rw [if_pos hall, ei, ej]; unfold mx_netF; rw [hfi]; dsimp only; rw [if_neg (by omega), if_neg h172]; refine ⟨rfl, ?_⟩; rw [hnet, Int.zero_add]; exact mx_Rel.rf _) hw
                    · refine lv_iconst (v := nI 0) hx hb d_M_net_175 (by decide) ?_
                      exact hret _ X _ _ _ _ rfl d_M_net_176 (by unfold mx_netG; rw [if_pos hall, ei, ej]; unfold mx_netF; rw [hfi]; dsimp only; rw [if_neg (by omega), if_pos h172]; exact ⟨rfl, mx_Rel.rf X⟩) hw
                · refine lv_iconst (v := nI 1) hx hb d_M_net_155 (by decide) ?_
                  exact hret _ X _ _ _ _ rfl d_M_net_156 (by unfold mx_netG; rw [if_pos hall, ei, ej]; unfold mx_netF; rw [hfi]; dsimp only; rw [if_pos (by omega)]; exact ⟨rfl, mx_Rel.rf X⟩) hw
              · have hk2 : k < mx_m X i ∧ mx_p X (16 * i + k) = j := by
                  rcases hk with h | h
                  · exact h
                  · omega
                have hnet := mx_net_at hX hk2.1 hk2.2
                have hfi := mx_fi_at hX hk2.1 hk2.2
                have hpe := hX.net (i := i) (k := mx_m X i - 1) (by omega)
                have he : 16 * i + mx_m X i - 1 = 16 * i + (mx_m X i - 1) := by omega
                refine lv_lload hx hb d_M_net_93 (lv_at hl 2 rfl) ?_
                refine lv_lconst (v := mx_l 0) hx hb d_M_net_95 (by decide) ?_
                refine gd_lne (tgt := 148) hx hb d_M_net_96 d_M_net_97 (by decide) (by unfold mx_fit; omega) (by unfold mx_fit; omega) (fun h97 => ?_) (fun h97 => ?_)
                · refine lv_lload hx hb d_M_net_148 (lv_at hl 2 rfl) ?_
                  refine lv_lconst (v := mx_l 0) hx hb d_M_net_150 (by decide) ?_
                  refine gd_lne (tgt := 157) hx hb d_M_net_151 d_M_net_152 (by decide) (by unfold mx_fit; omega) (by unfold mx_fit; omega) (fun h152 => ?_) (fun h152 => ?_)
                  · refine lv_iload hx hb d_M_net_157 (lv_at hl 1 rfl) ?_
                    refine lv_iload hx hb d_M_net_159 (lv_at hl 0 rfl) ?_
                    refine gd_ne (tgt := 177) hx hb d_M_net_161 (by decide) (by omega) (by omega) (fun h161 => ?_) (fun h161 => ?_)
                    · refine lv_iload hx hb d_M_net_177 (lv_at hl 1 rfl) ?_
                      refine lv_iload hx hb d_M_net_179 (lv_at hl 0 rfl) ?_
                      refine gd_ne (tgt := 198) hx hb d_M_net_181 (by decide) (by omega) (by omega) (fun h181 => ?_) (fun h181 => ?_)
                      · refine lv_aload_n hx hb d_M_net_198 rfl (lv_at hl 3 rfl) ?_
                        refine gd_get (v := .ref (q 6)) i_M cx hw 0 rfl rfl 6 (by decide) tw_258 rfl rfl d_M_net_199 ?_
                        refine lv_iload hx hb d_M_net_202 (lv_at hl 1 rfl) ?_
                        refine lv_iload_n hx hb d_M_net_204 rfl (lv_at hl 5 rfl) ?_
                        refine gd_ist (g := fun i9 => nI ((va_up (mx_p X) (16 * i + k) j) i9)) (wn := wM q ct (mx_n X, mx_t X, mx_m X, va_up (mx_p X) (16 * i + k) j, mx_a X, mx_v X, mx_f X) ch) cx hw 6 rfl (by omega) (by decide) (gd_hi j) rfl d_M_net_205 (fun H locs hw => ?_)
                        refine lv_aload_n hx hb d_M_net_206 rfl (lv_at hl 3 rfl) ?_
                        refine gd_get (v := .ref (q 7)) i_M cx hw 0 rfl rfl 7 (by decide) tw_259 rfl rfl d_M_net_207 ?_
                        refine lv_iload hx hb d_M_net_210 (lv_at hl 1 rfl) ?_
                        refine lv_lload hx hb d_M_net_212 (lv_at hl 2 rfl) ?_
                        refine gd_lst (g := fun i9 => mx_l ((va_up (mx_a X) (16 * i + k) ((mx_net X i j) + z)) i9)) (wn := wM q ct (mx_n X, mx_t X, mx_m X, va_up (mx_p X) (16 * i + k) j, va_up (mx_a X) (16 * i + k) ((mx_net X i j) + z), mx_v X, mx_f X) ch) cx hw 7 rfl (by omega) (by decide) (gd_hl ((mx_net X i j) + z)) rfl d_M_net_214 (fun H locs hw => ?_)
                        refine lv_iconst (v := nI 1) hx hb d_M_net_215 (by decide) ?_
                        exact hret _ (mx_n X, mx_t X, mx_m X, va_up (mx_p X) (16 * i + k) j, va_up (mx_a X) (16 * i + k) ((mx_net X i j) + z), mx_v X, mx_f X) _ _ _ _ rfl d_M_net_216 (by unfold mx_netG; rw [if_pos hall, ei, ej]; unfold mx_netF; rw [hfi]; dsimp only; rw [if_neg (by rw [← hnet]; exact h97), ← hnet]; exact ⟨rfl, mx_Rel.rf _⟩) hw
                      · omega
                    · omega
                  · omega
                · refine lv_aload_n hx hb d_M_net_100 rfl (lv_at hl 3 rfl) ?_
                  refine gd_get (v := .ref (q 6)) i_M cx hw 0 rfl rfl 6 (by decide) tw_258 rfl rfl d_M_net_101 ?_
                  refine lv_iload hx hb d_M_net_104 (lv_at hl 1 rfl) ?_
                  refine lv_aload_n hx hb d_M_net_106 rfl (lv_at hl 3 rfl) ?_
                  refine gd_get (v := .ref (q 6)) i_M cx hw 0 rfl rfl 6 (by decide) tw_258 rfl rfl d_M_net_107 ?_
                  refine lv_iload hx hb d_M_net_110 (lv_at hl 0 rfl) ?_
                  refine lv_iconst (v := nI 1) hx hb d_M_net_112 (by decide) ?_
                  refine gd_isub hx hb d_M_net_113 (by omega) ?_
                  refine gd_ild (v := nI (mx_p X (((16 * i) + (mx_m X i)) - 1))) cx hw 6 rfl (by omega) (by decide) rfl d_M_net_114 ?_
                  refine gd_ist (g := fun i9 => nI ((va_up (mx_p X) (16 * i + k) (mx_p X (((16 * i) + (mx_m X i)) - 1))) i9)) (wn := wM q ct (mx_n X, mx_t X, mx_m X, va_up (mx_p X) (16 * i + k) (mx_p X (((16 * i) + (mx_m X i)) - 1)), mx_a X, mx_v X, mx_f X) ch) cx hw 6 rfl (by omega) (by decide) (gd_hi (mx_p X (((16 * i) + (mx_m X i)) - 1))) rfl d_M_net_115 (fun H locs hw => ?_)
                  refine lv_aload_n hx hb d_M_net_116 rfl (lv_at hl 3 rfl) ?_
                  refine gd_get (v := .ref (q 7)) i_M cx hw 0 rfl rfl 7 (by decide) tw_259 rfl rfl d_M_net_117 ?_
                  refine lv_iload hx hb d_M_net_120 (lv_at hl 1 rfl) ?_
                  refine lv_aload_n hx hb d_M_net_122 rfl (lv_at hl 3 rfl) ?_
                  refine gd_get (v := .ref (q 7)) i_M cx hw 0 rfl rfl 7 (by decide) tw_259 rfl rfl d_M_net_123 ?_
                  refine lv_iload hx hb d_M_net_126 (lv_at hl 0 rfl) ?_
                  refine lv_iconst (v := nI 1) hx hb d_M_net_128 (by decide) ?_
                  refine gd_isub hx hb d_M_net_129 (by omega) ?_
                  refine gd_lld (v := mx_l (mx_a X (((16 * i) + (mx_m X i)) - 1))) cx hw 7 rfl (by omega) (by decide) rfl d_M_net_130 ?_
                  refine gd_lst (g := fun i9 => mx_l ((va_up (mx_a X) (16 * i + k) (mx_a X (((16 * i) + (mx_m X i)) - 1))) i9)) (wn := wM q ct (mx_n X, mx_t X, mx_m X, va_up (mx_p X) (16 * i + k) (mx_p X (((16 * i) + (mx_m X i)) - 1)), va_up (mx_a X) (16 * i + k) (mx_a X (((16 * i) + (mx_m X i)) - 1)), mx_v X, mx_f X) ch) cx hw 7 rfl (by omega) (by decide) (gd_hl (mx_a X (((16 * i) + (mx_m X i)) - 1))) rfl d_M_net_131 (fun H locs hw => ?_)
                  refine lv_aload_n hx hb d_M_net_132 rfl (lv_at hl 3 rfl) ?_
                  refine gd_get (v := .ref (q 5)) i_M cx hw 0 rfl rfl 5 (by decide) tw_257 rfl rfl d_M_net_133 ?_
                  refine lv_iload_n hx hb d_M_net_136 rfl (lv_at hl 4 rfl) ?_
                  refine lv_aload_n hx hb d_M_net_137 rfl (lv_at hl 3 rfl) ?_
                  refine gd_get (v := .ref (q 5)) i_M cx hw 0 rfl rfl 5 (by decide) tw_257 rfl rfl d_M_net_138 ?_
                  refine lv_iload_n hx hb d_M_net_141 rfl (lv_at hl 4 rfl) ?_
                  refine gd_ild (v := nI (mx_m X i)) cx hw 5 rfl (by omega) (by decide) rfl d_M_net_142 ?_
                  refine lv_iconst (v := nI 1) hx hb d_M_net_143 (by decide) ?_
                  refine gd_isub hx hb d_M_net_144 (by omega) ?_
                  refine gd_ist (g := fun i9 => nI ((va_up (mx_m X) i ((mx_m X i) - 1)) i9)) (wn := wM q ct (mx_n X, mx_t X, va_up (mx_m X) i ((mx_m X i) - 1), va_up (mx_p X) (16 * i + k) (mx_p X (((16 * i) + (mx_m X i)) - 1)), va_up (mx_a X) (16 * i + k) (mx_a X (((16 * i) + (mx_m X i)) - 1)), mx_v X, mx_f X) ch) cx hw 5 rfl (by omega) (by decide) (gd_hi ((mx_m X i) - 1)) rfl d_M_net_145 (fun H locs hw => ?_)
                  refine lv_iconst (v := nI 1) hx hb d_M_net_146 (by decide) ?_
                  exact hret _ (mx_n X, mx_t X, va_up (mx_m X) i ((mx_m X i) - 1), va_up (mx_p X) (16 * i + k) (mx_p X (((16 * i) + (mx_m X i)) - 1)), va_up (mx_a X) (16 * i + k) (mx_a X (((16 * i) + (mx_m X i)) - 1)), mx_v X, mx_f X) _ _ _ _ rfl d_M_net_147 (by unfold mx_netG; rw [if_pos hall, ei, ej]; unfold mx_netF; rw [hfi]; dsimp only; rw [if_pos (by rw [← hnet]; exact h97)]; refine ⟨rfl, ?_⟩; unfold mx_del; rw [he]; exact mx_Rel.rf _) hw
            · refine lv_iconst (v := nI 0) hx hb d_M_net_63 (by decide) ?_
              exact hret _ X _ _ _ _ rfl d_M_net_64 (by unfold mx_netG; rw [if_neg (fun h => by have h9 := mx_in_iff.mp h.2.2.2; rw [ei, ej] at h9; omega)]; exact ⟨rfl, mx_Rel.rf X⟩) hw
        · refine lv_iconst (v := nI 0) hx hb d_M_net_33 (by decide) ?_
          exact hret _ X _ _ _ _ rfl d_M_net_34 (by unfold mx_netG; rw [if_neg (fun h => by have := mx_in_iff.mp h.2.2.1; omega)]; exact ⟨rfl, mx_Rel.rf X⟩) hw
    · refine lv_iconst (v := nI 0) hx hb d_M_net_15 (by decide) ?_
      exact hret _ X _ _ _ _ rfl d_M_net_16 (by unfold mx_netG; rw [if_neg (fun h => by rw [h.2.1] at h12; cases h12)]; exact ⟨rfl, mx_Rel.rf X⟩) hw
set_option maxHeartbeats 4000000 in
set_option maxRecDepth 100000 in
/-- GridDeskModel.go -/
theorem c_M_go (l : Launch) (D : va_G) (ct : Nat → ClassId) (sz : Nat) (q : Nat → Nat) (X : GX) (ch : Nat → Bool) (x : Int32) (hX : mx_WF X) : gd_ctI l y_M_go k_M_go rm_M_go D ct [.ref (q 0), .int x] sz (wM q ct X ch) (S := GX) (fun r u => r = mx_b (mx_goF X x).1 ∧ u = (mx_goF X x).2) (fun u => wM q ct u ch) := by
  refine gd_entI (by decide +kernel) rfl (Nat.le_of_ble_eq_true rfl) (fun p e s m below meth c Q A ls cx hw hl hret => ?_)
  have hx := cx.1
  have hb := cx.2.1
  have hl : lv_has ls 2 [(0, .ref (q 0)), (1, .int x)] := hl
  have hn := hX.n
  refine lv_aload_n hx hb d_M_go_0 rfl (lv_at hl 0 rfl) ?_
  refine lv_iload_n hx hb d_M_go_1 rfl (lv_at hl 1 rfl) ?_
  refine gd_callVI (As := [.int x]) (rest := []) cx hw (c_M_isThere l D ct _ q X ch x hX.n) cv_M_53 ⟨by decide, by decide⟩ ⟨rfl, rfl⟩ [0, 1, 2, 3, 4, 5, 6, 7] rfl rfl 0 4 rfl rfl (gd_jr hw [0, 1, 2, 3, 4, 5, 6, 7] rfl) rfl hl.1 rfl (Nat.le_of_ble_eq_true rfl) ⟨Nat.zero_le _, Nat.zero_le _⟩ d_M_go_2 (fun r u H locs hp hw => ?_)
  subst hp
  refine gd_ifne (tgt := 10) hx hb d_M_go_5 (by decide) (fun h5 => ?_) (fun h5 => ?_)
  · obtain ⟨i, hi, hti, rfl⟩ := mx_isT_of h5
    refine lv_aload_n hx hb d_M_go_10 rfl (lv_at hl 0 rfl) ?_
    refine gd_get (v := .ref (q 3)) i_M cx hw 0 rfl rfl 3 (by decide) tw_255 rfl rfl d_M_go_11 ?_
    refine lv_iload_n hx hb d_M_go_14 rfl (lv_at hl 1 rfl) ?_
    refine lv_iconst (v := nI 0) hx hb d_M_go_15 (by decide) ?_
    refine gd_zst (g := fun i9 => mx_b ((va_up (mx_t X) i false) i9)) (wn := wM q ct (mx_n X, va_up (mx_t X) i false, mx_m X, mx_p X, mx_a X, mx_v X, mx_f X) ch) cx hw 3 rfl (by omega) (by decide) (gd_hz false (by decide)) rfl d_M_go_16 (fun H locs hw => ?_)
    refine lv_iconst (v := nI 1) hx hb d_M_go_17 (by decide) ?_
    exact hret _ (mx_n X, va_up (mx_t X) i false, mx_m X, mx_p X, mx_a X, mx_v X, mx_f X) _ _ _ _ rfl d_M_go_18 (by unfold mx_goF; rw [if_pos h5, mx_ti (by omega)]; exact ⟨rfl, rfl⟩) hw
  · refine lv_iconst (v := nI 0) hx hb d_M_go_8 (by decide) ?_
    exact hret _ X _ _ _ _ rfl d_M_go_9 (by unfold mx_goF; rw [if_neg (by rw [h5]; decide)]; exact ⟨rfl, rfl⟩) hw
set_option maxHeartbeats 4000000 in
set_option maxRecDepth 100000 in
/-- GridDeskModel.in -/
theorem c_M_in (l : Launch) (D : va_G) (ct : Nat → ClassId) (sz : Nat) (q : Nat → Nat) (X : GX) (ch : Nat → Bool) (x : Int32) : gd_ctI l y_M_in k_M_in rm_M_in D ct [.ref (q 0), .int x] sz (wM q ct X ch) (S := Unit) (fun r u => r = mx_b (mx_inF 200 ch x)) (fun u => wM q ct X ch) := by
  refine gd_entI (by decide +kernel) rfl (Nat.le_of_ble_eq_true rfl) (fun p e s m below meth c Q A ls cx hw hl hret => ?_)
  have hx := cx.1
  have hb := cx.2.1
  have hl : lv_has ls 2 [(0, .ref (q 0)), (1, .int x)] := hl
  refine lv_iload_n hx hb d_M_in_0 rfl (lv_at hl 1 rfl) ?_
  refine lv_if_lt (tgt := 24) hx hb d_M_in_1 (by decide) (fun h1 => ?_) (fun h1 => ?_)
  · refine lv_iconst (v := nI 0) hx hb d_M_in_24 (by decide) ?_
    exact hret _ () _ _ _ _ rfl d_M_in_25 (by rw [mx_inF_neg h1]; rfl) hw
  · obtain ⟨j, hj, rfl⟩ := nI_of h1
    refine lv_iload_n hx hb d_M_in_4 rfl (lv_at hl 1 rfl) ?_
    refine lv_sipush (v := nI 200) hx hb d_M_in_5 (by decide) ?_
    refine gd_ge (tgt := 24) hx hb d_M_in_8 (by decide) (by omega) (by omega) (fun h8 => ?_) (fun h8 => ?_)
    · refine lv_iconst (v := nI 0) hx hb d_M_in_24 (by decide) ?_
      exact hret _ () _ _ _ _ rfl d_M_in_25 (by rw [mx_inF_nI hj, decide_eq_false (by omega)]; rfl) hw
    · refine lv_aload_n hx hb d_M_in_11 rfl (lv_at hl 0 rfl) ?_
      refine gd_get (v := .ref (q 4)) i_M cx hw 0 rfl rfl 4 (by decide) tw_256 rfl rfl d_M_in_12 ?_
      refine lv_iload_n hx hb d_M_in_15 rfl (lv_at hl 1 rfl) ?_
      refine gd_zld (v := mx_b (ch j)) cx hw 4 rfl (by omega) (by decide) rfl d_M_in_16 ?_
      refine gd_ifeq (tgt := 24) hx hb d_M_in_17 (by decide) (fun h17 => ?_) (fun h17 => ?_)
      · refine lv_iconst (v := nI 0) hx hb d_M_in_24 (by decide) ?_
        exact hret _ () _ _ _ _ rfl d_M_in_25 (by rw [mx_inF_nI hj, decide_eq_true (by omega), h17]; rfl) hw
      · refine lv_iconst (v := nI 1) hx hb d_M_in_20 (by decide) ?_
        refine lv_goto (tgt := 25) hx hb d_M_in_21 (by decide) ?_
        exact hret _ () _ _ _ _ rfl d_M_in_25 (by rw [mx_inF_nI hj, decide_eq_true (by omega), h17]; rfl) hw
set_option maxHeartbeats 4000000 in
set_option maxRecDepth 100000 in
/-- GridDeskModel.value -/
theorem c_M_value (l : Launch) (D : va_G) (ct : Nat → ClassId) (sz : Nat) (q : Nat → Nat) (X : GX) (ch : Nat → Bool) (x : Int32) : gd_ctL l y_M_value k_M_value rm_M_value D ct [.ref (q 0), .int x] sz (wM q ct X ch) (S := Unit) (fun r u => r = mx_l (mx_vF X x)) (fun u => wM q ct X ch) := by
  refine gd_entL (by decide +kernel) rfl (Nat.le_of_ble_eq_true rfl) (fun p e s m below meth c Q A ls cx hw hl hret => ?_)
  have hx := cx.1
  have hb := cx.2.1
  have hl : lv_has ls 2 [(0, .ref (q 0)), (1, .int x)] := hl
  refine lv_iload_n hx hb d_M_value_0 rfl (lv_at hl 1 rfl) ?_
  refine gd_callSI (As := [.int x]) (rest := []) cx hw (c_M_isPosition l D ct _ x) cs_M_37 ⟨by decide, by decide⟩ ⟨rfl, rfl⟩ rfl hl.1 rfl (Nat.le_of_ble_eq_true rfl) ⟨Nat.zero_le _, Nat.zero_le _⟩ d_M_value_1 (fun r H locs hp hw => ?_)
  subst hp
  refine gd_ifeq (tgt := 16) hx hb d_M_value_4 (by decide) (fun h4 => ?_) (fun h4 => ?_)
  · refine lv_lconst (v := mx_l 0) hx hb d_M_value_16 (by decide) ?_
    exact hret _ () _ _ _ _ d_M_value_17 (by unfold mx_vF; rw [if_neg (by rw [h4]; decide)]) hw
  · obtain ⟨j, hj, rfl⟩ := mx_isP_of h4
    refine lv_aload_n hx hb d_M_value_7 rfl (lv_at hl 0 rfl) ?_
    refine gd_get (v := .ref (q 1)) i_M cx hw 0 rfl rfl 0 (by decide) tw_252 rfl rfl d_M_value_8 ?_
    refine lv_iload_n hx hb d_M_value_11 rfl (lv_at hl 1 rfl) ?_
    refine gd_lld (v := mx_l (mx_v X j)) cx hw 1 rfl (by omega) (by decide) rfl d_M_value_12 ?_
    refine lv_goto (tgt := 17) hx hb d_M_value_13 (by decide) ?_
    exact hret _ () _ _ _ _ d_M_value_17 (by unfold mx_vF; rw [if_pos h4, mx_ti (by omega)]) hw
set_option maxHeartbeats 4000000 in
set_option maxRecDepth 100000 in
/-- GridDeskModel.netOf -/
theorem c_M_netOf (l : Launch) (D : va_G) (ct : Nat → ClassId) (sz : Nat) (q : Nat → Nat) (X : GX) (ch : Nat → Bool) (x y : Int32) (hX : mx_WF X) : gd_ctL l y_M_netOf k_M_netOf rm_M_netOf D ct [.ref (q 0), .int x, .int y] sz (wM q ct X ch) (S := Unit) (fun r u => r = mx_l (mx_nF X x y)) (fun u => wM q ct X ch) := by
  refine gd_entL (by decide +kernel) rfl (Nat.le_of_ble_eq_true rfl) (fun p e s m below meth c Q A ls cx hw hl hret => ?_)
  have hx := cx.1
  have hb := cx.2.1
  have hl : lv_has ls 3 [(0, .ref (q 0)), (1, .int x), (2, .int y)] := hl
  have hn := hX.n
  refine lv_aload_n hx hb d_M_netOf_0 rfl (lv_at hl 0 rfl) ?_
  refine lv_iload_n hx hb d_M_netOf_1 rfl (lv_at hl 1 rfl) ?_
  refine gd_callVI (As := [.int x]) (rest := []) cx hw (c_M_isThere l D ct _ q X ch x hX.n) cv_M_53 ⟨by decide, by decide⟩ ⟨rfl, rfl⟩ [0, 1, 2, 3, 4, 5, 6, 7] rfl rfl 0 4 rfl rfl (gd_jr hw [0, 1, 2, 3, 4, 5, 6, 7] rfl) rfl hl.1 rfl (Nat.le_of_ble_eq_true rfl) ⟨Nat.zero_le _, Nat.zero_le _⟩ d_M_netOf_2 (fun r u H locs hp hw => ?_)
  subst hp
  refine gd_ifeq (tgt := 24) hx hb d_M_netOf_5 (by decide) (fun h5 => ?_) (fun h5 => ?_)
  · refine lv_lconst (v := mx_l 0) hx hb d_M_netOf_24 (by decide) ?_
    exact hret _ () _ _ _ _ d_M_netOf_25 (by unfold mx_nF; rw [if_neg (fun h => by rw [h.1] at h5; cases h5)]) hw
  · refine lv_iload_n hx hb d_M_netOf_8 rfl (lv_at hl 2 rfl) ?_
    refine gd_callSI (As := [.int y]) (rest := []) cx hw (c_M_isPosition l D ct _ y) cs_M_37 ⟨by decide, by decide⟩ ⟨rfl, rfl⟩ rfl hl.1 rfl (Nat.le_of_ble_eq_true rfl) ⟨Nat.zero_le _, Nat.zero_le _⟩ d_M_netOf_9 (fun r H locs hp hw => ?_)
    subst hp
    refine gd_ifeq (tgt := 24) hx hb d_M_netOf_12 (by decide) (fun h12 => ?_) (fun h12 => ?_)
    · refine lv_lconst (v := mx_l 0) hx hb d_M_netOf_24 (by decide) ?_
      exact hret _ () _ _ _ _ d_M_netOf_25 (by unfold mx_nF; rw [if_neg (fun h => by rw [h.2] at h12; cases h12)]) hw
    · have hall : mx_isT X x = true ∧ mx_isP y = true := ⟨h5, h12⟩
      obtain ⟨i, hi, hti, rfl⟩ := mx_isT_of h5
      obtain ⟨j, hj, rfl⟩ := mx_isP_of h12
      have hi3 : i < 200 := by omega
      refine lv_aload_n hx hb d_M_netOf_15 rfl (lv_at hl 0 rfl) ?_
      refine lv_iload_n hx hb d_M_netOf_16 rfl (lv_at hl 1 rfl) ?_
      refine lv_iload_n hx hb d_M_netOf_17 rfl (lv_at hl 2 rfl) ?_
      refine gd_callVL (As := [.int (nI i), .int (nI j)]) (rest := []) cx hw (c_M_netAt l D ct _ q X ch i j hX hi3 hj) cv_M_60 ⟨by decide, by decide⟩ ⟨rfl, rfl⟩ [0, 1, 2, 3, 4, 5, 6, 7] rfl rfl 0 4 rfl rfl (gd_jr hw [0, 1, 2, 3, 4, 5, 6, 7] rfl) rfl hl.1 rfl (Nat.le_of_ble_eq_true rfl) ⟨Nat.zero_le _, Nat.zero_le _⟩ d_M_netOf_18 (fun r u H locs hp hw => ?_)
      subst hp
      refine lv_goto (tgt := 25) hx hb d_M_netOf_21 (by decide) ?_
      exact hret _ () _ _ _ _ d_M_netOf_25 (by unfold mx_nF; rw [if_pos hall, mx_ti (by omega), mx_ti (by omega)]) hw
set_option maxHeartbeats 4000000 in
set_option maxRecDepth 100000 in
/-- count -/
theorem c_M_count (l : Launch) (D : va_G) (ct : Nat → ClassId) (sz : Nat) (q : Nat → Nat) (X : GX) (ch : Nat → Bool) (x : Int32) : gd_ctI l y_M_count k_M_count rm_M_count D ct [.ref (q 0), .int x] sz (wM q ct X ch) (S := Unit) (fun r u => r = mx_cF (mx_n X) (mx_cnt (mx_t X) 200) (mx_cnt ch 200) x) (fun u => wM q ct X ch) := by
  refine gd_entI (by decide +kernel) rfl (Nat.le_of_ble_eq_true rfl) (fun p e s m below meth c Q A ls cx hw hl hret => ?_)
  have hx := cx.1
  have hb := cx.2.1
  have hl : lv_has ls 5 [(0, .ref (q 0)), (1, .int x)] := hl
  skip
  have loop : ∀ (d i : Nat), i + d = 200 → ∀ (H : Heap) (locs : List Loc) (ls : Array Slot), gd_Ws D A s (wM q ct X ch) H locs → lv_has ls 5 [(4, .int (nI i)), (3, .int (nI (mx_cnt ch i))), (2, .int (nI (mx_cnt (mx_t X) i))), (0, .ref (q 0)), (1, .int x)] → W p l e rm_M_count s m [.ref (q 0), .int x].toArray below meth c H locs 0 0 Q (F0 m 7 ls []) := by
    intro d
    induction d with
    | zero =>
      intro i hi H locs ls hw hl
      refine lv_iload hx hb d_M_count_7 (lv_at hl 0 rfl) ?_
      refine lv_sipush (v := nI 200) hx hb d_M_count_9 (by decide) ?_
      refine gd_ge (tgt := 57) hx hb d_M_count_12 (by decide) (by omega) (by omega) (fun h12 => ?_) (fun h12 => ?_)
      · have e0 : i = 200 := by omega
        refine lv_iload_n hx hb d_M_count_57 rfl (lv_at hl 4 rfl) ?_
        refine lv_if_ne (tgt := 68) hx hb d_M_count_58 (by decide) (fun h58 => ?_) (fun h58 => ?_)
        · refine lv_iload_n hx hb d_M_count_68 rfl (lv_at hl 4 rfl) ?_
          refine lv_iconst (v := nI 1) hx hb d_M_count_69 (by decide) ?_
          refine lv_icmp_ne (tgt := 77) hx hb d_M_count_70 (by decide) (fun h70 => ?_) (fun h70 => ?_)
          · refine lv_iload_n hx hb d_M_count_77 rfl (lv_at hl 4 rfl) ?_
            refine lv_iconst (v := nI 2) hx hb d_M_count_78 (by decide) ?_
            refine lv_icmp_ne (tgt := 86) hx hb d_M_count_79 (by decide) (fun h79 => ?_) (fun h79 => ?_)
            · refine lv_iconst (v := mx_o none) hx hb d_M_count_86 (by decide) ?_
              exact hret _ () _ _ _ _ rfl d_M_count_87 (by unfold mx_cF; rw [if_neg h58, if_neg h70, if_neg h79]) hw
            · refine lv_iload_n hx hb d_M_count_82 rfl (lv_at hl 1 rfl) ?_
              refine lv_goto (tgt := 87) hx hb d_M_count_83 (by decide) ?_
              exact hret _ () _ _ _ _ rfl d_M_count_87 (by unfold mx_cF; rw [if_neg h58, if_neg h70, if_pos h79, e0]) hw
          · refine lv_iload_n hx hb d_M_count_73 rfl (lv_at hl 2 rfl) ?_
            refine lv_goto (tgt := 87) hx hb d_M_count_74 (by decide) ?_
            exact hret _ () _ _ _ _ rfl d_M_count_87 (by unfold mx_cF; rw [if_neg h58, if_pos h70, e0]) hw
        · refine lv_aload_n hx hb d_M_count_61 rfl (lv_at hl 3 rfl) ?_
          refine gd_get (v := .int (nI (mx_n X))) i_M cx hw 0 rfl rfl 2 (by decide) tw_254 rfl rfl d_M_count_62 ?_
          refine lv_goto (tgt := 87) hx hb d_M_count_65 (by decide) ?_
          exact hret _ () _ _ _ _ rfl d_M_count_87 (by unfold mx_cF; rw [if_pos h58]) hw
      · omega
    | succ d ih =>
      intro i hi H locs ls hw hl
      refine lv_iload hx hb d_M_count_7 (lv_at hl 0 rfl) ?_
      refine lv_sipush (v := nI 200) hx hb d_M_count_9 (by decide) ?_
      refine gd_ge (tgt := 57) hx hb d_M_count_12 (by decide) (by omega) (by omega) (fun h12 => ?_) (fun h12 => ?_)
      · omega
      · refine lv_iload_n hx hb d_M_count_15 rfl (lv_at hl 2 rfl) ?_
        refine lv_aload_n hx hb d_M_count_16 rfl (lv_at hl 3 rfl) ?_
        refine gd_get (v := .ref (q 3)) i_M cx hw 0 rfl rfl 3 (by decide) tw_255 rfl rfl d_M_count_17 ?_
        refine lv_iload hx hb d_M_count_20 (lv_at hl 0 rfl) ?_
        refine gd_zld (v := mx_b (mx_t X i)) cx hw 3 rfl (by omega) (by decide) rfl d_M_count_22 ?_
        refine gd_ifeq (tgt := 30) hx hb d_M_count_23 (by decide) (fun h23 => ?_) (fun h23 => ?_)
        · refine lv_iconst (v := nI 0) hx hb d_M_count_30 (by decide) ?_
          refine gd_iadd hx hb d_M_count_31 ?_
          refine lv_istore_n (lv' := [(2, .int (nI ((mx_cnt (mx_t X) i) + 0))), (4, .int (nI i)), (3, .int (nI (mx_cnt ch i))), (0, .ref (q 0)), (1, .int x)]) hx hb d_M_count_32 rfl hl (by decide) rfl (fun ls hl => ?_)
          refine lv_iload_n hx hb d_M_count_33 rfl (lv_at hl 2 rfl) ?_
          refine lv_aload_n hx hb d_M_count_34 rfl (lv_at hl 3 rfl) ?_
          refine gd_get (v := .ref (q 4)) i_M cx hw 0 rfl rfl 4 (by decide) tw_256 rfl rfl d_M_count_35 ?_
          refine lv_iload hx hb d_M_count_38 (lv_at hl 1 rfl) ?_
          refine gd_zld (v := mx_b (ch i)) cx hw 4 rfl (by omega) (by decide) rfl d_M_count_40 ?_
          refine gd_ifeq (tgt := 48) hx hb d_M_count_41 (by decide) (fun h41 => ?_) (fun h41 => ?_)
          · refine lv_iconst (v := nI 0) hx hb d_M_count_48 (by decide) ?_
            refine gd_iadd hx hb d_M_count_49 ?_
            refine lv_istore_n (lv' := [(3, .int (nI ((mx_cnt ch i) + 0))), (2, .int (nI ((mx_cnt (mx_t X) i) + 0))), (4, .int (nI i)), (0, .ref (q 0)), (1, .int x)]) hx hb d_M_count_50 rfl hl (by decide) rfl (fun ls hl => ?_)
            refine lv_iinc (v := nI (i + 1)) (lv' := [(4, .int (nI (i + 1))), (3, .int (nI ((mx_cnt ch i) + 0))), (2, .int (nI ((mx_cnt (mx_t X) i) + 0))), (0, .ref (q 0)), (1, .int x)]) hx hb d_M_count_51 hl (k := 2) rfl (gd_inc1 _) (by decide) rfl (fun ls hl => ?_)
            refine lv_goto (tgt := 7) hx hb d_M_count_54 (by decide) ?_
            have e1 : mx_cnt (mx_t X) (i + 1) = (mx_cnt (mx_t X) i) + 0 := by
              show mx_cnt (mx_t X) i + (if mx_t X i = true then 1 else 0) = _
              rw [if_neg (by rw [h23]; decide)]
            have e2 : mx_cnt ch (i + 1) = (mx_cnt ch i) + 0 := by
              show mx_cnt ch i + (if ch i = true then 1 else 0) = _
              rw [if_neg (by rw [h41]; decide)]
            exact ih (i + 1) (by omega) H locs ls hw (by rw [e1, e2]; exact lv_sub hl [0, 1, 2, 3, 4] rfl)
          · refine lv_iconst (v := nI 1) hx hb d_M_count_44 (by decide) ?_
            refine lv_goto (tgt := 49) hx hb d_M_count_45 (by decide) ?_
            refine gd_iadd hx hb d_M_count_49 ?_
            refine lv_istore_n (lv' := [(3, .int (nI ((mx_cnt ch i) + 1))), (2, .int (nI ((mx_cnt (mx_t X) i) + 0))), (4, .int (nI i)), (0, .ref (q 0)), (1, .int x)]) hx hb d_M_count_50 rfl hl (by decide) rfl (fun ls hl => ?_)
            refine lv_iinc (v := nI (i + 1)) (lv' := [(4, .int (nI (i + 1))), (3, .int (nI ((mx_cnt ch i) + 1))), (2, .int (nI ((mx_cnt (mx_t X) i) + 0))), (0, .ref (q 0)), (1, .int x)]) hx hb d_M_count_51 hl (k := 2) rfl (gd_inc1 _) (by decide) rfl (fun ls hl => ?_)
            refine lv_goto (tgt := 7) hx hb d_M_count_54 (by decide) ?_
            have e1 : mx_cnt (mx_t X) (i + 1) = (mx_cnt (mx_t X) i) + 0 := by
              show mx_cnt (mx_t X) i + (if mx_t X i = true then 1 else 0) = _
              rw [if_neg (by rw [h23]; decide)]
            have e2 : mx_cnt ch (i + 1) = (mx_cnt ch i) + 1 := by
              show mx_cnt ch i + (if ch i = true then 1 else 0) = _
              rw [if_pos h41]
            exact ih (i + 1) (by omega) H locs ls hw (by rw [e1, e2]; exact lv_sub hl [0, 1, 2, 3, 4] rfl)
        · refine lv_iconst (v := nI 1) hx hb d_M_count_26 (by decide) ?_
          refine lv_goto (tgt := 31) hx hb d_M_count_27 (by decide) ?_
          refine gd_iadd hx hb d_M_count_31 ?_
          refine lv_istore_n (lv' := [(2, .int (nI ((mx_cnt (mx_t X) i) + 1))), (4, .int (nI i)), (3, .int (nI (mx_cnt ch i))), (0, .ref (q 0)), (1, .int x)]) hx hb d_M_count_32 rfl hl (by decide) rfl (fun ls hl => ?_)
          refine lv_iload_n hx hb d_M_count_33 rfl (lv_at hl 2 rfl) ?_
          refine lv_aload_n hx hb d_M_count_34 rfl (lv_at hl 3 rfl) ?_
          refine gd_get (v := .ref (q 4)) i_M cx hw 0 rfl rfl 4 (by decide) tw_256 rfl rfl d_M_count_35 ?_
          refine lv_iload hx hb d_M_count_38 (lv_at hl 1 rfl) ?_
          refine gd_zld (v := mx_b (ch i)) cx hw 4 rfl (by omega) (by decide) rfl d_M_count_40 ?_
          refine gd_ifeq (tgt := 48) hx hb d_M_count_41 (by decide) (fun h41 => ?_) (fun h41 => ?_)
          · refine lv_iconst (v := nI 0) hx hb d_M_count_48 (by decide) ?_
            refine gd_iadd hx hb d_M_count_49 ?_
            refine lv_istore_n (lv' := [(3, .int (nI ((mx_cnt ch i) + 0))), (2, .int (nI ((mx_cnt (mx_t X) i) + 1))), (4, .int (nI i)), (0, .ref (q 0)), (1, .int x)]) hx hb d_M_count_50 rfl hl (by decide) rfl (fun ls hl => ?_)
            refine lv_iinc (v := nI (i + 1)) (lv' := [(4, .int (nI (i + 1))), (3, .int (nI ((mx_cnt ch i) + 0))), (2, .int (nI ((mx_cnt (mx_t X) i) + 1))), (0, .ref (q 0)), (1, .int x)]) hx hb d_M_count_51 hl (k := 2) rfl (gd_inc1 _) (by decide) rfl (fun ls hl => ?_)
            refine lv_goto (tgt := 7) hx hb d_M_count_54 (by decide) ?_
            have e1 : mx_cnt (mx_t X) (i + 1) = (mx_cnt (mx_t X) i) + 1 := by
              show mx_cnt (mx_t X) i + (if mx_t X i = true then 1 else 0) = _
              rw [if_pos h23]
            have e2 : mx_cnt ch (i + 1) = (mx_cnt ch i) + 0 := by
              show mx_cnt ch i + (if ch i = true then 1 else 0) = _
              rw [if_neg (by rw [h41]; decide)]
            exact ih (i + 1) (by omega) H locs ls hw (by rw [e1, e2]; exact lv_sub hl [0, 1, 2, 3, 4] rfl)
          · refine lv_iconst (v := nI 1) hx hb d_M_count_44 (by decide) ?_
            refine lv_goto (tgt := 49) hx hb d_M_count_45 (by decide) ?_
            refine gd_iadd hx hb d_M_count_49 ?_
            refine lv_istore_n (lv' := [(3, .int (nI ((mx_cnt ch i) + 1))), (2, .int (nI ((mx_cnt (mx_t X) i) + 1))), (4, .int (nI i)), (0, .ref (q 0)), (1, .int x)]) hx hb d_M_count_50 rfl hl (by decide) rfl (fun ls hl => ?_)
            refine lv_iinc (v := nI (i + 1)) (lv' := [(4, .int (nI (i + 1))), (3, .int (nI ((mx_cnt ch i) + 1))), (2, .int (nI ((mx_cnt (mx_t X) i) + 1))), (0, .ref (q 0)), (1, .int x)]) hx hb d_M_count_51 hl (k := 2) rfl (gd_inc1 _) (by decide) rfl (fun ls hl => ?_)
            refine lv_goto (tgt := 7) hx hb d_M_count_54 (by decide) ?_
            have e1 : mx_cnt (mx_t X) (i + 1) = (mx_cnt (mx_t X) i) + 1 := by
              show mx_cnt (mx_t X) i + (if mx_t X i = true then 1 else 0) = _
              rw [if_pos h23]
            have e2 : mx_cnt ch (i + 1) = (mx_cnt ch i) + 1 := by
              show mx_cnt ch i + (if ch i = true then 1 else 0) = _
              rw [if_pos h41]
            exact ih (i + 1) (by omega) H locs ls hw (by rw [e1, e2]; exact lv_sub hl [0, 1, 2, 3, 4] rfl)
  refine lv_iconst (v := nI 0) hx hb d_M_count_0 (by decide) ?_
  refine lv_istore_n (lv' := [(2, .int (nI 0)), (0, .ref (q 0)), (1, .int x)]) hx hb d_M_count_1 rfl hl (by decide) rfl (fun ls hl => ?_)
  refine lv_iconst (v := nI 0) hx hb d_M_count_2 (by decide) ?_
  refine lv_istore_n (lv' := [(3, .int (nI 0)), (2, .int (nI 0)), (0, .ref (q 0)), (1, .int x)]) hx hb d_M_count_3 rfl hl (by decide) rfl (fun ls hl => ?_)
  refine lv_iconst (v := nI 0) hx hb d_M_count_4 (by decide) ?_
  refine lv_istore (lv' := [(4, .int (nI 0)), (3, .int (nI 0)), (2, .int (nI 0)), (0, .ref (q 0)), (1, .int x)]) hx hb d_M_count_5 hl (by decide) rfl (fun ls hl => ?_)
  exact loop 200 0 (by omega) _ _ ls hw (lv_sub hl [0, 1, 2, 3, 4] rfl)
end
section
/-! PURE: the reference's way -/
def mx_lt (X : GX) (ch : Nat → Bool) (po i : Nat) (o : Option Nat) : Prop := match o with
  | none => ∀ j, j < i → ch j = true → ¬ mx_net X j po < 0
  | some t => t < i ∧ ch t = true ∧ mx_net X t po < 0 ∧ ∀ j, t < j → j < i → ch j = true → ¬ mx_net X j po < 0
theorem mx_lt_no {X : GX} {ch : Nat → Bool} {po i : Nat} {o : Option Nat} (h : mx_lt X ch po i o) (hn : ch i = true → ¬ mx_net X i po < 0) : mx_lt X ch po (i + 1) o := by
  cases o with
  | none =>
    intro j hj hc
    by_cases e : j = i
    · subst e; exact hn hc
    · exact h j (by omega) hc
  | some t =>
    obtain ⟨h1, h2, h3, h4⟩ := h
    refine ⟨by omega, h2, h3, fun j hj hji hc => ?_⟩
    by_cases e : j = i
    · subst e; exact hn hc
    · exact h4 j hj (by omega) hc
theorem mx_lt_yes {X : GX} {ch : Nat → Bool} {po i : Nat} (h1 : ch i = true) (h2 : mx_net X i po < 0) : mx_lt X ch po (i + 1) (some i) := ⟨by omega, h1, h2, fun j hj hji _ => by omega⟩
def mx_me (X : GX) (a b k : Nat) (bo : Bool) : Prop := bo = true ↔ ∃ j, j < k ∧ mx_a X (16 * a + j) < 0 ∧ mx_net X b (mx_p X (16 * a + j)) < 0
theorem mx_me_yes {X : GX} {a b k : Nat} {bo : Bool} (h : mx_me X a b k bo) (hy : bo = true ∨ (mx_a X (16 * a + k) < 0 ∧ mx_net X b (mx_p X (16 * a + k)) < 0)) : mx_me X a b (k + 1) true := by
  refine ⟨fun _ => ?_, fun _ => rfl⟩
  rcases hy with hy | hy
  · obtain ⟨j, h1, h2⟩ := h.mp hy
    exact ⟨j, by omega, h2⟩
  · exact ⟨k, by omega, hy⟩
theorem mx_me_no {X : GX} {a b k : Nat} {bo : Bool} (h : mx_me X a b k bo) (hb : bo = false) (hn : ¬ (mx_a X (16 * a + k) < 0 ∧ mx_net X b (mx_p X (16 * a + k)) < 0)) : mx_me X a b (k + 1) false := by
  refine ⟨fun q => (by cases q), ?_⟩
  rintro ⟨j, h1, h2⟩
  exfalso
  by_cases e : j = k
  · subst e; exact hn h2
  · have := h.mpr ⟨j, by omega, h2⟩
    rw [hb] at this; cases this
def mx_mt (X : GX) (a b : Nat) : Prop := ∃ po, mx_net X a po < 0 ∧ mx_net X b po < 0
theorem mx_me_end {X : GX} (hX : mx_WF X) {a b k : Nat} {bo : Bool} (hk : k = mx_m X a) (h : mx_me X a b k bo) : bo = true ↔ mx_mt X a b := by
  subst hk
  refine h.trans ⟨?_, ?_⟩
  · rintro ⟨j, h1, h2, h3⟩
    exact ⟨mx_p X (16 * a + j), by rw [mx_net_at hX h1 rfl]; exact h2, h3⟩
  · rintro ⟨po, h1, h2⟩
    obtain ⟨j, g1, g2, g3⟩ := mx_net_neg hX h1
    exact ⟨j, g1, g3, by rw [g2]; exact h2⟩
def mx_ly (X : GX) (ch : Nat → Bool) (i k : Nat) (bo : Bool) : Prop := bo = true ↔ ∃ j, j < k ∧ mx_t X j = true ∧ ch j = false ∧ mx_mt X j i
theorem mx_ly_yes {X : GX} {ch : Nat → Bool} {i k : Nat} {bo : Bool} (h : mx_ly X ch i k bo) (hy : bo = true ∨ (mx_t X k = true ∧ ch k = false ∧ mx_mt X k i)) : mx_ly X ch i (k + 1) true := by
  refine ⟨fun _ => ?_, fun _ => rfl⟩
  rcases hy with hy | hy
  · obtain ⟨j, h1, h2⟩ := h.mp hy
    exact ⟨j, by omega, h2⟩
  · exact ⟨k, by omega, hy⟩
theorem mx_ly_no {X : GX} {ch : Nat → Bool} {i k : Nat} {bo : Bool} (h : mx_ly X ch i k bo) (hb : bo = false) (hn : ¬ (mx_t X k = true ∧ ch k = false ∧ mx_mt X k i)) : mx_ly X ch i (k + 1) false := by
  refine ⟨fun q => (by cases q), ?_⟩
  rintro ⟨j, h1, h2⟩
  exfalso
  by_cases e : j = k
  · subst e; exact hn h2
  · have := h.mpr ⟨j, by omega, h2⟩
    rw [hb] at this; cases this
def mx_CI (X : GX) (c0 : Nat) (ch : Nat → Bool) (ag : Bool) : Prop := (∀ i, ch i = true → mx_t X i = true) ∧ (∀ i, mx_t X i = true → ch i = false → mx_No X i) ∧ mx_cnt ch 200 ≤ c0 ∧ (ag = true → mx_cnt ch 200 < c0)
def mx_PI (X : GX) (c0 : Nat) (ch : Nat → Bool) (ag : Bool) (k : Nat) : Prop := mx_CI X c0 ch ag ∧ (ag = false → ∀ po, po < k → mx_f X po ≤ mx_tot X ch po)
def mx_II (X : GX) (c0 : Nat) (ch : Nat → Bool) (ag : Bool) (i : Nat) : Prop := mx_CI X c0 ch ag ∧ (ag = false → (∀ po, po < 300 → mx_f X po ≤ mx_tot X ch po) ∧ ∀ j, j < i → ch j = true → ¬ ∃ j2, j2 < j ∧ mx_t X j2 = true ∧ ch j2 = false ∧ mx_mt X j2 j)
theorem mx_CI_drop {X : GX} {c0 : Nat} {ch : Nat → Bool} {ag : Bool} {t : Nat} (h : mx_CI X c0 ch ag) (ht : ch t = true) (hl : t < 200) (hN : mx_No X t) : mx_CI X c0 (va_up ch t false) true := by
  obtain ⟨h1, h2, h3, h4⟩ := h
  have hc := mx_cnt_up ht hl
  refine ⟨fun i hi => h1 i (mx_up_sub hi), fun i hi hc => ?_, by omega, fun _ => by omega⟩
  by_cases e : i = t
  · subst e; exact hN
  · rw [va_up_ne _ _ e] at hc; exact h2 i hi hc
theorem mx_PI_ok {X : GX} {c0 k : Nat} {ch : Nat → Bool} {ag : Bool} (h : mx_PI X c0 ch ag k) (hf : mx_f X k ≤ mx_tot X ch k) : mx_PI X c0 ch ag (k + 1) := by
  refine ⟨h.1, fun ha po hp => ?_⟩
  by_cases e : po = k
  · subst e; exact hf
  · exact h.2 ha po (by omega)
theorem mx_lt_some {X : GX} (hX : mx_WF X) {ch : Nat → Bool} {k : Nat} {o : Option Nat} (hk : k < 300) (hs : mx_tot X ch k < mx_f X k) (h : mx_lt X ch k (mx_n X) o) : ∃ t, o = some t ∧ t < 200 := by
  have hn := hX.n
  cases o with
  | none =>
    obtain ⟨t, h1, h2, h3⟩ := mx_taker hX hk hs
    exact absurd h3 (h t h1 h2)
  | some t => exact ⟨t, rfl, by have := h.1; omega⟩
theorem mx_PI_drop {X : GX} (hX : mx_WF X) {c0 k t : Nat} {ch : Nat → Bool} {ag : Bool} (hk : k < 300) (h : mx_PI X c0 ch ag k) (hs : mx_tot X ch k < mx_f X k) (hl : mx_lt X ch k (mx_n X) (some t)) : mx_PI X c0 (va_up ch t false) true (k + 1) := by
  obtain ⟨l1, l2, l3, l4⟩ := hl
  have hn := hX.n
  refine ⟨mx_CI_drop h.1 l2 (by omega) ?_, fun q => by cases q⟩
  exact mx_last_no hk h.1.2.1 hs l3 (fun i hi hin hc => l4 i hi hin hc) h.1.1
theorem mx_II_start {X : GX} {c0 : Nat} {ch : Nat → Bool} {ag : Bool} (h : mx_PI X c0 ch ag 300) : mx_II X c0 ch ag 0 := ⟨h.1, fun ha => ⟨h.2 ha, fun j hj => by omega⟩⟩
theorem mx_II_ok {X : GX} {c0 i : Nat} {ch : Nat → Bool} {ag : Bool} (h : mx_II X c0 ch ag i) (hn : ch i = true → ¬ ∃ j2, j2 < i ∧ mx_t X j2 = true ∧ ch j2 = false ∧ mx_mt X j2 i) : mx_II X c0 ch ag (i + 1) := by
  refine ⟨h.1, fun ha => ⟨(h.2 ha).1, fun j hj => ?_⟩⟩
  by_cases e : j = i
  · subst e; exact hn
  · exact (h.2 ha).2 j (by omega)
theorem mx_II_drop {X : GX} {c0 i : Nat} {ch : Nat → Bool} {ag : Bool} (hi : i < 200) (h : mx_II X c0 ch ag i) (hc : ch i = true) (hl : ∃ j2, j2 < i ∧ mx_t X j2 = true ∧ ch j2 = false ∧ mx_mt X j2 i) : mx_II X c0 (va_up ch i false) true (i + 1) := by
  obtain ⟨j, h1, h2, h3, po, h4, h5⟩ := hl
  exact ⟨mx_CI_drop h.1 hc hi (mx_behind (h.1.2.1 j h2 h3) h1 h2 h4 h5), fun q => by cases q⟩
theorem mx_II_end {X : GX} (hX : mx_WF X) {c0 : Nat} {ch : Nat → Bool} (h : mx_II X c0 ch false (mx_n X)) : mx_Sol X ch := by
  refine mx_Sol_of ⟨h.1.1, (h.2 rfl).1, fun j i po hji ht n1 n2 hi => ?_⟩ h.1.2.1
  cases hj : ch j with
  | true => rfl
  | false => exact absurd ⟨j, hji, ht, hj, po, n1, n2⟩ ((h.2 rfl).2 i (hX.lt (h.1.1 i hi)) hi)
theorem mx_cF_2 (n a b : Nat) : mx_cF n a b (nI 2) = nI b := by
  unfold mx_cF
  rw [if_neg (by decide), if_neg (by decide), if_pos rfl]
theorem mx_WF_v {X : GX} (hX : mx_WF X) {v2 : Nat → Int} (h : ∀ po, po < 300 → mx_f X po ≤ v2 po ∧ v2 po ≤ 1000000000000000000) : mx_WF (mx_n X, mx_t X, mx_m X, mx_p X, mx_a X, v2, mx_f X) :=
  ⟨hX.n, hX.m, fun i hi => hX.out hi, fun i k hk => hX.net hk, fun i k k2 hk hk2 e => hX.one hk hk2 e, fun po hp => ⟨(hX.pl hp).1, (h po hp).1, (h po hp).2⟩⟩
theorem d_M_total_0 : decode b_M_total 0 = .ok (.aload_n 0, 1) := by decide +kernel
theorem d_M_total_1 : decode b_M_total 1 = .ok (.getfield 7, 3) := by decide +kernel
theorem d_M_total_4 : decode b_M_total 4 = .ok (.iload_n 1, 1) := by decide +kernel
theorem d_M_total_5 : decode b_M_total 5 = .ok (.laload, 1) := by decide +kernel
theorem d_M_total_6 : decode b_M_total 6 = .ok (.lstore_n 2, 1) := by decide +kernel
theorem d_M_total_7 : decode b_M_total 7 = .ok (.iconst 0, 1) := by decide +kernel
theorem d_M_total_8 : decode b_M_total 8 = .ok (.istore 4, 2) := by decide +kernel
theorem d_M_total_10 : decode b_M_total 10 = .ok (.iload 4, 2) := by decide +kernel
theorem d_M_total_12 : decode b_M_total 12 = .ok (.aload_n 0, 1) := by decide +kernel
theorem d_M_total_13 : decode b_M_total 13 = .ok (.getfield 45, 3) := by decide +kernel
theorem d_M_total_16 : decode b_M_total 16 = .ok (.if_icmp .ge 33, 3) := by decide +kernel
theorem d_M_total_19 : decode b_M_total 19 = .ok (.lload_n 2, 1) := by decide +kernel
theorem d_M_total_20 : decode b_M_total 20 = .ok (.aload_n 0, 1) := by decide +kernel
theorem d_M_total_21 : decode b_M_total 21 = .ok (.getfield 20, 3) := by decide +kernel
theorem d_M_total_24 : decode b_M_total 24 = .ok (.iload 4, 2) := by decide +kernel
theorem d_M_total_26 : decode b_M_total 26 = .ok (.baload, 1) := by decide +kernel
theorem d_M_total_27 : decode b_M_total 27 = .ok (.ifCond .eq 13, 3) := by decide +kernel
theorem d_M_total_30 : decode b_M_total 30 = .ok (.aload_n 0, 1) := by decide +kernel
theorem d_M_total_31 : decode b_M_total 31 = .ok (.iload 4, 2) := by decide +kernel
theorem d_M_total_33 : decode b_M_total 33 = .ok (.iload_n 1, 1) := by decide +kernel
theorem d_M_total_34 : decode b_M_total 34 = .ok (.invokevirtual 60, 3) := by decide +kernel
theorem d_M_total_37 : decode b_M_total 37 = .ok (.goto 4, 3) := by decide +kernel
theorem d_M_total_40 : decode b_M_total 40 = .ok (.lconst 0, 1) := by decide +kernel
theorem d_M_total_41 : decode b_M_total 41 = .ok (.ladd, 1) := by decide +kernel
theorem d_M_total_42 : decode b_M_total 42 = .ok (.lstore_n 2, 1) := by decide +kernel
theorem d_M_total_43 : decode b_M_total 43 = .ok (.iinc 4 1, 3) := by decide +kernel
theorem d_M_total_46 : decode b_M_total 46 = .ok (.goto (-36), 3) := by decide +kernel
theorem d_M_total_49 : decode b_M_total 49 = .ok (.lload_n 2, 1) := by decide +kernel
theorem d_M_total_50 : decode b_M_total 50 = .ok (.lreturn, 1) := by decide +kernel
theorem d_M_lastTaker_0 : decode b_M_lastTaker 0 = .ok (.iconst (-1), 1) := by decide +kernel
theorem d_M_lastTaker_1 : decode b_M_lastTaker 1 = .ok (.istore_n 2, 1) := by decide +kernel
theorem d_M_lastTaker_2 : decode b_M_lastTaker 2 = .ok (.iconst 0, 1) := by decide +kernel
theorem d_M_lastTaker_3 : decode b_M_lastTaker 3 = .ok (.istore_n 3, 1) := by decide +kernel
theorem d_M_lastTaker_4 : decode b_M_lastTaker 4 = .ok (.iload_n 3, 1) := by decide +kernel
theorem d_M_lastTaker_5 : decode b_M_lastTaker 5 = .ok (.aload_n 0, 1) := by decide +kernel
theorem d_M_lastTaker_6 : decode b_M_lastTaker 6 = .ok (.getfield 45, 3) := by decide +kernel
theorem d_M_lastTaker_9 : decode b_M_lastTaker 9 = .ok (.if_icmp .ge 35, 3) := by decide +kernel
theorem d_M_lastTaker_12 : decode b_M_lastTaker 12 = .ok (.aload_n 0, 1) := by decide +kernel
theorem d_M_lastTaker_13 : decode b_M_lastTaker 13 = .ok (.getfield 20, 3) := by decide +kernel
theorem d_M_lastTaker_16 : decode b_M_lastTaker 16 = .ok (.iload_n 3, 1) := by decide +kernel
theorem d_M_lastTaker_17 : decode b_M_lastTaker 17 = .ok (.baload, 1) := by decide +kernel
theorem d_M_lastTaker_18 : decode b_M_lastTaker 18 = .ok (.ifCond .eq 18, 3) := by decide +kernel
theorem d_M_lastTaker_21 : decode b_M_lastTaker 21 = .ok (.aload_n 0, 1) := by decide +kernel
theorem d_M_lastTaker_22 : decode b_M_lastTaker 22 = .ok (.iload_n 3, 1) := by decide +kernel
theorem d_M_lastTaker_23 : decode b_M_lastTaker 23 = .ok (.iload_n 1, 1) := by decide +kernel
theorem d_M_lastTaker_24 : decode b_M_lastTaker 24 = .ok (.invokevirtual 60, 3) := by decide +kernel
theorem d_M_lastTaker_27 : decode b_M_lastTaker 27 = .ok (.lconst 0, 1) := by decide +kernel
theorem d_M_lastTaker_28 : decode b_M_lastTaker 28 = .ok (.lcmp, 1) := by decide +kernel
theorem d_M_lastTaker_29 : decode b_M_lastTaker 29 = .ok (.ifCond .ge 7, 3) := by decide +kernel
theorem d_M_lastTaker_32 : decode b_M_lastTaker 32 = .ok (.iload_n 3, 1) := by decide +kernel
theorem d_M_lastTaker_33 : decode b_M_lastTaker 33 = .ok (.goto 4, 3) := by decide +kernel
theorem d_M_lastTaker_36 : decode b_M_lastTaker 36 = .ok (.iload_n 2, 1) := by decide +kernel
theorem d_M_lastTaker_37 : decode b_M_lastTaker 37 = .ok (.istore_n 2, 1) := by decide +kernel
theorem d_M_lastTaker_38 : decode b_M_lastTaker 38 = .ok (.iinc 3 1, 3) := by decide +kernel
theorem d_M_lastTaker_41 : decode b_M_lastTaker 41 = .ok (.goto (-37), 3) := by decide +kernel
theorem d_M_lastTaker_44 : decode b_M_lastTaker 44 = .ok (.iload_n 2, 1) := by decide +kernel
theorem d_M_lastTaker_45 : decode b_M_lastTaker 45 = .ok (.ireturn, 1) := by decide +kernel
theorem d_M_meet_0 : decode b_M_meet 0 = .ok (.iconst 0, 1) := by decide +kernel
theorem d_M_meet_1 : decode b_M_meet 1 = .ok (.istore_n 3, 1) := by decide +kernel
theorem d_M_meet_2 : decode b_M_meet 2 = .ok (.bipush 16, 2) := by decide +kernel
theorem d_M_meet_4 : decode b_M_meet 4 = .ok (.iload_n 1, 1) := by decide +kernel
theorem d_M_meet_5 : decode b_M_meet 5 = .ok (.imul, 1) := by decide +kernel
theorem d_M_meet_6 : decode b_M_meet 6 = .ok (.istore 4, 2) := by decide +kernel
theorem d_M_meet_8 : decode b_M_meet 8 = .ok (.iload 4, 2) := by decide +kernel
theorem d_M_meet_10 : decode b_M_meet 10 = .ok (.bipush 16, 2) := by decide +kernel
theorem d_M_meet_12 : decode b_M_meet 12 = .ok (.iload_n 1, 1) := by decide +kernel
theorem d_M_meet_13 : decode b_M_meet 13 = .ok (.imul, 1) := by decide +kernel
theorem d_M_meet_14 : decode b_M_meet 14 = .ok (.aload_n 0, 1) := by decide +kernel
theorem d_M_meet_15 : decode b_M_meet 15 = .ok (.getfield 23, 3) := by decide +kernel
theorem d_M_meet_18 : decode b_M_meet 18 = .ok (.iload_n 1, 1) := by decide +kernel
theorem d_M_meet_19 : decode b_M_meet 19 = .ok (.iaload, 1) := by decide +kernel
theorem d_M_meet_20 : decode b_M_meet 20 = .ok (.iadd, 1) := by decide +kernel
theorem d_M_meet_21 : decode b_M_meet 21 = .ok (.if_icmp .ge 48, 3) := by decide +kernel
theorem d_M_meet_24 : decode b_M_meet 24 = .ok (.iload_n 3, 1) := by decide +kernel
theorem d_M_meet_25 : decode b_M_meet 25 = .ok (.ifCond .ne 32, 3) := by decide +kernel
theorem d_M_meet_28 : decode b_M_meet 28 = .ok (.aload_n 0, 1) := by decide +kernel
theorem d_M_meet_29 : decode b_M_meet 29 = .ok (.getfield 30, 3) := by decide +kernel
theorem d_M_meet_32 : decode b_M_meet 32 = .ok (.iload 4, 2) := by decide +kernel
theorem d_M_meet_34 : decode b_M_meet 34 = .ok (.laload, 1) := by decide +kernel
theorem d_M_meet_35 : decode b_M_meet 35 = .ok (.lconst 0, 1) := by decide +kernel
theorem d_M_meet_36 : decode b_M_meet 36 = .ok (.lcmp, 1) := by decide +kernel
theorem d_M_meet_37 : decode b_M_meet 37 = .ok (.ifCond .ge 24, 3) := by decide +kernel
theorem d_M_meet_40 : decode b_M_meet 40 = .ok (.aload_n 0, 1) := by decide +kernel
theorem d_M_meet_41 : decode b_M_meet 41 = .ok (.iload_n 2, 1) := by decide +kernel
theorem d_M_meet_42 : decode b_M_meet 42 = .ok (.aload_n 0, 1) := by decide +kernel
theorem d_M_meet_43 : decode b_M_meet 43 = .ok (.getfield 27, 3) := by decide +kernel
theorem d_M_meet_46 : decode b_M_meet 46 = .ok (.iload 4, 2) := by decide +kernel
theorem d_M_meet_48 : decode b_M_meet 48 = .ok (.iaload, 1) := by decide +kernel
theorem d_M_meet_49 : decode b_M_meet 49 = .ok (.invokevirtual 60, 3) := by decide +kernel
theorem d_M_meet_52 : decode b_M_meet 52 = .ok (.lconst 0, 1) := by decide +kernel
theorem d_M_meet_53 : decode b_M_meet 53 = .ok (.lcmp, 1) := by decide +kernel
theorem d_M_meet_54 : decode b_M_meet 54 = .ok (.ifCond .ge 7, 3) := by decide +kernel
theorem d_M_meet_57 : decode b_M_meet 57 = .ok (.iconst 1, 1) := by decide +kernel
theorem d_M_meet_58 : decode b_M_meet 58 = .ok (.goto 4, 3) := by decide +kernel
theorem d_M_meet_61 : decode b_M_meet 61 = .ok (.iconst 0, 1) := by decide +kernel
theorem d_M_meet_62 : decode b_M_meet 62 = .ok (.istore_n 3, 1) := by decide +kernel
theorem d_M_meet_63 : decode b_M_meet 63 = .ok (.iinc 4 1, 3) := by decide +kernel
theorem d_M_meet_66 : decode b_M_meet 66 = .ok (.goto (-58), 3) := by decide +kernel
theorem d_M_meet_69 : decode b_M_meet 69 = .ok (.iload_n 3, 1) := by decide +kernel
theorem d_M_meet_70 : decode b_M_meet 70 = .ok (.ireturn, 1) := by decide +kernel
theorem d_M_lacks_0 : decode b_M_lacks 0 = .ok (.iconst 0, 1) := by decide +kernel
theorem d_M_lacks_1 : decode b_M_lacks 1 = .ok (.istore_n 2, 1) := by decide +kernel
theorem d_M_lacks_2 : decode b_M_lacks 2 = .ok (.iconst 0, 1) := by decide +kernel
theorem d_M_lacks_3 : decode b_M_lacks 3 = .ok (.istore_n 3, 1) := by decide +kernel
theorem d_M_lacks_4 : decode b_M_lacks 4 = .ok (.iload_n 3, 1) := by decide +kernel
theorem d_M_lacks_5 : decode b_M_lacks 5 = .ok (.iload_n 1, 1) := by decide +kernel
theorem d_M_lacks_6 : decode b_M_lacks 6 = .ok (.if_icmp .ge 46, 3) := by decide +kernel
theorem d_M_lacks_9 : decode b_M_lacks 9 = .ok (.iload_n 2, 1) := by decide +kernel
theorem d_M_lacks_10 : decode b_M_lacks 10 = .ok (.ifCond .ne 30, 3) := by decide +kernel
theorem d_M_lacks_13 : decode b_M_lacks 13 = .ok (.aload_n 0, 1) := by decide +kernel
theorem d_M_lacks_14 : decode b_M_lacks 14 = .ok (.getfield 16, 3) := by decide +kernel
theorem d_M_lacks_17 : decode b_M_lacks 17 = .ok (.iload_n 3, 1) := by decide +kernel
theorem d_M_lacks_18 : decode b_M_lacks 18 = .ok (.baload, 1) := by decide +kernel
theorem d_M_lacks_19 : decode b_M_lacks 19 = .ok (.ifCond .eq 25, 3) := by decide +kernel
theorem d_M_lacks_22 : decode b_M_lacks 22 = .ok (.aload_n 0, 1) := by decide +kernel
theorem d_M_lacks_23 : decode b_M_lacks 23 = .ok (.getfield 20, 3) := by decide +kernel
theorem d_M_lacks_26 : decode b_M_lacks 26 = .ok (.iload_n 3, 1) := by decide +kernel
theorem d_M_lacks_27 : decode b_M_lacks 27 = .ok (.baload, 1) := by decide +kernel
theorem d_M_lacks_28 : decode b_M_lacks 28 = .ok (.ifCond .ne 16, 3) := by decide +kernel
theorem d_M_lacks_31 : decode b_M_lacks 31 = .ok (.aload_n 0, 1) := by decide +kernel
theorem d_M_lacks_32 : decode b_M_lacks 32 = .ok (.iload_n 3, 1) := by decide +kernel
theorem d_M_lacks_33 : decode b_M_lacks 33 = .ok (.iload_n 1, 1) := by decide +kernel
theorem d_M_lacks_34 : decode b_M_lacks 34 = .ok (.invokevirtual 68, 3) := by decide +kernel
theorem d_M_lacks_37 : decode b_M_lacks 37 = .ok (.ifCond .eq 7, 3) := by decide +kernel
theorem d_M_lacks_40 : decode b_M_lacks 40 = .ok (.iconst 1, 1) := by decide +kernel
theorem d_M_lacks_41 : decode b_M_lacks 41 = .ok (.goto 4, 3) := by decide +kernel
theorem d_M_lacks_44 : decode b_M_lacks 44 = .ok (.iconst 0, 1) := by decide +kernel
theorem d_M_lacks_45 : decode b_M_lacks 45 = .ok (.istore_n 2, 1) := by decide +kernel
theorem d_M_lacks_46 : decode b_M_lacks 46 = .ok (.iinc 3 1, 3) := by decide +kernel
theorem d_M_lacks_49 : decode b_M_lacks 49 = .ok (.goto (-45), 3) := by decide +kernel
theorem d_M_lacks_52 : decode b_M_lacks 52 = .ok (.iload_n 2, 1) := by decide +kernel
theorem d_M_lacks_53 : decode b_M_lacks 53 = .ok (.ireturn, 1) := by decide +kernel
theorem d_M_solve_0 : decode b_M_solve 0 = .ok (.iconst 0, 1) := by decide +kernel
theorem d_M_solve_1 : decode b_M_solve 1 = .ok (.istore_n 1, 1) := by decide +kernel
theorem d_M_solve_2 : decode b_M_solve 2 = .ok (.iload_n 1, 1) := by decide +kernel
theorem d_M_solve_3 : decode b_M_solve 3 = .ok (.sipush 200, 3) := by decide +kernel
theorem d_M_solve_6 : decode b_M_solve 6 = .ok (.if_icmp .ge 21, 3) := by decide +kernel
theorem d_M_solve_9 : decode b_M_solve 9 = .ok (.aload_n 0, 1) := by decide +kernel
theorem d_M_solve_10 : decode b_M_solve 10 = .ok (.getfield 20, 3) := by decide +kernel
theorem d_M_solve_13 : decode b_M_solve 13 = .ok (.iload_n 1, 1) := by decide +kernel
theorem d_M_solve_14 : decode b_M_solve 14 = .ok (.aload_n 0, 1) := by decide +kernel
theorem d_M_solve_15 : decode b_M_solve 15 = .ok (.getfield 16, 3) := by decide +kernel
theorem d_M_solve_18 : decode b_M_solve 18 = .ok (.iload_n 1, 1) := by decide +kernel
theorem d_M_solve_19 : decode b_M_solve 19 = .ok (.baload, 1) := by decide +kernel
theorem d_M_solve_20 : decode b_M_solve 20 = .ok (.bastore, 1) := by decide +kernel
theorem d_M_solve_21 : decode b_M_solve 21 = .ok (.iinc 1 1, 3) := by decide +kernel
theorem d_M_solve_24 : decode b_M_solve 24 = .ok (.goto (-22), 3) := by decide +kernel
theorem d_M_solve_27 : decode b_M_solve 27 = .ok (.iconst 1, 1) := by decide +kernel
theorem d_M_solve_28 : decode b_M_solve 28 = .ok (.istore_n 1, 1) := by decide +kernel
theorem d_M_solve_29 : decode b_M_solve 29 = .ok (.iload_n 1, 1) := by decide +kernel
theorem d_M_solve_30 : decode b_M_solve 30 = .ok (.ifCond .eq 93, 3) := by decide +kernel
theorem d_M_solve_33 : decode b_M_solve 33 = .ok (.iconst 0, 1) := by decide +kernel
theorem d_M_solve_34 : decode b_M_solve 34 = .ok (.istore_n 1, 1) := by decide +kernel
theorem d_M_solve_35 : decode b_M_solve 35 = .ok (.iconst 0, 1) := by decide +kernel
theorem d_M_solve_36 : decode b_M_solve 36 = .ok (.istore_n 2, 1) := by decide +kernel
theorem d_M_solve_37 : decode b_M_solve 37 = .ok (.iload_n 2, 1) := by decide +kernel
theorem d_M_solve_38 : decode b_M_solve 38 = .ok (.sipush 300, 3) := by decide +kernel
theorem d_M_solve_41 : decode b_M_solve 41 = .ok (.if_icmp .ge 37, 3) := by decide +kernel
theorem d_M_solve_44 : decode b_M_solve 44 = .ok (.aload_n 0, 1) := by decide +kernel
theorem d_M_solve_45 : decode b_M_solve 45 = .ok (.iload_n 2, 1) := by decide +kernel
theorem d_M_solve_46 : decode b_M_solve 46 = .ok (.invokevirtual 72, 3) := by decide +kernel
theorem d_M_solve_49 : decode b_M_solve 49 = .ok (.aload_n 0, 1) := by decide +kernel
theorem d_M_solve_50 : decode b_M_solve 50 = .ok (.getfield 13, 3) := by decide +kernel
theorem d_M_solve_53 : decode b_M_solve 53 = .ok (.iload_n 2, 1) := by decide +kernel
theorem d_M_solve_54 : decode b_M_solve 54 = .ok (.laload, 1) := by decide +kernel
theorem d_M_solve_55 : decode b_M_solve 55 = .ok (.lcmp, 1) := by decide +kernel
theorem d_M_solve_56 : decode b_M_solve 56 = .ok (.ifCond .ge 16, 3) := by decide +kernel
theorem d_M_solve_59 : decode b_M_solve 59 = .ok (.aload_n 0, 1) := by decide +kernel
theorem d_M_solve_60 : decode b_M_solve 60 = .ok (.getfield 20, 3) := by decide +kernel
theorem d_M_solve_63 : decode b_M_solve 63 = .ok (.aload_n 0, 1) := by decide +kernel
theorem d_M_solve_64 : decode b_M_solve 64 = .ok (.iload_n 2, 1) := by decide +kernel
theorem d_M_solve_65 : decode b_M_solve 65 = .ok (.invokevirtual 76, 3) := by decide +kernel
theorem d_M_solve_68 : decode b_M_solve 68 = .ok (.iconst 0, 1) := by decide +kernel
theorem d_M_solve_69 : decode b_M_solve 69 = .ok (.bastore, 1) := by decide +kernel
theorem d_M_solve_70 : decode b_M_solve 70 = .ok (.iconst 1, 1) := by decide +kernel
theorem d_M_solve_71 : decode b_M_solve 71 = .ok (.istore_n 1, 1) := by decide +kernel
theorem d_M_solve_72 : decode b_M_solve 72 = .ok (.iinc 2 1, 3) := by decide +kernel
theorem d_M_solve_75 : decode b_M_solve 75 = .ok (.goto (-38), 3) := by decide +kernel
theorem d_M_solve_78 : decode b_M_solve 78 = .ok (.iconst 0, 1) := by decide +kernel
theorem d_M_solve_79 : decode b_M_solve 79 = .ok (.istore_n 2, 1) := by decide +kernel
theorem d_M_solve_80 : decode b_M_solve 80 = .ok (.iload_n 2, 1) := by decide +kernel
theorem d_M_solve_81 : decode b_M_solve 81 = .ok (.aload_n 0, 1) := by decide +kernel
theorem d_M_solve_82 : decode b_M_solve 82 = .ok (.getfield 45, 3) := by decide +kernel
theorem d_M_solve_85 : decode b_M_solve 85 = .ok (.if_icmp .ge 35, 3) := by decide +kernel
theorem d_M_solve_88 : decode b_M_solve 88 = .ok (.aload_n 0, 1) := by decide +kernel
theorem d_M_solve_89 : decode b_M_solve 89 = .ok (.getfield 20, 3) := by decide +kernel
theorem d_M_solve_92 : decode b_M_solve 92 = .ok (.iload_n 2, 1) := by decide +kernel
theorem d_M_solve_93 : decode b_M_solve 93 = .ok (.baload, 1) := by decide +kernel
theorem d_M_solve_94 : decode b_M_solve 94 = .ok (.ifCond .eq 20, 3) := by decide +kernel
theorem d_M_solve_97 : decode b_M_solve 97 = .ok (.aload_n 0, 1) := by decide +kernel
theorem d_M_solve_98 : decode b_M_solve 98 = .ok (.iload_n 2, 1) := by decide +kernel
theorem d_M_solve_99 : decode b_M_solve 99 = .ok (.invokevirtual 80, 3) := by decide +kernel
theorem d_M_solve_102 : decode b_M_solve 102 = .ok (.ifCond .eq 12, 3) := by decide +kernel
theorem d_M_solve_105 : decode b_M_solve 105 = .ok (.aload_n 0, 1) := by decide +kernel
theorem d_M_solve_106 : decode b_M_solve 106 = .ok (.getfield 20, 3) := by decide +kernel
theorem d_M_solve_109 : decode b_M_solve 109 = .ok (.iload_n 2, 1) := by decide +kernel
theorem d_M_solve_110 : decode b_M_solve 110 = .ok (.iconst 0, 1) := by decide +kernel
theorem d_M_solve_111 : decode b_M_solve 111 = .ok (.bastore, 1) := by decide +kernel
theorem d_M_solve_112 : decode b_M_solve 112 = .ok (.iconst 1, 1) := by decide +kernel
theorem d_M_solve_113 : decode b_M_solve 113 = .ok (.istore_n 1, 1) := by decide +kernel
theorem d_M_solve_114 : decode b_M_solve 114 = .ok (.iinc 2 1, 3) := by decide +kernel
theorem d_M_solve_117 : decode b_M_solve 117 = .ok (.goto (-37), 3) := by decide +kernel
theorem d_M_solve_120 : decode b_M_solve 120 = .ok (.goto (-91), 3) := by decide +kernel
theorem d_M_solve_123 : decode b_M_solve 123 = .ok (.aload_n 0, 1) := by decide +kernel
theorem d_M_solve_124 : decode b_M_solve 124 = .ok (.iconst 2, 1) := by decide +kernel
theorem d_M_solve_125 : decode b_M_solve 125 = .ok (.invokevirtual 83, 3) := by decide +kernel
theorem d_M_solve_128 : decode b_M_solve 128 = .ok (.ireturn, 1) := by decide +kernel
theorem d_M_perform_0 : decode b_M_perform 0 = .ok (.aload_n 0, 1) := by decide +kernel
theorem d_M_perform_1 : decode b_M_perform 1 = .ok (.invokevirtual 86, 3) := by decide +kernel
theorem d_M_perform_4 : decode b_M_perform 4 = .ok (.istore_n 1, 1) := by decide +kernel
theorem d_M_perform_5 : decode b_M_perform 5 = .ok (.iconst 0, 1) := by decide +kernel
theorem d_M_perform_6 : decode b_M_perform 6 = .ok (.istore_n 2, 1) := by decide +kernel
theorem d_M_perform_7 : decode b_M_perform 7 = .ok (.iload_n 2, 1) := by decide +kernel
theorem d_M_perform_8 : decode b_M_perform 8 = .ok (.sipush 300, 3) := by decide +kernel
theorem d_M_perform_11 : decode b_M_perform 11 = .ok (.if_icmp .ge 23, 3) := by decide +kernel
theorem d_M_perform_14 : decode b_M_perform 14 = .ok (.aload_n 0, 1) := by decide +kernel
theorem d_M_perform_15 : decode b_M_perform 15 = .ok (.iload_n 2, 1) := by decide +kernel
theorem d_M_perform_16 : decode b_M_perform 16 = .ok (.invokevirtual 72, 3) := by decide +kernel
theorem d_M_perform_19 : decode b_M_perform 19 = .ok (.ldc2_w 35, 3) := by decide +kernel
theorem d_M_perform_22 : decode b_M_perform 22 = .ok (.lcmp, 1) := by decide +kernel
theorem d_M_perform_23 : decode b_M_perform 23 = .ok (.ifCond .le 5, 3) := by decide +kernel
theorem d_M_perform_26 : decode b_M_perform 26 = .ok (.iconst (-1), 1) := by decide +kernel
theorem d_M_perform_27 : decode b_M_perform 27 = .ok (.ireturn, 1) := by decide +kernel
theorem d_M_perform_28 : decode b_M_perform 28 = .ok (.iinc 2 1, 3) := by decide +kernel
theorem d_M_perform_31 : decode b_M_perform 31 = .ok (.goto (-24), 3) := by decide +kernel
theorem d_M_perform_34 : decode b_M_perform 34 = .ok (.iconst 0, 1) := by decide +kernel
theorem d_M_perform_35 : decode b_M_perform 35 = .ok (.istore_n 2, 1) := by decide +kernel
theorem d_M_perform_36 : decode b_M_perform 36 = .ok (.iload_n 2, 1) := by decide +kernel
theorem d_M_perform_37 : decode b_M_perform 37 = .ok (.sipush 300, 3) := by decide +kernel
theorem d_M_perform_40 : decode b_M_perform 40 = .ok (.if_icmp .ge 20, 3) := by decide +kernel
theorem d_M_perform_43 : decode b_M_perform 43 = .ok (.aload_n 0, 1) := by decide +kernel
theorem d_M_perform_44 : decode b_M_perform 44 = .ok (.getfield 7, 3) := by decide +kernel
theorem d_M_perform_47 : decode b_M_perform 47 = .ok (.iload_n 2, 1) := by decide +kernel
theorem d_M_perform_48 : decode b_M_perform 48 = .ok (.aload_n 0, 1) := by decide +kernel
theorem d_M_perform_49 : decode b_M_perform 49 = .ok (.iload_n 2, 1) := by decide +kernel
theorem d_M_perform_50 : decode b_M_perform 50 = .ok (.invokevirtual 72, 3) := by decide +kernel
theorem d_M_perform_53 : decode b_M_perform 53 = .ok (.lastore, 1) := by decide +kernel
theorem d_M_perform_54 : decode b_M_perform 54 = .ok (.iinc 2 1, 3) := by decide +kernel
theorem d_M_perform_57 : decode b_M_perform 57 = .ok (.goto (-21), 3) := by decide +kernel
theorem d_M_perform_60 : decode b_M_perform 60 = .ok (.iconst 0, 1) := by decide +kernel
theorem d_M_perform_61 : decode b_M_perform 61 = .ok (.istore_n 2, 1) := by decide +kernel
theorem d_M_perform_62 : decode b_M_perform 62 = .ok (.iload_n 2, 1) := by decide +kernel
theorem d_M_perform_63 : decode b_M_perform 63 = .ok (.aload_n 0, 1) := by decide +kernel
theorem d_M_perform_64 : decode b_M_perform 64 = .ok (.getfield 45, 3) := by decide +kernel
theorem d_M_perform_67 : decode b_M_perform 67 = .ok (.if_icmp .ge 38, 3) := by decide +kernel
theorem d_M_perform_70 : decode b_M_perform 70 = .ok (.aload_n 0, 1) := by decide +kernel
theorem d_M_perform_71 : decode b_M_perform 71 = .ok (.getfield 16, 3) := by decide +kernel
theorem d_M_perform_74 : decode b_M_perform 74 = .ok (.iload_n 2, 1) := by decide +kernel
theorem d_M_perform_75 : decode b_M_perform 75 = .ok (.aload_n 0, 1) := by decide +kernel
theorem d_M_perform_76 : decode b_M_perform 76 = .ok (.getfield 16, 3) := by decide +kernel
theorem d_M_perform_79 : decode b_M_perform 79 = .ok (.iload_n 2, 1) := by decide +kernel
theorem d_M_perform_80 : decode b_M_perform 80 = .ok (.baload, 1) := by decide +kernel
theorem d_M_perform_81 : decode b_M_perform 81 = .ok (.ifCond .eq 16, 3) := by decide +kernel
theorem d_M_perform_84 : decode b_M_perform 84 = .ok (.aload_n 0, 1) := by decide +kernel
theorem d_M_perform_85 : decode b_M_perform 85 = .ok (.getfield 20, 3) := by decide +kernel
theorem d_M_perform_88 : decode b_M_perform 88 = .ok (.iload_n 2, 1) := by decide +kernel
theorem d_M_perform_89 : decode b_M_perform 89 = .ok (.baload, 1) := by decide +kernel
theorem d_M_perform_90 : decode b_M_perform 90 = .ok (.ifCond .ne 7, 3) := by decide +kernel
theorem d_M_perform_93 : decode b_M_perform 93 = .ok (.iconst 1, 1) := by decide +kernel
theorem d_M_perform_94 : decode b_M_perform 94 = .ok (.goto 4, 3) := by decide +kernel
theorem d_M_perform_97 : decode b_M_perform 97 = .ok (.iconst 0, 1) := by decide +kernel
theorem d_M_perform_98 : decode b_M_perform 98 = .ok (.bastore, 1) := by decide +kernel
theorem d_M_perform_99 : decode b_M_perform 99 = .ok (.iinc 2 1, 3) := by decide +kernel
theorem d_M_perform_102 : decode b_M_perform 102 = .ok (.goto (-40), 3) := by decide +kernel
theorem d_M_perform_105 : decode b_M_perform 105 = .ok (.iload_n 1, 1) := by decide +kernel
theorem d_M_perform_106 : decode b_M_perform 106 = .ok (.ireturn, 1) := by decide +kernel
abbrev rm_M_total : Room := { frames := 2, cells := 0, slots := 0, locals := 46 }
abbrev rm_M_lastTaker : Room := { frames := 2, cells := 0, slots := 0, locals := 46 }
abbrev rm_M_meet : Room := { frames := 2, cells := 0, slots := 0, locals := 46 }
abbrev rm_M_lacks : Room := { frames := 3, cells := 0, slots := 0, locals := 70 }
abbrev rm_M_solve : Room := { frames := 4, cells := 0, slots := 0, locals := 93 }
abbrev rm_M_perform : Room := { frames := 5, cells := 0, slots := 0, locals := 115 }
theorem cv_M_68 : gd_CV R_M 68 R_M y_M_meet k_M_meet 2 := gd_cv tw_333 tw_335 ts_M_meet tw_5 tw_336 (by decide +kernel)
theorem cv_M_72 : gd_CV R_M 72 R_M y_M_total k_M_total 1 := gd_cv tw_321 tw_323 ts_M_total tw_5 tw_324 (by decide +kernel)
theorem cv_M_76 : gd_CV R_M 76 R_M y_M_lastTaker k_M_lastTaker 1 := gd_cv tw_325 tw_327 ts_M_lastTaker tw_5 tw_328 (by decide +kernel)
theorem cv_M_80 : gd_CV R_M 80 R_M y_M_lacks k_M_lacks 1 := gd_cv tw_329 tw_331 ts_M_lacks tw_5 tw_332 (by decide +kernel)
theorem cv_M_86 : gd_CV R_M 86 R_M y_M_solve k_M_solve 0 := gd_cv tw_349 tw_318 tw_319 tw_5 tw_320 (by decide +kernel)
set_option maxHeartbeats 4000000 in
set_option maxRecDepth 100000 in
/-- GridDeskModel.total -/
theorem c_M_total (l : Launch) (D : va_G) (ct : Nat → ClassId) (sz : Nat) (q : Nat → Nat) (X : GX) (ch : Nat → Bool) (po : Nat) (hX : mx_WF X) (hpo : po < 300) : gd_ctL l y_M_total k_M_total rm_M_total D ct [.ref (q 0), .int (nI po)] sz (wM q ct X ch) (S := Unit) (fun r u => r = mx_l (mx_tot X ch po)) (fun u => wM q ct X ch) := by
  refine gd_entL (by decide +kernel) rfl (Nat.le_of_ble_eq_true rfl) (fun p e s m below meth c Q A ls cx hw hl hret => ?_)
  have hx := cx.1
  have hb := cx.2.1
  have hl : lv_has ls 5 [(0, .ref (q 0)), (1, .int (nI po))] := hl
  have hn := hX.n
  have loop : ∀ (d i : Nat), i + d = mx_n X → ∀ (H : Heap) (locs : List Loc) (ls : Array Slot), gd_Ws D A s (wM q ct X ch) H locs → lv_has ls 5 [(4, .int (nI i)), (2, .long (mx_l (mx_v X po + mx_sum (fun j => if ch j = true then mx_net X j po else 0) i))), (0, .ref (q 0)), (1, .int (nI po))] → W p l e rm_M_total s m [.ref (q 0), .int (nI po)].toArray below meth c H locs 0 0 Q (F0 m 10 ls []) := by
    intro d
    induction d with
    | zero =>
      intro i hi H locs ls hw hl
      refine lv_iload hx hb d_M_total_10 (lv_at hl 0 rfl) ?_
      refine lv_aload_n hx hb d_M_total_12 rfl (lv_at hl 2 rfl) ?_
      refine gd_get (v := .int (nI (mx_n X))) i_M cx hw 0 rfl rfl 2 (by decide) tw_254 rfl rfl d_M_total_13 ?_
      refine gd_ge (tgt := 49) hx hb d_M_total_16 (by decide) (by omega) (by omega) (fun h16 => ?_) (fun h16 => ?_)
      · have e0 : i = mx_n X := by omega
        subst e0
        refine lv_lload_n hx hb d_M_total_49 rfl (lv_at hl 1 rfl) ?_
        exact hret _ () _ _ _ _ d_M_total_50 rfl hw
      · omega
    | succ d ih =>
      intro i hi H locs ls hw hl
      refine lv_iload hx hb d_M_total_10 (lv_at hl 0 rfl) ?_
      refine lv_aload_n hx hb d_M_total_12 rfl (lv_at hl 2 rfl) ?_
      refine gd_get (v := .int (nI (mx_n X))) i_M cx hw 0 rfl rfl 2 (by decide) tw_254 rfl rfl d_M_total_13 ?_
      refine gd_ge (tgt := 49) hx hb d_M_total_16 (by decide) (by omega) (by omega) (fun h16 => ?_) (fun h16 => ?_)
      · omega
      · have hi3 : i < 200 := by omega
        refine lv_lload_n hx hb d_M_total_19 rfl (lv_at hl 1 rfl) ?_
        refine lv_aload_n hx hb d_M_total_20 rfl (lv_at hl 2 rfl) ?_
        refine gd_get (v := .ref (q 4)) i_M cx hw 0 rfl rfl 4 (by decide) tw_256 rfl rfl d_M_total_21 ?_
        refine lv_iload hx hb d_M_total_24 (lv_at hl 0 rfl) ?_
        refine gd_zld (v := mx_b (ch i)) cx hw 4 rfl (by omega) (by decide) rfl d_M_total_26 ?_
        refine gd_ifeq (tgt := 40) hx hb d_M_total_27 (by decide) (fun h27 => ?_) (fun h27 => ?_)
        · refine lv_lconst (v := mx_l 0) hx hb d_M_total_40 (by decide) ?_
          refine gd_ladd hx hb d_M_total_41 ?_
          refine lv_lstore_n (lv' := [(2, .long (mx_l ((mx_v X po + mx_sum (fun j => if ch j = true then mx_net X j po else 0) i) + 0))), (4, .int (nI i)), (0, .ref (q 0)), (1, .int (nI po))]) hx hb d_M_total_42 rfl hl (by decide) rfl (fun ls hl => ?_)
          refine lv_iinc (v := nI (i + 1)) (lv' := [(4, .int (nI (i + 1))), (2, .long (mx_l ((mx_v X po + mx_sum (fun j => if ch j = true then mx_net X j po else 0) i) + 0))), (0, .ref (q 0)), (1, .int (nI po))]) hx hb d_M_total_43 hl (k := 1) rfl (gd_inc1 _) (by decide) rfl (fun ls hl => ?_)
          refine lv_goto (tgt := 10) hx hb d_M_total_46 (by decide) ?_
          have e1 : mx_v X po + mx_sum (fun j => if ch j = true then mx_net X j po else 0) (i + 1) = (mx_v X po + mx_sum (fun j => if ch j = true then mx_net X j po else 0) i) + 0 := by
            show mx_v X po + (mx_sum (fun j => if ch j = true then mx_net X j po else 0) i + (if ch i = true then mx_net X i po else 0)) = _
            rw [if_neg (by rw [h27]; decide)]
            omega
          exact ih (i + 1) (by omega) H locs ls hw (by rw [e1]; exact lv_sub hl [0, 1, 2, 3] rfl)
        · refine lv_aload_n hx hb d_M_total_30 rfl (lv_at hl 2 rfl) ?_
          refine lv_iload hx hb d_M_total_31 (lv_at hl 0 rfl) ?_
          refine lv_iload_n hx hb d_M_total_33 rfl (lv_at hl 3 rfl) ?_
          refine gd_callVL (As := [.int (nI i), .int (nI po)]) (rest := [.long (mx_l (mx_v X po + mx_sum (fun j => if ch j = true then mx_net X j po else 0) i))]) cx hw (c_M_netAt l D ct _ q X ch i po hX hi3 hpo) cv_M_60 ⟨by decide, by decide⟩ ⟨rfl, rfl⟩ [0, 1, 2, 3, 4, 5, 6, 7] rfl rfl 0 4 rfl rfl (gd_jr hw [0, 1, 2, 3, 4, 5, 6, 7] rfl) rfl hl.1 rfl (Nat.le_of_ble_eq_true rfl) ⟨Nat.zero_le _, Nat.zero_le _⟩ d_M_total_34 (fun r u H locs hp hw => ?_)
          subst hp
          refine lv_goto (tgt := 41) hx hb d_M_total_37 (by decide) ?_
          refine gd_ladd hx hb d_M_total_41 ?_
          refine lv_lstore_n (lv' := [(2, .long (mx_l ((mx_v X po + mx_sum (fun j => if ch j = true then mx_net X j po else 0) i) + (mx_net X i po)))), (4, .int (nI i)), (0, .ref (q 0)), (1, .int (nI po))]) hx hb d_M_total_42 rfl hl (by decide) rfl (fun ls hl => ?_)
          refine lv_iinc (v := nI (i + 1)) (lv' := [(4, .int (nI (i + 1))), (2, .long (mx_l ((mx_v X po + mx_sum (fun j => if ch j = true then mx_net X j po else 0) i) + (mx_net X i po)))), (0, .ref (q 0)), (1, .int (nI po))]) hx hb d_M_total_43 hl (k := 1) rfl (gd_inc1 _) (by decide) rfl (fun ls hl => ?_)
          refine lv_goto (tgt := 10) hx hb d_M_total_46 (by decide) ?_
          have e1 : mx_v X po + mx_sum (fun j => if ch j = true then mx_net X j po else 0) (i + 1) = (mx_v X po + mx_sum (fun j => if ch j = true then mx_net X j po else 0) i) + (mx_net X i po) := by
            show mx_v X po + (mx_sum (fun j => if ch j = true then mx_net X j po else 0) i + (if ch i = true then mx_net X i po else 0)) = _
            rw [if_pos h27]
            omega
          exact ih (i + 1) (by omega) H locs ls hw (by rw [e1]; exact lv_sub hl [0, 1, 2, 3] rfl)
  refine lv_aload_n hx hb d_M_total_0 rfl (lv_at hl 0 rfl) ?_
  refine gd_get (v := .ref (q 1)) i_M cx hw 0 rfl rfl 0 (by decide) tw_252 rfl rfl d_M_total_1 ?_
  refine lv_iload_n hx hb d_M_total_4 rfl (lv_at hl 1 rfl) ?_
  refine gd_lld (v := mx_l (mx_v X po)) cx hw 1 rfl (by omega) (by decide) rfl d_M_total_5 ?_
  refine lv_lstore_n (lv' := [(2, .long (mx_l (mx_v X po))), (0, .ref (q 0)), (1, .int (nI po))]) hx hb d_M_total_6 rfl hl (by decide) rfl (fun ls hl => ?_)
  refine lv_iconst (v := nI 0) hx hb d_M_total_7 (by decide) ?_
  refine lv_istore (lv' := [(4, .int (nI 0)), (2, .long (mx_l (mx_v X po))), (0, .ref (q 0)), (1, .int (nI po))]) hx hb d_M_total_8 hl (by decide) rfl (fun ls hl => ?_)
  have e1 : mx_v X po = mx_v X po + mx_sum (fun j => if ch j = true then mx_net X j po else 0) 0 := by show _ = _ + (0 : Int); omega
  exact loop (mx_n X) 0 (by omega) _ _ ls hw (by rw [← e1]; exact lv_sub hl [0, 1, 2, 3] rfl)
set_option maxHeartbeats 4000000 in
set_option maxRecDepth 100000 in
/-- GridDeskModel.lastTaker -/
theorem c_M_lastTaker (l : Launch) (D : va_G) (ct : Nat → ClassId) (sz : Nat) (q : Nat → Nat) (X : GX) (ch : Nat → Bool) (po : Nat) (hX : mx_WF X) (hpo : po < 300) : gd_ctI l y_M_lastTaker k_M_lastTaker rm_M_lastTaker D ct [.ref (q 0), .int (nI po)] sz (wM q ct X ch) (S := (Option Nat)) (fun r u => r = mx_o u ∧ mx_lt X ch po (mx_n X) u) (fun u => wM q ct X ch) := by
  refine gd_entI (by decide +kernel) rfl (Nat.le_of_ble_eq_true rfl) (fun p e s m below meth c Q A ls cx hw hl hret => ?_)
  have hx := cx.1
  have hb := cx.2.1
  have hl : lv_has ls 4 [(0, .ref (q 0)), (1, .int (nI po))] := hl
  have hn := hX.n
  have loop : ∀ (d i : Nat), i + d = mx_n X → ∀ (o : Option Nat), mx_lt X ch po i o → ∀ (H : Heap) (locs : List Loc) (ls : Array Slot), gd_Ws D A s (wM q ct X ch) H locs → lv_has ls 4 [(3, .int (nI i)), (2, .int (mx_o o)), (0, .ref (q 0)), (1, .int (nI po))] → W p l e rm_M_lastTaker s m [.ref (q 0), .int (nI po)].toArray below meth c H locs 0 0 Q (F0 m 4 ls []) := by
    intro d
    induction d with
    | zero =>
      intro i hi o ho H locs ls hw hl
      refine lv_iload_n hx hb d_M_lastTaker_4 rfl (lv_at hl 0 rfl) ?_
      refine lv_aload_n hx hb d_M_lastTaker_5 rfl (lv_at hl 2 rfl) ?_
      refine gd_get (v := .int (nI (mx_n X))) i_M cx hw 0 rfl rfl 2 (by decide) tw_254 rfl rfl d_M_lastTaker_6 ?_
      refine gd_ge (tgt := 44) hx hb d_M_lastTaker_9 (by decide) (by omega) (by omega) (fun h9 => ?_) (fun h9 => ?_)
      · have e0 : i = mx_n X := by omega
        subst e0
        refine lv_iload_n hx hb d_M_lastTaker_44 rfl (lv_at hl 1 rfl) ?_
        exact hret _ o _ _ _ _ rfl d_M_lastTaker_45 ⟨rfl, ho⟩ hw
      · omega
    | succ d ih =>
      intro i hi o ho H locs ls hw hl
      refine lv_iload_n hx hb d_M_lastTaker_4 rfl (lv_at hl 0 rfl) ?_
      refine lv_aload_n hx hb d_M_lastTaker_5 rfl (lv_at hl 2 rfl) ?_
      refine gd_get (v := .int (nI (mx_n X))) i_M cx hw 0 rfl rfl 2 (by decide) tw_254 rfl rfl d_M_lastTaker_6 ?_
      refine gd_ge (tgt := 44) hx hb d_M_lastTaker_9 (by decide) (by omega) (by omega) (fun h9 => ?_) (fun h9 => ?_)
      · omega
      · have hi3 : i < 200 := by omega
        have hnb := mx_net_bound hX i po
        refine lv_aload_n hx hb d_M_lastTaker_12 rfl (lv_at hl 2 rfl) ?_
        refine gd_get (v := .ref (q 4)) i_M cx hw 0 rfl rfl 4 (by decide) tw_256 rfl rfl d_M_lastTaker_13 ?_
        refine lv_iload_n hx hb d_M_lastTaker_16 rfl (lv_at hl 0 rfl) ?_
        refine gd_zld (v := mx_b (ch i)) cx hw 4 rfl (by omega) (by decide) rfl d_M_lastTaker_17 ?_
        refine gd_ifeq (tgt := 36) hx hb d_M_lastTaker_18 (by decide) (fun h18 => ?_) (fun h18 => ?_)
        · refine lv_iload_n hx hb d_M_lastTaker_36 rfl (lv_at hl 1 rfl) ?_
          refine lv_istore_n (lv' := [(2, .int (mx_o o)), (3, .int (nI i)), (0, .ref (q 0)), (1, .int (nI po))]) hx hb d_M_lastTaker_37 rfl hl (by decide) rfl (fun ls hl => ?_)
          refine lv_iinc (v := nI (i + 1)) (lv' := [(3, .int (nI (i + 1))), (2, .int (mx_o o)), (0, .ref (q 0)), (1, .int (nI po))]) hx hb d_M_lastTaker_38 hl (k := 1) rfl (gd_inc1 _) (by decide) rfl (fun ls hl => ?_)
          refine lv_goto (tgt := 4) hx hb d_M_lastTaker_41 (by decide) ?_
          exact ih (i + 1) (by omega) o (mx_lt_no ho (fun hc => by rw [h18] at hc; cases hc)) H locs ls hw (lv_sub hl [0, 1, 2, 3] rfl)
        · refine lv_aload_n hx hb d_M_lastTaker_21 rfl (lv_at hl 2 rfl) ?_
          refine lv_iload_n hx hb d_M_lastTaker_22 rfl (lv_at hl 0 rfl) ?_
          refine lv_iload_n hx hb d_M_lastTaker_23 rfl (lv_at hl 3 rfl) ?_
          refine gd_callVL (As := [.int (nI i), .int (nI po)]) (rest := []) cx hw (c_M_netAt l D ct _ q X ch i po hX hi3 hpo) cv_M_60 ⟨by decide, by decide⟩ ⟨rfl, rfl⟩ [0, 1, 2, 3, 4, 5, 6, 7] rfl rfl 0 4 rfl rfl (gd_jr hw [0, 1, 2, 3, 4, 5, 6, 7] rfl) rfl hl.1 rfl (Nat.le_of_ble_eq_true rfl) ⟨Nat.zero_le _, Nat.zero_le _⟩ d_M_lastTaker_24 (fun r u H locs hp hw => ?_)
          subst hp
          refine lv_lconst (v := mx_l 0) hx hb d_M_lastTaker_27 (by decide) ?_
          refine gd_lge (tgt := 36) hx hb d_M_lastTaker_28 d_M_lastTaker_29 (by decide) (by unfold mx_fit; omega) (by unfold mx_fit; omega) (fun h29 => ?_) (fun h29 => ?_)
          · refine lv_iload_n hx hb d_M_lastTaker_36 rfl (lv_at hl 1 rfl) ?_
            refine lv_istore_n (lv' := [(2, .int (mx_o o)), (3, .int (nI i)), (0, .ref (q 0)), (1, .int (nI po))]) hx hb d_M_lastTaker_37 rfl hl (by decide) rfl (fun ls hl => ?_)
            refine lv_iinc (v := nI (i + 1)) (lv' := [(3, .int (nI (i + 1))), (2, .int (mx_o o)), (0, .ref (q 0)), (1, .int (nI po))]) hx hb d_M_lastTaker_38 hl (k := 1) rfl (gd_inc1 _) (by decide) rfl (fun ls hl => ?_)
            refine lv_goto (tgt := 4) hx hb d_M_lastTaker_41 (by decide) ?_
            exact ih (i + 1) (by omega) o (mx_lt_no ho (fun _ => by omega)) H locs ls hw (lv_sub hl [0, 1, 2, 3] rfl)
          · refine lv_iload_n hx hb d_M_lastTaker_32 rfl (lv_at hl 0 rfl) ?_
            refine lv_goto (tgt := 37) hx hb d_M_lastTaker_33 (by decide) ?_
            refine lv_istore_n (lv' := [(2, .int (nI i)), (3, .int (nI i)), (0, .ref (q 0)), (1, .int (nI po))]) hx hb d_M_lastTaker_37 rfl hl (by decide) rfl (fun ls hl => ?_)
            refine lv_iinc (v := nI (i + 1)) (lv' := [(3, .int (nI (i + 1))), (2, .int (nI i)), (0, .ref (q 0)), (1, .int (nI po))]) hx hb d_M_lastTaker_38 hl (k := 1) rfl (gd_inc1 _) (by decide) rfl (fun ls hl => ?_)
            refine lv_goto (tgt := 4) hx hb d_M_lastTaker_41 (by decide) ?_
            exact ih (i + 1) (by omega) (some i) (mx_lt_yes h18 h29) H locs ls hw (lv_sub hl [0, 1, 2, 3] rfl)
  refine lv_iconst (v := mx_o none) hx hb d_M_lastTaker_0 (by decide) ?_
  refine lv_istore_n (lv' := [(2, .int (mx_o none)), (0, .ref (q 0)), (1, .int (nI po))]) hx hb d_M_lastTaker_1 rfl hl (by decide) rfl (fun ls hl => ?_)
  refine lv_iconst (v := nI 0) hx hb d_M_lastTaker_2 (by decide) ?_
  refine lv_istore_n (lv' := [(3, .int (nI 0)), (2, .int (mx_o none)), (0, .ref (q 0)), (1, .int (nI po))]) hx hb d_M_lastTaker_3 rfl hl (by decide) rfl (fun ls hl => ?_)
  exact loop (mx_n X) 0 (by omega) none (fun j hj => by omega) _ _ ls hw (lv_sub hl [0, 1, 2, 3] rfl)
set_option maxHeartbeats 4000000 in
set_option maxRecDepth 100000 in
/-- GridDeskModel.meet -/
theorem c_M_meet (l : Launch) (D : va_G) (ct : Nat → ClassId) (sz : Nat) (q : Nat → Nat) (X : GX) (ch : Nat → Bool) (i j : Nat) (hX : mx_WF X) (hi : i < 200) (hj : j < 200) : gd_ctI l y_M_meet k_M_meet rm_M_meet D ct [.ref (q 0), .int (nI i), .int (nI j)] sz (wM q ct X ch) (S := Bool) (fun r u => r = mx_b u ∧ (u = true ↔ mx_mt X i j)) (fun u => wM q ct X ch) := by
  refine gd_entI (by decide +kernel) rfl (Nat.le_of_ble_eq_true rfl) (fun p e s m below meth c Q A ls cx hw hl hret => ?_)
  have hx := cx.1
  have hb := cx.2.1
  have hl : lv_has ls 5 [(0, .ref (q 0)), (1, .int (nI i)), (2, .int (nI j))] := hl
  have hm16 := hX.m i
  have loop : ∀ (d k : Nat), k + d = mx_m X i → ∀ (bo : Bool), mx_me X i j k bo → ∀ (H : Heap) (locs : List Loc) (ls : Array Slot), gd_Ws D A s (wM q ct X ch) H locs → lv_has ls 5 [(4, .int (nI (16 * i + k))), (3, .int (mx_b bo)), (0, .ref (q 0)), (1, .int (nI i)), (2, .int (nI j))] → W p l e rm_M_meet s m [.ref (q 0), .int (nI i), .int (nI j)].toArray below meth c H locs 0 0 Q (F0 m 8 ls []) := by
    intro d
    induction d with
    | zero =>
      intro k hk bo hm H locs ls hw hl
      refine lv_iload hx hb d_M_meet_8 (lv_at hl 0 rfl) ?_
      refine lv_bipush (v := nI 16) hx hb d_M_meet_10 (by decide) ?_
      refine lv_iload_n hx hb d_M_meet_12 rfl (lv_at hl 3 rfl) ?_
      refine gd_imul hx hb d_M_meet_13 ?_
      refine lv_aload_n hx hb d_M_meet_14 rfl (lv_at hl 2 rfl) ?_
      refine gd_get (v := .ref (q 5)) i_M cx hw 0 rfl rfl 5 (by decide) tw_257 rfl rfl d_M_meet_15 ?_
      refine lv_iload_n hx hb d_M_meet_18 rfl (lv_at hl 3 rfl) ?_
      refine gd_ild (v := nI (mx_m X i)) cx hw 5 rfl (by omega) (by decide) rfl d_M_meet_19 ?_
      refine gd_iadd hx hb d_M_meet_20 ?_
      refine gd_ge (tgt := 69) hx hb d_M_meet_21 (by decide) (by omega) (by omega) (fun h21 => ?_) (fun h21 => ?_)
      · refine lv_iload_n hx hb d_M_meet_69 rfl (lv_at hl 1 rfl) ?_
        exact hret _ bo _ _ _ _ (by cases bo <;> rfl) d_M_meet_70 ⟨rfl, mx_me_end hX (by omega) hm⟩ hw
      · omega
    | succ d ih =>
      intro k hk bo hm H locs ls hw hl
      refine lv_iload hx hb d_M_meet_8 (lv_at hl 0 rfl) ?_
      refine lv_bipush (v := nI 16) hx hb d_M_meet_10 (by decide) ?_
      refine lv_iload_n hx hb d_M_meet_12 rfl (lv_at hl 3 rfl) ?_
      refine gd_imul hx hb d_M_meet_13 ?_
      refine lv_aload_n hx hb d_M_meet_14 rfl (lv_at hl 2 rfl) ?_
      refine gd_get (v := .ref (q 5)) i_M cx hw 0 rfl rfl 5 (by decide) tw_257 rfl rfl d_M_meet_15 ?_
      refine lv_iload_n hx hb d_M_meet_18 rfl (lv_at hl 3 rfl) ?_
      refine gd_ild (v := nI (mx_m X i)) cx hw 5 rfl (by omega) (by decide) rfl d_M_meet_19 ?_
      refine gd_iadd hx hb d_M_meet_20 ?_
      refine gd_ge (tgt := 69) hx hb d_M_meet_21 (by decide) (by omega) (by omega) (fun h21 => ?_) (fun h21 => ?_)
      · omega
      · have hnet := hX.net (i := i) (k := k) (by omega)
        have hnb := mx_net_bound hX j (mx_p X (16 * i + k))
        refine lv_iload_n hx hb d_M_meet_24 rfl (lv_at hl 1 rfl) ?_
        refine gd_ifne (tgt := 57) hx hb d_M_meet_25 (by decide) (fun h25 => ?_) (fun h25 => ?_)
        · refine lv_iconst (v := nI 1) hx hb d_M_meet_57 (by decide) ?_
          refine lv_goto (tgt := 62) hx hb d_M_meet_58 (by decide) ?_
          refine lv_istore_n (lv' := [(3, .int (nI 1)), (4, .int (nI (16 * i + k))), (0, .ref (q 0)), (1, .int (nI i)), (2, .int (nI j))]) hx hb d_M_meet_62 rfl hl (by decide) rfl (fun ls hl => ?_)
          refine lv_iinc (v := nI ((16 * i + k) + 1)) (lv' := [(4, .int (nI ((16 * i + k) + 1))), (3, .int (nI 1)), (0, .ref (q 0)), (1, .int (nI i)), (2, .int (nI j))]) hx hb d_M_meet_63 hl (k := 1) rfl (gd_inc1 _) (by decide) rfl (fun ls hl => ?_)
          refine lv_goto (tgt := 8) hx hb d_M_meet_66 (by decide) ?_
          exact ih (k + 1) (by omega) true (mx_me_yes hm (Or.inl h25)) H locs ls hw (lv_sub hl [0, 1, 2, 3, 4] rfl)
        · refine lv_aload_n hx hb d_M_meet_28 rfl (lv_at hl 2 rfl) ?_
          refine gd_get (v := .ref (q 7)) i_M cx hw 0 rfl rfl 7 (by decide) tw_259 rfl rfl d_M_meet_29 ?_
          refine lv_iload hx hb d_M_meet_32 (lv_at hl 0 rfl) ?_
          refine gd_lld (v := mx_l (mx_a X (16 * i + k))) cx hw 7 rfl (by omega) (by decide) rfl d_M_meet_34 ?_
          refine lv_lconst (v := mx_l 0) hx hb d_M_meet_35 (by decide) ?_
          refine gd_lge (tgt := 61) hx hb d_M_meet_36 d_M_meet_37 (by decide) (by unfold mx_fit; omega) (by unfold mx_fit; omega) (fun h37 => ?_) (fun h37 => ?_)
          · refine lv_iconst (v := nI 0) hx hb d_M_meet_61 (by decide) ?_
            refine lv_istore_n (lv' := [(3, .int (nI 0)), (4, .int (nI (16 * i + k))), (0, .ref (q 0)), (1, .int (nI i)), (2, .int (nI j))]) hx hb d_M_meet_62 rfl hl (by decide) rfl (fun ls hl => ?_)
            refine lv_iinc (v := nI ((16 * i + k) + 1)) (lv' := [(4, .int (nI ((16 * i + k) + 1))), (3, .int (nI 0)), (0, .ref (q 0)), (1, .int (nI i)), (2, .int (nI j))]) hx hb d_M_meet_63 hl (k := 1) rfl (gd_inc1 _) (by decide) rfl (fun ls hl => ?_)
            refine lv_goto (tgt := 8) hx hb d_M_meet_66 (by decide) ?_
            exact ih (k + 1) (by omega) false (mx_me_no hm h25 (fun h => by have h1 := h.1; have h2 := h.2; omega)) H locs ls hw (lv_sub hl [0, 1, 2, 3, 4] rfl)
          · refine lv_aload_n hx hb d_M_meet_40 rfl (lv_at hl 2 rfl) ?_
            refine lv_iload_n hx hb d_M_meet_41 rfl (lv_at hl 4 rfl) ?_
            refine lv_aload_n hx hb d_M_meet_42 rfl (lv_at hl 2 rfl) ?_
            refine gd_get (v := .ref (q 6)) i_M cx hw 0 rfl rfl 6 (by decide) tw_258 rfl rfl d_M_meet_43 ?_
            refine lv_iload hx hb d_M_meet_46 (lv_at hl 0 rfl) ?_
            refine gd_ild (v := nI (mx_p X (16 * i + k))) cx hw 6 rfl (by omega) (by decide) rfl d_M_meet_48 ?_
            refine gd_callVL (As := [.int (nI j), .int (nI (mx_p X (16 * i + k)))]) (rest := []) cx hw (c_M_netAt l D ct _ q X ch j (mx_p X (16 * i + k)) hX hj hnet.1) cv_M_60 ⟨by decide, by decide⟩ ⟨rfl, rfl⟩ [0, 1, 2, 3, 4, 5, 6, 7] rfl rfl 0 4 rfl rfl (gd_jr hw [0, 1, 2, 3, 4, 5, 6, 7] rfl) rfl hl.1 rfl (Nat.le_of_ble_eq_true rfl) ⟨Nat.zero_le _, Nat.zero_le _⟩ d_M_meet_49 (fun r u H locs hp hw => ?_)
            subst hp
            refine lv_lconst (v := mx_l 0) hx hb d_M_meet_52 (by decide) ?_
            refine gd_lge (tgt := 61) hx hb d_M_meet_53 d_M_meet_54 (by decide) (by unfold mx_fit; omega) (by unfold mx_fit; omega) (fun h54 => ?_) (fun h54 => ?_)
            · refine lv_iconst (v := nI 0) hx hb d_M_meet_61 (by decide) ?_
              refine lv_istore_n (lv' := [(3, .int (nI 0)), (4, .int (nI (16 * i + k))), (0, .ref (q 0)), (1, .int (nI i)), (2, .int (nI j))]) hx hb d_M_meet_62 rfl hl (by decide) rfl (fun ls hl => ?_)
              refine lv_iinc (v := nI ((16 * i + k) + 1)) (lv' := [(4, .int (nI ((16 * i + k) + 1))), (3, .int (nI 0)), (0, .ref (q 0)), (1, .int (nI i)), (2, .int (nI j))]) hx hb d_M_meet_63 hl (k := 1) rfl (gd_inc1 _) (by decide) rfl (fun ls hl => ?_)
              refine lv_goto (tgt := 8) hx hb d_M_meet_66 (by decide) ?_
              exact ih (k + 1) (by omega) false (mx_me_no hm h25 (fun h => by have h1 := h.1; have h2 := h.2; omega)) H locs ls hw (lv_sub hl [0, 1, 2, 3, 4] rfl)
            · refine lv_iconst (v := nI 1) hx hb d_M_meet_57 (by decide) ?_
              refine lv_goto (tgt := 62) hx hb d_M_meet_58 (by decide) ?_
              refine lv_istore_n (lv' := [(3, .int (nI 1)), (4, .int (nI (16 * i + k))), (0, .ref (q 0)), (1, .int (nI i)), (2, .int (nI j))]) hx hb d_M_meet_62 rfl hl (by decide) rfl (fun ls hl => ?_)
              refine lv_iinc (v := nI ((16 * i + k) + 1)) (lv' := [(4, .int (nI ((16 * i + k) + 1))), (3, .int (nI 1)), (0, .ref (q 0)), (1, .int (nI i)), (2, .int (nI j))]) hx hb d_M_meet_63 hl (k := 1) rfl (gd_inc1 _) (by decide) rfl (fun ls hl => ?_)
              refine lv_goto (tgt := 8) hx hb d_M_meet_66 (by decide) ?_
              exact ih (k + 1) (by omega) true (mx_me_yes hm (Or.inr ⟨h37, h54⟩)) H locs ls hw (lv_sub hl [0, 1, 2, 3, 4] rfl)
  refine lv_iconst (v := nI 0) hx hb d_M_meet_0 (by decide) ?_
  refine lv_istore_n (lv' := [(3, .int (nI 0)), (0, .ref (q 0)), (1, .int (nI i)), (2, .int (nI j))]) hx hb d_M_meet_1 rfl hl (by decide) rfl (fun ls hl => ?_)
  refine lv_bipush (v := nI 16) hx hb d_M_meet_2 (by decide) ?_
  refine lv_iload_n hx hb d_M_meet_4 rfl (lv_at hl 2 rfl) ?_
  refine gd_imul hx hb d_M_meet_5 ?_
  refine lv_istore (lv' := [(4, .int (nI (16 * i))), (3, .int (nI 0)), (0, .ref (q 0)), (1, .int (nI i)), (2, .int (nI j))]) hx hb d_M_meet_6 hl (by decide) rfl (fun ls hl => ?_)
  exact loop (mx_m X i) 0 (by omega) false ⟨fun q => (by cases q), fun ⟨j, h, _⟩ => by omega⟩ _ _ ls hw (lv_sub hl [0, 1, 2, 3, 4] rfl)
set_option maxHeartbeats 4000000 in
set_option maxRecDepth 100000 in
/-- GridDeskModel.lacks -/
theorem c_M_lacks (l : Launch) (D : va_G) (ct : Nat → ClassId) (sz : Nat) (q : Nat → Nat) (X : GX) (ch : Nat → Bool) (i : Nat) (hX : mx_WF X) (hi : i < 200) : gd_ctI l y_M_lacks k_M_lacks rm_M_lacks D ct [.ref (q 0), .int (nI i)] sz (wM q ct X ch) (S := Bool) (fun r u => r = mx_b u ∧ (u = true ↔ ∃ j, j < i ∧ mx_t X j = true ∧ ch j = false ∧ mx_mt X j i)) (fun u => wM q ct X ch) := by
  refine gd_entI (by decide +kernel) rfl (Nat.le_of_ble_eq_true rfl) (fun p e s m below meth c Q A ls cx hw hl hret => ?_)
  have hx := cx.1
  have hb := cx.2.1
  have hl : lv_has ls 4 [(0, .ref (q 0)), (1, .int (nI i))] := hl
  have loop : ∀ (d j : Nat), j + d = i → ∀ (bo : Bool), mx_ly X ch i j bo → ∀ (H : Heap) (locs : List Loc) (ls : Array Slot), gd_Ws D A s (wM q ct X ch) H locs → lv_has ls 4 [(3, .int (nI j)), (2, .int (mx_b bo)), (0, .ref (q 0)), (1, .int (nI i))] → W p l e rm_M_lacks s m [.ref (q 0), .int (nI i)].toArray below meth c H locs 0 0 Q (F0 m 4 ls []) := by
    intro d
    induction d with
    | zero =>
      intro j hj bo hm H locs ls hw hl
      refine lv_iload_n hx hb d_M_lacks_4 rfl (lv_at hl 0 rfl) ?_
      refine lv_iload_n hx hb d_M_lacks_5 rfl (lv_at hl 3 rfl) ?_
      refine gd_ge (tgt := 52) hx hb d_M_lacks_6 (by decide) (by omega) (by omega) (fun h6 => ?_) (fun h6 => ?_)
      · have e0 : j = i := by omega
        subst e0
        refine lv_iload_n hx hb d_M_lacks_52 rfl (lv_at hl 1 rfl) ?_
        exact hret _ bo _ _ _ _ (by cases bo <;> rfl) d_M_lacks_53 ⟨rfl, hm⟩ hw
      · omega
    | succ d ih =>
      intro j hj bo hm H locs ls hw hl
      refine lv_iload_n hx hb d_M_lacks_4 rfl (lv_at hl 0 rfl) ?_
      refine lv_iload_n hx hb d_M_lacks_5 rfl (lv_at hl 3 rfl) ?_
      refine gd_ge (tgt := 52) hx hb d_M_lacks_6 (by decide) (by omega) (by omega) (fun h6 => ?_) (fun h6 => ?_)
      · omega
      · have hj3 : j < 200 := by omega
        refine lv_iload_n hx hb d_M_lacks_9 rfl (lv_at hl 1 rfl) ?_
        refine gd_ifne (tgt := 40) hx hb d_M_lacks_10 (by decide) (fun h10 => ?_) (fun h10 => ?_)
        · refine lv_iconst (v := nI 1) hx hb d_M_lacks_40 (by decide) ?_
          refine lv_goto (tgt := 45) hx hb d_M_lacks_41 (by decide) ?_
          refine lv_istore_n (lv' := [(2, .int (nI 1)), (3, .int (nI j)), (0, .ref (q 0)), (1, .int (nI i))]) hx hb d_M_lacks_45 rfl hl (by decide) rfl (fun ls hl => ?_)
          refine lv_iinc (v := nI (j + 1)) (lv' := [(3, .int (nI (j + 1))), (2, .int (nI 1)), (0, .ref (q 0)), (1, .int (nI i))]) hx hb d_M_lacks_46 hl (k := 1) rfl (gd_inc1 _) (by decide) rfl (fun ls hl => ?_)
          refine lv_goto (tgt := 4) hx hb d_M_lacks_49 (by decide) ?_
          exact ih (j + 1) (by omega) true (mx_ly_yes hm (Or.inl h10)) H locs ls hw (lv_sub hl [0, 1, 2, 3] rfl)
        · refine lv_aload_n hx hb d_M_lacks_13 rfl (lv_at hl 2 rfl) ?_
          refine gd_get (v := .ref (q 3)) i_M cx hw 0 rfl rfl 3 (by decide) tw_255 rfl rfl d_M_lacks_14 ?_
          refine lv_iload_n hx hb d_M_lacks_17 rfl (lv_at hl 0 rfl) ?_
          refine gd_zld (v := mx_b (mx_t X j)) cx hw 3 rfl (by omega) (by decide) rfl d_M_lacks_18 ?_
          refine gd_ifeq (tgt := 44) hx hb d_M_lacks_19 (by decide) (fun h19 => ?_) (fun h19 => ?_)
          · refine lv_iconst (v := nI 0) hx hb d_M_lacks_44 (by decide) ?_
            refine lv_istore_n (lv' := [(2, .int (nI 0)), (3, .int (nI j)), (0, .ref (q 0)), (1, .int (nI i))]) hx hb d_M_lacks_45 rfl hl (by decide) rfl (fun ls hl => ?_)
            refine lv_iinc (v := nI (j + 1)) (lv' := [(3, .int (nI (j + 1))), (2, .int (nI 0)), (0, .ref (q 0)), (1, .int (nI i))]) hx hb d_M_lacks_46 hl (k := 1) rfl (gd_inc1 _) (by decide) rfl (fun ls hl => ?_)
            refine lv_goto (tgt := 4) hx hb d_M_lacks_49 (by decide) ?_
            exact ih (j + 1) (by omega) false (mx_ly_no hm h10 (fun h => by rw [h.1] at h19; cases h19)) H locs ls hw (lv_sub hl [0, 1, 2, 3] rfl)
          · refine lv_aload_n hx hb d_M_lacks_22 rfl (lv_at hl 2 rfl) ?_
            refine gd_get (v := .ref (q 4)) i_M cx hw 0 rfl rfl 4 (by decide) tw_256 rfl rfl d_M_lacks_23 ?_
            refine lv_iload_n hx hb d_M_lacks_26 rfl (lv_at hl 0 rfl) ?_
            refine gd_zld (v := mx_b (ch j)) cx hw 4 rfl (by omega) (by decide) rfl d_M_lacks_27 ?_
            refine gd_ifne (tgt := 44) hx hb d_M_lacks_28 (by decide) (fun h28 => ?_) (fun h28 => ?_)
            · refine lv_iconst (v := nI 0) hx hb d_M_lacks_44 (by decide) ?_
              refine lv_istore_n (lv' := [(2, .int (nI 0)), (3, .int (nI j)), (0, .ref (q 0)), (1, .int (nI i))]) hx hb d_M_lacks_45 rfl hl (by decide) rfl (fun ls hl => ?_)
              refine lv_iinc (v := nI (j + 1)) (lv' := [(3, .int (nI (j + 1))), (2, .int (nI 0)), (0, .ref (q 0)), (1, .int (nI i))]) hx hb d_M_lacks_46 hl (k := 1) rfl (gd_inc1 _) (by decide) rfl (fun ls hl => ?_)
              refine lv_goto (tgt := 4) hx hb d_M_lacks_49 (by decide) ?_
              exact ih (j + 1) (by omega) false (mx_ly_no hm h10 (fun h => by rw [h.2.1] at h28; cases h28)) H locs ls hw (lv_sub hl [0, 1, 2, 3] rfl)
            · refine lv_aload_n hx hb d_M_lacks_31 rfl (lv_at hl 2 rfl) ?_
              refine lv_iload_n hx hb d_M_lacks_32 rfl (lv_at hl 0 rfl) ?_
              refine lv_iload_n hx hb d_M_lacks_33 rfl (lv_at hl 3 rfl) ?_
              refine gd_callVI (As := [.int (nI j), .int (nI i)]) (rest := []) cx hw (c_M_meet l D ct _ q X ch j i hX hj3 hi) cv_M_68 ⟨by decide, by decide⟩ ⟨rfl, rfl⟩ [0, 1, 2, 3, 4, 5, 6, 7] rfl rfl 0 4 rfl rfl (gd_jr hw [0, 1, 2, 3, 4, 5, 6, 7] rfl) rfl hl.1 rfl (Nat.le_of_ble_eq_true rfl) ⟨Nat.zero_le _, Nat.zero_le _⟩ d_M_lacks_34 (fun r u H locs hp hw => ?_)
              obtain ⟨rfl, hmt⟩ := hp
              refine gd_ifeq (tgt := 44) hx hb d_M_lacks_37 (by decide) (fun h37 => ?_) (fun h37 => ?_)
              · refine lv_iconst (v := nI 0) hx hb d_M_lacks_44 (by decide) ?_
                refine lv_istore_n (lv' := [(2, .int (nI 0)), (3, .int (nI j)), (0, .ref (q 0)), (1, .int (nI i))]) hx hb d_M_lacks_45 rfl hl (by decide) rfl (fun ls hl => ?_)
                refine lv_iinc (v := nI (j + 1)) (lv' := [(3, .int (nI (j + 1))), (2, .int (nI 0)), (0, .ref (q 0)), (1, .int (nI i))]) hx hb d_M_lacks_46 hl (k := 1) rfl (gd_inc1 _) (by decide) rfl (fun ls hl => ?_)
                refine lv_goto (tgt := 4) hx hb d_M_lacks_49 (by decide) ?_
                exact ih (j + 1) (by omega) false (mx_ly_no hm h10 (fun h => by rw [hmt.mpr h.2.2] at h37; cases h37)) H locs ls hw (lv_sub hl [0, 1, 2, 3] rfl)
              · refine lv_iconst (v := nI 1) hx hb d_M_lacks_40 (by decide) ?_
                refine lv_goto (tgt := 45) hx hb d_M_lacks_41 (by decide) ?_
                refine lv_istore_n (lv' := [(2, .int (nI 1)), (3, .int (nI j)), (0, .ref (q 0)), (1, .int (nI i))]) hx hb d_M_lacks_45 rfl hl (by decide) rfl (fun ls hl => ?_)
                refine lv_iinc (v := nI (j + 1)) (lv' := [(3, .int (nI (j + 1))), (2, .int (nI 1)), (0, .ref (q 0)), (1, .int (nI i))]) hx hb d_M_lacks_46 hl (k := 1) rfl (gd_inc1 _) (by decide) rfl (fun ls hl => ?_)
                refine lv_goto (tgt := 4) hx hb d_M_lacks_49 (by decide) ?_
                exact ih (j + 1) (by omega) true (mx_ly_yes hm (Or.inr ⟨h19, h28, hmt.mp h37⟩)) H locs ls hw (lv_sub hl [0, 1, 2, 3] rfl)
  refine lv_iconst (v := nI 0) hx hb d_M_lacks_0 (by decide) ?_
  refine lv_istore_n (lv' := [(2, .int (nI 0)), (0, .ref (q 0)), (1, .int (nI i))]) hx hb d_M_lacks_1 rfl hl (by decide) rfl (fun ls hl => ?_)
  refine lv_iconst (v := nI 0) hx hb d_M_lacks_2 (by decide) ?_
  refine lv_istore_n (lv' := [(3, .int (nI 0)), (2, .int (nI 0)), (0, .ref (q 0)), (1, .int (nI i))]) hx hb d_M_lacks_3 rfl hl (by decide) rfl (fun ls hl => ?_)
  exact loop i 0 (by omega) false ⟨fun q => (by cases q), fun ⟨j, h, _⟩ => by omega⟩ _ _ ls hw (lv_sub hl [0, 1, 2, 3] rfl)
set_option maxHeartbeats 4000000 in
set_option maxRecDepth 100000 in
/-- GridDeskModel.solve -/
theorem c_M_solve (l : Launch) (D : va_G) (ct : Nat → ClassId) (sz : Nat) (q : Nat → Nat) (X : GX) (ch : Nat → Bool) (hX : mx_WF X) (hch : ∀ i, mx_n X ≤ i → ch i = false) : gd_ctI l y_M_solve k_M_solve rm_M_solve D ct [.ref (q 0)] sz (wM q ct X ch) (S := (Nat → Bool)) (fun r u => r = nI (mx_cnt u 200) ∧ mx_Sol X u) (fun u => wM q ct X u) := by
  refine gd_entI (by decide +kernel) rfl (Nat.le_of_ble_eq_true rfl) (fun p e s m below meth c Q A ls cx hw hl hret => ?_)
  have hx := cx.1
  have hb := cx.2.1
  have hl : lv_has ls 3 [(0, .ref (q 0))] := hl
  have hn := hX.n
  have loopW : ∀ (d : Nat) (ch : Nat → Bool) (ag : Bool), 2 * mx_cnt ch 200 + (if ag = true then 1 else 0) < d → (∀ i, ch i = true → mx_t X i = true) → (∀ i, mx_t X i = true → ch i = false → mx_No X i) → (ag = false → mx_Sol X ch) → ∀ (H : Heap) (locs : List Loc) (ls : Array Slot), gd_Ws D A s (wM q ct X ch) H locs → lv_has ls 3 [(1, .int (mx_b ag)), (0, .ref (q 0))] → W p l e rm_M_solve s m [.ref (q 0)].toArray below meth c H locs 0 0 Q (F0 m 29 ls []) := by
    intro d
    induction d with
    | zero =>
      intro ch ag hd
      omega
    | succ d ihW =>
      intro ch ag hd hs1 hs2 hs3 H locs ls hw hl
      refine lv_iload_n hx hb d_M_solve_29 rfl (lv_at hl 0 rfl) ?_
      refine gd_ifeq (tgt := 123) hx hb d_M_solve_30 (by decide) (fun h30 => ?_) (fun h30 => ?_)
      · refine lv_aload_n hx hb d_M_solve_123 rfl (lv_at hl 1 rfl) ?_
        refine lv_iconst (v := nI 2) hx hb d_M_solve_124 (by decide) ?_
        refine gd_callVI (As := [.int (nI 2)]) (rest := []) cx hw (c_M_count l D ct _ q X ch (nI 2)) cv_M_83 ⟨by decide, by decide⟩ ⟨rfl, rfl⟩ [0, 1, 2, 3, 4, 5, 6, 7] rfl rfl 0 4 rfl rfl (gd_jr hw [0, 1, 2, 3, 4, 5, 6, 7] rfl) rfl hl.1 rfl (Nat.le_of_ble_eq_true rfl) ⟨Nat.zero_le _, Nat.zero_le _⟩ d_M_solve_125 (fun r u H locs hp hw => ?_)
        rw [mx_cF_2] at hp
        subst hp
        exact hret _ ch _ _ _ _ rfl d_M_solve_128 ⟨rfl, hs3 h30⟩ hw
      · rw [h30, if_pos rfl] at hd
        have hC0 : mx_CI X (mx_cnt ch 200) ch false := ⟨hs1, hs2, Nat.le_refl _, fun q => by cases q⟩
        generalize hc0 : mx_cnt ch 200 = c0 at hd hC0
        have loopI : ∀ (d2 i : Nat), i + d2 = mx_n X → ∀ (ch : Nat → Bool) (ag : Bool), mx_II X c0 ch ag i → ∀ (H : Heap) (locs : List Loc) (ls : Array Slot), gd_Ws D A s (wM q ct X ch) H locs → lv_has ls 3 [(2, .int (nI i)), (1, .int (mx_b ag)), (0, .ref (q 0))] → W p l e rm_M_solve s m [.ref (q 0)].toArray below meth c H locs 0 0 Q (F0 m 80 ls []) := by
          intro d2
          induction d2 with
          | zero =>
            intro i hi ch ag hI H locs ls hw hl
            refine lv_iload_n hx hb d_M_solve_80 rfl (lv_at hl 0 rfl) ?_
            refine lv_aload_n hx hb d_M_solve_81 rfl (lv_at hl 2 rfl) ?_
            refine gd_get (v := .int (nI (mx_n X))) i_M cx hw 0 rfl rfl 2 (by decide) tw_254 rfl rfl d_M_solve_82 ?_
            refine gd_ge (tgt := 120) hx hb d_M_solve_85 (by decide) (by omega) (by omega) (fun h85 => ?_) (fun h85 => ?_)
            · have e0 : i = mx_n X := by omega
              subst e0
              refine lv_goto (tgt := 29) hx hb d_M_solve_120 (by decide) ?_
              refine ihW ch ag ?_ hI.1.1 hI.1.2.1 (fun ha => by subst ha; exact mx_II_end hX hI) H locs ls hw (lv_sub hl [1, 2] rfl)
              have h3 := hI.1.2.2.1
              have h4 := hI.1.2.2.2
              cases ag with
              | false => rw [if_neg (by decide)]; omega
              | true =>
                have := h4 rfl
                rw [if_pos rfl]; omega
            · omega
          | succ d2 ih =>
            intro i hi ch ag hI H locs ls hw hl
            refine lv_iload_n hx hb d_M_solve_80 rfl (lv_at hl 0 rfl) ?_
            refine lv_aload_n hx hb d_M_solve_81 rfl (lv_at hl 2 rfl) ?_
            refine gd_get (v := .int (nI (mx_n X))) i_M cx hw 0 rfl rfl 2 (by decide) tw_254 rfl rfl d_M_solve_82 ?_
            refine gd_ge (tgt := 120) hx hb d_M_solve_85 (by decide) (by omega) (by omega) (fun h85 => ?_) (fun h85 => ?_)
            · omega
            · have hi3 : i < 200 := by omega
              refine lv_aload_n hx hb d_M_solve_88 rfl (lv_at hl 2 rfl) ?_
              refine gd_get (v := .ref (q 4)) i_M cx hw 0 rfl rfl 4 (by decide) tw_256 rfl rfl d_M_solve_89 ?_
              refine lv_iload_n hx hb d_M_solve_92 rfl (lv_at hl 0 rfl) ?_
              refine gd_zld (v := mx_b (ch i)) cx hw 4 rfl (by omega) (by decide) rfl d_M_solve_93 ?_
              refine gd_ifeq (tgt := 114) hx hb d_M_solve_94 (by decide) (fun h94 => ?_) (fun h94 => ?_)
              · refine lv_iinc (v := nI (i + 1)) (lv' := [(2, .int (nI (i + 1))), (1, .int (mx_b ag)), (0, .ref (q 0))]) hx hb d_M_solve_114 hl (k := 0) rfl (gd_inc1 _) (by decide) rfl (fun ls hl => ?_)
                refine lv_goto (tgt := 80) hx hb d_M_solve_117 (by decide) ?_
                exact ih (i + 1) (by omega) ch ag (mx_II_ok hI (fun hc => by rw [h94] at hc; cases hc)) H locs ls hw (lv_sub hl [0, 1, 2] rfl)
              · refine lv_aload_n hx hb d_M_solve_97 rfl (lv_at hl 2 rfl) ?_
                refine lv_iload_n hx hb d_M_solve_98 rfl (lv_at hl 0 rfl) ?_
                refine gd_callVI (As := [.int (nI i)]) (rest := []) cx hw (c_M_lacks l D ct _ q X ch i hX hi3) cv_M_80 ⟨by decide, by decide⟩ ⟨rfl, rfl⟩ [0, 1, 2, 3, 4, 5, 6, 7] rfl rfl 0 4 rfl rfl (gd_jr hw [0, 1, 2, 3, 4, 5, 6, 7] rfl) rfl hl.1 rfl (Nat.le_of_ble_eq_true rfl) ⟨Nat.zero_le _, Nat.zero_le _⟩ d_M_solve_99 (fun r u H locs hp hw => ?_)
                obtain ⟨rfl, hlk⟩ := hp
                refine gd_ifeq (tgt := 114) hx hb d_M_solve_102 (by decide) (fun h102 => ?_) (fun h102 => ?_)
                · refine lv_iinc (v := nI (i + 1)) (lv' := [(2, .int (nI (i + 1))), (1, .int (mx_b ag)), (0, .ref (q 0))]) hx hb d_M_solve_114 hl (k := 0) rfl (gd_inc1 _) (by decide) rfl (fun ls hl => ?_)
                  refine lv_goto (tgt := 80) hx hb d_M_solve_117 (by decide) ?_
                  exact ih (i + 1) (by omega) ch ag (mx_II_ok hI (fun _ hx => by rw [hlk.mpr hx] at h102; cases h102)) H locs ls hw (lv_sub hl [0, 1, 2] rfl)
                · refine lv_aload_n hx hb d_M_solve_105 rfl (lv_at hl 2 rfl) ?_
                  refine gd_get (v := .ref (q 4)) i_M cx hw 0 rfl rfl 4 (by decide) tw_256 rfl rfl d_M_solve_106 ?_
                  refine lv_iload_n hx hb d_M_solve_109 rfl (lv_at hl 0 rfl) ?_
                  refine lv_iconst (v := nI 0) hx hb d_M_solve_110 (by decide) ?_
                  refine gd_zst (g := fun i9 => mx_b (va_up ch i false i9)) (wn := wM q ct X (va_up ch i false)) cx hw 4 rfl (by omega) (by decide) (gd_hz false (by decide)) rfl d_M_solve_111 (fun H locs hw => ?_)
                  refine lv_iconst (v := nI 1) hx hb d_M_solve_112 (by decide) ?_
                  refine lv_istore_n (lv' := [(1, .int (nI 1)), (2, .int (nI i)), (0, .ref (q 0))]) hx hb d_M_solve_113 rfl hl (by decide) rfl (fun ls hl => ?_)
                  refine lv_iinc (v := nI (i + 1)) (lv' := [(2, .int (nI (i + 1))), (1, .int (nI 1)), (0, .ref (q 0))]) hx hb d_M_solve_114 hl (k := 1) rfl (gd_inc1 _) (by decide) rfl (fun ls hl => ?_)
                  refine lv_goto (tgt := 80) hx hb d_M_solve_117 (by decide) ?_
                  exact ih (i + 1) (by omega) _ true (mx_II_drop hi3 hI h94 (hlk.mp h102)) H locs ls hw (lv_sub hl [0, 1, 2] rfl)
        have loopP : ∀ (d2 k : Nat), k + d2 = 300 → ∀ (ch : Nat → Bool) (ag : Bool), mx_PI X c0 ch ag k → ∀ (H : Heap) (locs : List Loc) (ls : Array Slot), gd_Ws D A s (wM q ct X ch) H locs → lv_has ls 3 [(2, .int (nI k)), (1, .int (mx_b ag)), (0, .ref (q 0))] → W p l e rm_M_solve s m [.ref (q 0)].toArray below meth c H locs 0 0 Q (F0 m 37 ls []) := by
          intro d2
          induction d2 with
          | zero =>
            intro k hk ch ag hI H locs ls hw hl
            refine lv_iload_n hx hb d_M_solve_37 rfl (lv_at hl 0 rfl) ?_
            refine lv_sipush (v := nI 300) hx hb d_M_solve_38 (by decide) ?_
            refine gd_ge (tgt := 78) hx hb d_M_solve_41 (by decide) (by omega) (by omega) (fun h41 => ?_) (fun h41 => ?_)
            · have e0 : k = 300 := by omega
              subst e0
              refine lv_iconst (v := nI 0) hx hb d_M_solve_78 (by decide) ?_
              refine lv_istore_n (lv' := [(2, .int (nI 0)), (1, .int (mx_b ag)), (0, .ref (q 0))]) hx hb d_M_solve_79 rfl hl (by decide) rfl (fun ls hl => ?_)
              exact loopI (mx_n X) 0 (by omega) ch ag (mx_II_start hI) H locs ls hw (lv_sub hl [0, 1, 2] rfl)
            · omega
          | succ d2 ih =>
            intro k hk ch ag hI H locs ls hw hl
            refine lv_iload_n hx hb d_M_solve_37 rfl (lv_at hl 0 rfl) ?_
            refine lv_sipush (v := nI 300) hx hb d_M_solve_38 (by decide) ?_
            refine gd_ge (tgt := 78) hx hb d_M_solve_41 (by decide) (by omega) (by omega) (fun h41 => ?_) (fun h41 => ?_)
            · omega
            · have hk3 : k < 300 := by omega
              have htf := mx_tot_fit hX ch hk3
              refine lv_aload_n hx hb d_M_solve_44 rfl (lv_at hl 2 rfl) ?_
              refine lv_iload_n hx hb d_M_solve_45 rfl (lv_at hl 0 rfl) ?_
              refine gd_callVL (As := [.int (nI k)]) (rest := []) cx hw (c_M_total l D ct _ q X ch k hX hk3) cv_M_72 ⟨by decide, by decide⟩ ⟨rfl, rfl⟩ [0, 1, 2, 3, 4, 5, 6, 7] rfl rfl 0 4 rfl rfl (gd_jr hw [0, 1, 2, 3, 4, 5, 6, 7] rfl) rfl hl.1 rfl (Nat.le_of_ble_eq_true rfl) ⟨Nat.zero_le _, Nat.zero_le _⟩ d_M_solve_46 (fun r u H locs hp hw => ?_)
              subst hp
              refine lv_aload_n hx hb d_M_solve_49 rfl (lv_at hl 2 rfl) ?_
              refine gd_get (v := .ref (q 2)) i_M cx hw 0 rfl rfl 1 (by decide) tw_253 rfl rfl d_M_solve_50 ?_
              refine lv_iload_n hx hb d_M_solve_53 rfl (lv_at hl 0 rfl) ?_
              refine gd_lld (v := mx_l (mx_f X k)) cx hw 2 rfl (by omega) (by decide) rfl d_M_solve_54 ?_
              refine gd_lge (tgt := 72) hx hb d_M_solve_55 d_M_solve_56 (by decide) (by unfold mx_fit; omega) (mx_f_fit hX hk3) (fun h56 => ?_) (fun h56 => ?_)
              · refine lv_iinc (v := nI (k + 1)) (lv' := [(2, .int (nI (k + 1))), (1, .int (mx_b ag)), (0, .ref (q 0))]) hx hb d_M_solve_72 hl (k := 0) rfl (gd_inc1 _) (by decide) rfl (fun ls hl => ?_)
                refine lv_goto (tgt := 37) hx hb d_M_solve_75 (by decide) ?_
                exact ih (k + 1) (by omega) ch ag (mx_PI_ok hI h56) H locs ls hw (lv_sub hl [0, 1, 2] rfl)
              · refine lv_aload_n hx hb d_M_solve_59 rfl (lv_at hl 2 rfl) ?_
                refine gd_get (v := .ref (q 4)) i_M cx hw 0 rfl rfl 4 (by decide) tw_256 rfl rfl d_M_solve_60 ?_
                refine lv_aload_n hx hb d_M_solve_63 rfl (lv_at hl 2 rfl) ?_
                refine lv_iload_n hx hb d_M_solve_64 rfl (lv_at hl 0 rfl) ?_
                refine gd_callVI (As := [.int (nI k)]) (rest := [.ref (q 4)]) cx hw (c_M_lastTaker l D ct _ q X ch k hX hk3) cv_M_76 ⟨by decide, by decide⟩ ⟨rfl, rfl⟩ [0, 1, 2, 3, 4, 5, 6, 7] rfl rfl 0 4 rfl rfl (gd_jr hw [0, 1, 2, 3, 4, 5, 6, 7] rfl) rfl hl.1 rfl (Nat.le_of_ble_eq_true rfl) ⟨Nat.zero_le _, Nat.zero_le _⟩ d_M_solve_65 (fun r o H locs hp hw => ?_)
                obtain ⟨rfl, hlt⟩ := hp
                obtain ⟨tt, rfl, htt⟩ := mx_lt_some hX hk3 h56 hlt
                refine W.eq (g2 := F0 m 68 ls [.int (nI tt), .ref (q 4)]) rfl ?_
                refine lv_iconst (v := nI 0) hx hb d_M_solve_68 (by decide) ?_
                refine gd_zst (g := fun i9 => mx_b (va_up ch tt false i9)) (wn := wM q ct X (va_up ch tt false)) cx hw 4 rfl (by omega) (by decide) (gd_hz false (by decide)) rfl d_M_solve_69 (fun H locs hw => ?_)
                refine lv_iconst (v := nI 1) hx hb d_M_solve_70 (by decide) ?_
                refine lv_istore_n (lv' := [(1, .int (nI 1)), (2, .int (nI k)), (0, .ref (q 0))]) hx hb d_M_solve_71 rfl hl (by decide) rfl (fun ls hl => ?_)
                refine lv_iinc (v := nI (k + 1)) (lv' := [(2, .int (nI (k + 1))), (1, .int (nI 1)), (0, .ref (q 0))]) hx hb d_M_solve_72 hl (k := 1) rfl (gd_inc1 _) (by decide) rfl (fun ls hl => ?_)
                refine lv_goto (tgt := 37) hx hb d_M_solve_75 (by decide) ?_
                exact ih (k + 1) (by omega) _ true (mx_PI_drop hX hk3 hI h56 hlt) H locs ls hw (lv_sub hl [0, 1, 2] rfl)
        refine lv_iconst (v := nI 0) hx hb d_M_solve_33 (by decide) ?_
        refine lv_istore_n (lv' := [(1, .int (nI 0)), (0, .ref (q 0))]) hx hb d_M_solve_34 rfl hl (by decide) rfl (fun ls hl => ?_)
        refine lv_iconst (v := nI 0) hx hb d_M_solve_35 (by decide) ?_
        refine lv_istore_n (lv' := [(2, .int (nI 0)), (1, .int (nI 0)), (0, .ref (q 0))]) hx hb d_M_solve_36 rfl hl (by decide) rfl (fun ls hl => ?_)
        exact loopP 300 0 (by omega) ch false ⟨hC0, fun _ po hp => by omega⟩ H locs ls hw (lv_sub hl [0, 1, 2] rfl)
  have loop1 : ∀ (d i : Nat), i + d = 200 → ∀ (ch : Nat → Bool), (∀ j, j < i → ch j = mx_t X j) → (∀ j, mx_n X ≤ j → ch j = false) → ∀ (H : Heap) (locs : List Loc) (ls : Array Slot), gd_Ws D A s (wM q ct X ch) H locs → lv_has ls 3 [(1, .int (nI i)), (0, .ref (q 0))] → W p l e rm_M_solve s m [.ref (q 0)].toArray below meth c H locs 0 0 Q (F0 m 2 ls []) := by
    intro d
    induction d with
    | zero =>
      intro i hi ch hc1 hc2 H locs ls hw hl
      refine lv_iload_n hx hb d_M_solve_2 rfl (lv_at hl 0 rfl) ?_
      refine lv_sipush (v := nI 200) hx hb d_M_solve_3 (by decide) ?_
      refine gd_ge (tgt := 27) hx hb d_M_solve_6 (by decide) (by omega) (by omega) (fun h6 => ?_) (fun h6 => ?_)
      · have e1 : ch = mx_t X := funext fun j => by
          by_cases h : j < 200
          · exact hc1 j (by omega)
          · rw [hc2 j (by omega), (hX.out (by omega)).1]
        subst e1
        refine lv_iconst (v := nI 1) hx hb d_M_solve_27 (by decide) ?_
        refine lv_istore_n (lv' := [(1, .int (nI 1)), (0, .ref (q 0))]) hx hb d_M_solve_28 rfl hl (by decide) rfl (fun ls hl => ?_)
        exact loopW (2 * mx_cnt (mx_t X) 200 + 2) (mx_t X) true (by rw [if_pos rfl]; omega) (fun _ h => h) (fun i h1 h2 => by rw [h1] at h2; cases h2) (fun q => by cases q) H locs ls hw (lv_sub hl [0, 1] rfl)
      · omega
    | succ d ih =>
      intro i hi ch hc1 hc2 H locs ls hw hl
      refine lv_iload_n hx hb d_M_solve_2 rfl (lv_at hl 0 rfl) ?_
      refine lv_sipush (v := nI 200) hx hb d_M_solve_3 (by decide) ?_
      refine gd_ge (tgt := 27) hx hb d_M_solve_6 (by decide) (by omega) (by omega) (fun h6 => ?_) (fun h6 => ?_)
      · omega
      · refine lv_aload_n hx hb d_M_solve_9 rfl (lv_at hl 1 rfl) ?_
        refine gd_get (v := .ref (q 4)) i_M cx hw 0 rfl rfl 4 (by decide) tw_256 rfl rfl d_M_solve_10 ?_
        refine lv_iload_n hx hb d_M_solve_13 rfl (lv_at hl 0 rfl) ?_
        refine lv_aload_n hx hb d_M_solve_14 rfl (lv_at hl 1 rfl) ?_
        refine gd_get (v := .ref (q 3)) i_M cx hw 0 rfl rfl 3 (by decide) tw_255 rfl rfl d_M_solve_15 ?_
        refine lv_iload_n hx hb d_M_solve_18 rfl (lv_at hl 0 rfl) ?_
        refine gd_zld (v := mx_b (mx_t X i)) cx hw 3 rfl (by omega) (by decide) rfl d_M_solve_19 ?_
        refine gd_zst (g := fun i9 => mx_b ((va_up ch i (mx_t X i)) i9)) (wn := wM q ct X (va_up ch i (mx_t X i))) cx hw 4 rfl (by omega) (by decide) (gd_hz (mx_t X i) rfl) rfl d_M_solve_20 (fun H locs hw => ?_)
        refine lv_iinc (v := nI (i + 1)) (lv' := [(1, .int (nI (i + 1))), (0, .ref (q 0))]) hx hb d_M_solve_21 hl (k := 0) rfl (gd_inc1 _) (by decide) rfl (fun ls hl => ?_)
        refine lv_goto (tgt := 2) hx hb d_M_solve_24 (by decide) ?_
        exact ih (i + 1) (by omega) _ (fun j hj => by
          by_cases e : j = i
          · subst e; exact va_up_self _ _ _
          · rw [va_up_ne _ _ e]; exact hc1 j (by omega)) (fun j hj => by
          by_cases e : j = i
          · subst e; rw [va_up_self]; exact (hX.out hj).1
          · rw [va_up_ne _ _ e]; exact hc2 j hj) H locs ls hw (lv_sub hl [0, 1] rfl)
  refine lv_iconst (v := nI 0) hx hb d_M_solve_0 (by decide) ?_
  refine lv_istore_n (lv' := [(1, .int (nI 0)), (0, .ref (q 0))]) hx hb d_M_solve_1 rfl hl (by decide) rfl (fun ls hl => ?_)
  exact loop1 200 0 (by omega) ch (fun j hj => by omega) hch _ _ ls hw (lv_sub hl [0, 1] rfl)
set_option maxHeartbeats 4000000 in
set_option maxRecDepth 100000 in
/-- GridDeskModel.perform -/
theorem c_M_perform (l : Launch) (D : va_G) (ct : Nat → ClassId) (sz : Nat) (q : Nat → Nat) (X : GX) (ch : Nat → Bool) (hX : mx_WF X) (hch : ∀ i, mx_n X ≤ i → ch i = false) : gd_ctI l y_M_perform k_M_perform rm_M_perform D ct [.ref (q 0)] sz (wM q ct X ch) (S := ((Nat → Bool) × GX)) (fun r u => mx_Sol X u.1 ∧ mx_PfP X r u.1 u.2) (fun u => wM q ct u.2 u.1) := by
  refine gd_entI (by decide +kernel) rfl (Nat.le_of_ble_eq_true rfl) (fun p e s m below meth c Q A ls cx hw hl hret => ?_)
  have hx := cx.1
  have hb := cx.2.1
  have hl : lv_has ls 3 [(0, .ref (q 0))] := hl
  have hn := hX.n
  refine lv_aload_n hx hb d_M_perform_0 rfl (lv_at hl 0 rfl) ?_
  refine gd_callVI (As := []) (rest := []) cx hw (c_M_solve l D ct _ q X ch hX hch) cv_M_86 ⟨by decide, by decide⟩ ⟨rfl, rfl⟩ [0, 1, 2, 3, 4, 5, 6, 7] rfl rfl 0 4 rfl rfl (gd_jn (w2 := fun u => wM q ct X u) hw [0, 1, 2, 3, 4, 5, 6, 7] [] [0, 1, 2, 3, 4, 5, 6, 7] rfl rfl rfl (by decide) (fun _ => rfl) rfl) rfl hl.1 rfl (Nat.le_of_ble_eq_true rfl) ⟨Nat.zero_le _, Nat.zero_le _⟩ d_M_perform_1 (fun r ch2 H locs hp hw => ?_)
  obtain ⟨rfl, hSol⟩ := hp
  have hcx : mx_cnt ch2 200 = mx_cnt ch2 (mx_n X) := mx_cnt_ext 200 hn (fun j hj => by
    cases h : ch2 j with
    | false => rfl
    | true => have h1 := hSol.1.1 j h; rw [(hX.out hj).1] at h1; cases h1)
  have loop3 : ∀ (v2 : Nat → Int), (∀ j, j < 300 → v2 j = mx_tot X ch2 j) → (∀ j, j < 300 → mx_tot X ch2 j ≤ 1000000000000000000) → ∀ (d i : Nat), i + d = mx_n X → ∀ (t2 : Nat → Bool), (∀ j, j < i → t2 j = (mx_t X j && !ch2 j)) → (∀ j, i ≤ j → t2 j = mx_t X j) → ∀ (H : Heap) (locs : List Loc) (ls : Array Slot), gd_Ws D A s (wM q ct (mx_n X, t2, mx_m X, mx_p X, mx_a X, v2, mx_f X) ch2) H locs → lv_has ls 3 [(2, .int (nI i)), (1, .int (nI (mx_cnt ch2 200))), (0, .ref (q 0))] → W p l e rm_M_perform s m [.ref (q 0)].toArray below meth c H locs 0 0 Q (F0 m 62 ls []) := by
    intro v2 hv2 hle d
    induction d with
    | zero =>
      intro i hi t2 ht1 ht2 H locs ls hw hl
      refine lv_iload_n hx hb d_M_perform_62 rfl (lv_at hl 0 rfl) ?_
      refine lv_aload_n hx hb d_M_perform_63 rfl (lv_at hl 2 rfl) ?_
      refine gd_get (v := .int (nI (mx_n X))) i_M cx hw 0 rfl rfl 2 (by decide) tw_254 rfl rfl d_M_perform_64 ?_
      refine gd_ge (tgt := 105) hx hb d_M_perform_67 (by decide) (by omega) (by omega) (fun h67 => ?_) (fun h67 => ?_)
      · refine lv_iload_n hx hb d_M_perform_105 rfl (lv_at hl 1 rfl) ?_
        exact hret _ (ch2, (mx_n X, t2, mx_m X, mx_p X, mx_a X, v2, mx_f X)) _ _ _ _ rfl d_M_perform_106 ⟨hSol, Or.inr ⟨hle, by rw [hcx], rfl, fun j => by
          by_cases h : j < mx_n X
          · exact ht1 j (by omega)
          · show t2 j = _
            rw [ht2 j (by omega), (hX.out (by omega)).1]; rfl, fun _ => rfl, fun _ _ _ => ⟨rfl, rfl⟩, fun po hpo => ⟨hv2 po hpo, rfl⟩⟩⟩ hw
      · omega
    | succ d ih =>
      intro i hi t2 ht1 ht2 H locs ls hw hl
      refine lv_iload_n hx hb d_M_perform_62 rfl (lv_at hl 0 rfl) ?_
      refine lv_aload_n hx hb d_M_perform_63 rfl (lv_at hl 2 rfl) ?_
      refine gd_get (v := .int (nI (mx_n X))) i_M cx hw 0 rfl rfl 2 (by decide) tw_254 rfl rfl d_M_perform_64 ?_
      refine gd_ge (tgt := 105) hx hb d_M_perform_67 (by decide) (by omega) (by omega) (fun h67 => ?_) (fun h67 => ?_)
      · omega
      · have et : t2 i = mx_t X i := ht2 i (Nat.le_refl _)
        refine lv_aload_n hx hb d_M_perform_70 rfl (lv_at hl 2 rfl) ?_
        refine gd_get (v := .ref (q 3)) i_M cx hw 0 rfl rfl 3 (by decide) tw_255 rfl rfl d_M_perform_71 ?_
        refine lv_iload_n hx hb d_M_perform_74 rfl (lv_at hl 0 rfl) ?_
        refine lv_aload_n hx hb d_M_perform_75 rfl (lv_at hl 2 rfl) ?_
        refine gd_get (v := .ref (q 3)) i_M cx hw 0 rfl rfl 3 (by decide) tw_255 rfl rfl d_M_perform_76 ?_
        refine lv_iload_n hx hb d_M_perform_79 rfl (lv_at hl 0 rfl) ?_
        refine gd_zld (v := mx_b (t2 i)) cx hw 3 rfl (by omega) (by decide) rfl d_M_perform_80 ?_
        refine gd_ifeq (tgt := 97) hx hb d_M_perform_81 (by decide) (fun h81 => ?_) (fun h81 => ?_)
        · refine lv_iconst (v := nI 0) hx hb d_M_perform_97 (by decide) ?_
          refine gd_zst (g := fun i9 => mx_b (va_up t2 i false i9)) (wn := wM q ct (mx_n X, va_up t2 i false, mx_m X, mx_p X, mx_a X, v2, mx_f X) ch2) cx hw 3 rfl (by omega) (by decide) (gd_hz false (by decide)) rfl d_M_perform_98 (fun H locs hw => ?_)
          refine lv_iinc (v := nI (i + 1)) (lv' := [(2, .int (nI (i + 1))), (1, .int (nI (mx_cnt ch2 200))), (0, .ref (q 0))]) hx hb d_M_perform_99 hl (k := 0) rfl (gd_inc1 _) (by decide) rfl (fun ls hl => ?_)
          refine lv_goto (tgt := 62) hx hb d_M_perform_102 (by decide) ?_
          exact ih (i + 1) (by omega) _ (fun j hj => by
            by_cases e : j = i
            · subst e; rw [va_up_self, ← et, h81]; rfl
            · rw [va_up_ne _ _ e]; exact ht1 j (by omega)) (fun j hj => by rw [va_up_ne _ _ (by omega)]; exact ht2 j (by omega)) H locs ls hw (lv_sub hl [0, 1, 2] rfl)
        · refine lv_aload_n hx hb d_M_perform_84 rfl (lv_at hl 2 rfl) ?_
          refine gd_get (v := .ref (q 4)) i_M cx hw 0 rfl rfl 4 (by decide) tw_256 rfl rfl d_M_perform_85 ?_
          refine lv_iload_n hx hb d_M_perform_88 rfl (lv_at hl 0 rfl) ?_
          refine gd_zld (v := mx_b (ch2 i)) cx hw 4 rfl (by omega) (by decide) rfl d_M_perform_89 ?_
          refine gd_ifne (tgt := 97) hx hb d_M_perform_90 (by decide) (fun h90 => ?_) (fun h90 => ?_)
          · refine lv_iconst (v := nI 0) hx hb d_M_perform_97 (by decide) ?_
            refine gd_zst (g := fun i9 => mx_b (va_up t2 i false i9)) (wn := wM q ct (mx_n X, va_up t2 i false, mx_m X, mx_p X, mx_a X, v2, mx_f X) ch2) cx hw 3 rfl (by omega) (by decide) (gd_hz false (by decide)) rfl d_M_perform_98 (fun H locs hw => ?_)
            refine lv_iinc (v := nI (i + 1)) (lv' := [(2, .int (nI (i + 1))), (1, .int (nI (mx_cnt ch2 200))), (0, .ref (q 0))]) hx hb d_M_perform_99 hl (k := 0) rfl (gd_inc1 _) (by decide) rfl (fun ls hl => ?_)
            refine lv_goto (tgt := 62) hx hb d_M_perform_102 (by decide) ?_
            exact ih (i + 1) (by omega) _ (fun j hj => by
              by_cases e : j = i
              · subst e; rw [va_up_self, h90]; simp
              · rw [va_up_ne _ _ e]; exact ht1 j (by omega)) (fun j hj => by rw [va_up_ne _ _ (by omega)]; exact ht2 j (by omega)) H locs ls hw (lv_sub hl [0, 1, 2] rfl)
          · refine lv_iconst (v := nI 1) hx hb d_M_perform_93 (by decide) ?_
            refine lv_goto (tgt := 98) hx hb d_M_perform_94 (by decide) ?_
            refine gd_zst (g := fun i9 => mx_b (va_up t2 i true i9)) (wn := wM q ct (mx_n X, va_up t2 i true, mx_m X, mx_p X, mx_a X, v2, mx_f X) ch2) cx hw 3 rfl (by omega) (by decide) (gd_hz true (by decide)) rfl d_M_perform_98 (fun H locs hw => ?_)
            refine lv_iinc (v := nI (i + 1)) (lv' := [(2, .int (nI (i + 1))), (1, .int (nI (mx_cnt ch2 200))), (0, .ref (q 0))]) hx hb d_M_perform_99 hl (k := 0) rfl (gd_inc1 _) (by decide) rfl (fun ls hl => ?_)
            refine lv_goto (tgt := 62) hx hb d_M_perform_102 (by decide) ?_
            exact ih (i + 1) (by omega) _ (fun j hj => by
              by_cases e : j = i
              · subst e; rw [va_up_self, ← et, h81, h90]; rfl
              · rw [va_up_ne _ _ e]; exact ht1 j (by omega)) (fun j hj => by rw [va_up_ne _ _ (by omega)]; exact ht2 j (by omega)) H locs ls hw (lv_sub hl [0, 1, 2] rfl)
  have loop2 : (∀ j, j < 300 → mx_tot X ch2 j ≤ 1000000000000000000) → ∀ (d k : Nat), k + d = 300 → ∀ (v2 : Nat → Int), (∀ j, j < k → v2 j = mx_tot X ch2 j) → (∀ j, k ≤ j → v2 j = mx_v X j) → ∀ (H : Heap) (locs : List Loc) (ls : Array Slot), gd_Ws D A s (wM q ct (mx_n X, mx_t X, mx_m X, mx_p X, mx_a X, v2, mx_f X) ch2) H locs → lv_has ls 3 [(2, .int (nI k)), (1, .int (nI (mx_cnt ch2 200))), (0, .ref (q 0))] → W p l e rm_M_perform s m [.ref (q 0)].toArray below meth c H locs 0 0 Q (F0 m 36 ls []) := by
    intro hle d
    induction d with
    | zero =>
      intro k hk v2 hv2 hv3 H locs ls hw hl
      refine lv_iload_n hx hb d_M_perform_36 rfl (lv_at hl 0 rfl) ?_
      refine lv_sipush (v := nI 300) hx hb d_M_perform_37 (by decide) ?_
      refine gd_ge (tgt := 60) hx hb d_M_perform_40 (by decide) (by omega) (by omega) (fun h40 => ?_) (fun h40 => ?_)
      · refine lv_iconst (v := nI 0) hx hb d_M_perform_60 (by decide) ?_
        refine lv_istore_n (lv' := [(2, .int (nI 0)), (1, .int (nI (mx_cnt ch2 200))), (0, .ref (q 0))]) hx hb d_M_perform_61 rfl hl (by decide) rfl (fun ls hl => ?_)
        exact loop3 v2 (fun j hj => hv2 j (by omega)) hle (mx_n X) 0 (by omega) (mx_t X) (fun j hj => by omega) (fun j hj => rfl) H locs ls hw (lv_sub hl [0, 1, 2] rfl)
      · omega
    | succ d ih =>
      intro k hk v2 hv2 hv3 H locs ls hw hl
      refine lv_iload_n hx hb d_M_perform_36 rfl (lv_at hl 0 rfl) ?_
      refine lv_sipush (v := nI 300) hx hb d_M_perform_37 (by decide) ?_
      refine gd_ge (tgt := 60) hx hb d_M_perform_40 (by decide) (by omega) (by omega) (fun h40 => ?_) (fun h40 => ?_)
      · omega
      · have hk3 : k < 300 := by omega
        have hX2 : mx_WF (mx_n X, mx_t X, mx_m X, mx_p X, mx_a X, v2, mx_f X) := mx_WF_v hX (fun po hpo => by
          by_cases e : po < k
          · rw [hv2 po e]; exact ⟨hSol.1.2.1 po hpo, hle po hpo⟩
          · rw [hv3 po (by omega)]; exact (hX.pl hpo).2)
        have etot : mx_tot (mx_n X, mx_t X, mx_m X, mx_p X, mx_a X, v2, mx_f X) ch2 k = mx_tot X ch2 k := by
          show v2 k + _ = mx_v X k + _
          rw [hv3 k (Nat.le_refl _)]; rfl
        refine lv_aload_n hx hb d_M_perform_43 rfl (lv_at hl 2 rfl) ?_
        refine gd_get (v := .ref (q 1)) i_M cx hw 0 rfl rfl 0 (by decide) tw_252 rfl rfl d_M_perform_44 ?_
        refine lv_iload_n hx hb d_M_perform_47 rfl (lv_at hl 0 rfl) ?_
        refine lv_aload_n hx hb d_M_perform_48 rfl (lv_at hl 2 rfl) ?_
        refine lv_iload_n hx hb d_M_perform_49 rfl (lv_at hl 0 rfl) ?_
        refine gd_callVL (As := [.int (nI k)]) (rest := [.int (nI k), .ref (q 1)]) cx hw (c_M_total l D ct _ q (mx_n X, mx_t X, mx_m X, mx_p X, mx_a X, v2, mx_f X) ch2 k hX2 hk3) cv_M_72 ⟨by decide, by decide⟩ ⟨rfl, rfl⟩ [0, 1, 2, 3, 4, 5, 6, 7] rfl rfl 0 4 rfl rfl (gd_jr hw [0, 1, 2, 3, 4, 5, 6, 7] rfl) rfl hl.1 rfl (Nat.le_of_ble_eq_true rfl) ⟨Nat.zero_le _, Nat.zero_le _⟩ d_M_perform_50 (fun r u H locs hp hw => ?_)
        rw [etot] at hp
        subst hp
        refine gd_lst (g := fun i9 => mx_l ((va_up v2 k (mx_tot X ch2 k)) i9)) (wn := wM q ct (mx_n X, mx_t X, mx_m X, mx_p X, mx_a X, va_up v2 k (mx_tot X ch2 k), mx_f X) ch2) cx hw 1 rfl (by omega) (by decide) (gd_hl (mx_tot X ch2 k)) rfl d_M_perform_53 (fun H locs hw => ?_)
        refine lv_iinc (v := nI (k + 1)) (lv' := [(2, .int (nI (k + 1))), (1, .int (nI (mx_cnt ch2 200))), (0, .ref (q 0))]) hx hb d_M_perform_54 hl (k := 0) rfl (gd_inc1 _) (by decide) rfl (fun ls hl => ?_)
        refine lv_goto (tgt := 36) hx hb d_M_perform_57 (by decide) ?_
        exact ih (k + 1) (by omega) _ (fun j hj => by
          by_cases e : j = k
          · subst e; exact va_up_self _ _ _
          · rw [va_up_ne _ _ e]; exact hv2 j (by omega)) (fun j hj => by rw [va_up_ne _ _ (by omega)]; exact hv3 j (by omega)) H locs ls hw (lv_sub hl [0, 1, 2] rfl)
  have loop1 : ∀ (d k : Nat), k + d = 300 → (∀ j, j < k → mx_tot X ch2 j ≤ 1000000000000000000) → ∀ (H : Heap) (locs : List Loc) (ls : Array Slot), gd_Ws D A s (wM q ct X ch2) H locs → lv_has ls 3 [(2, .int (nI k)), (1, .int (nI (mx_cnt ch2 200))), (0, .ref (q 0))] → W p l e rm_M_perform s m [.ref (q 0)].toArray below meth c H locs 0 0 Q (F0 m 7 ls []) := by
    intro d
    induction d with
    | zero =>
      intro k hk hle H locs ls hw hl
      refine lv_iload_n hx hb d_M_perform_7 rfl (lv_at hl 0 rfl) ?_
      refine lv_sipush (v := nI 300) hx hb d_M_perform_8 (by decide) ?_
      refine gd_ge (tgt := 34) hx hb d_M_perform_11 (by decide) (by omega) (by omega) (fun h11 => ?_) (fun h11 => ?_)
      · refine lv_iconst (v := nI 0) hx hb d_M_perform_34 (by decide) ?_
        refine lv_istore_n (lv' := [(2, .int (nI 0)), (1, .int (nI (mx_cnt ch2 200))), (0, .ref (q 0))]) hx hb d_M_perform_35 rfl hl (by decide) rfl (fun ls hl => ?_)
        exact loop2 (fun j hj => hle j (by omega)) 300 0 (by omega) (mx_v X) (fun j hj => by omega) (fun j hj => rfl) H locs ls hw (lv_sub hl [0, 1, 2] rfl)
      · omega
    | succ d ih =>
      intro k hk hle H locs ls hw hl
      refine lv_iload_n hx hb d_M_perform_7 rfl (lv_at hl 0 rfl) ?_
      refine lv_sipush (v := nI 300) hx hb d_M_perform_8 (by decide) ?_
      refine gd_ge (tgt := 34) hx hb d_M_perform_11 (by decide) (by omega) (by omega) (fun h11 => ?_) (fun h11 => ?_)
      · omega
      · have hk3 : k < 300 := by omega
        have htf := mx_tot_fit hX ch2 hk3
        refine lv_aload_n hx hb d_M_perform_14 rfl (lv_at hl 2 rfl) ?_
        refine lv_iload_n hx hb d_M_perform_15 rfl (lv_at hl 0 rfl) ?_
        refine gd_callVL (As := [.int (nI k)]) (rest := []) cx hw (c_M_total l D ct _ q X ch2 k hX hk3) cv_M_72 ⟨by decide, by decide⟩ ⟨rfl, rfl⟩ [0, 1, 2, 3, 4, 5, 6, 7] rfl rfl 0 4 rfl rfl (gd_jr hw [0, 1, 2, 3, 4, 5, 6, 7] rfl) rfl hl.1 rfl (Nat.le_of_ble_eq_true rfl) ⟨Nat.zero_le _, Nat.zero_le _⟩ d_M_perform_16 (fun r u H locs hp hw => ?_)
        subst hp
        refine lv_ldc2 (v := mx_l 1000000000000000000) hx hb cx.2.2.2.1 (cx.2.2.2.2.1 _ tw_288) d_M_perform_19 ?_
        refine gd_lle (tgt := 28) hx hb d_M_perform_22 d_M_perform_23 (by decide) (by unfold mx_fit; omega) (by unfold mx_fit; omega) (fun h23 => ?_) (fun h23 => ?_)
        · refine lv_iinc (v := nI (k + 1)) (lv' := [(2, .int (nI (k + 1))), (1, .int (nI (mx_cnt ch2 200))), (0, .ref (q 0))]) hx hb d_M_perform_28 hl (k := 0) rfl (gd_inc1 _) (by decide) rfl (fun ls hl => ?_)
          refine lv_goto (tgt := 7) hx hb d_M_perform_31 (by decide) ?_
          exact ih (k + 1) (by omega) (fun j hj => by
            by_cases e : j = k
            · subst e; omega
            · exact hle j (by omega)) H locs ls hw (lv_sub hl [0, 1, 2] rfl)
        · refine lv_iconst (v := mx_o none) hx hb d_M_perform_26 (by decide) ?_
          exact hret _ (ch2, X) _ _ _ _ rfl d_M_perform_27 ⟨hSol, Or.inl ⟨⟨k, by omega, by show _ < mx_tot X ch2 k; omega⟩, rfl, rfl⟩⟩ hw
  refine lv_istore_n (lv' := [(1, .int (nI (mx_cnt ch2 200))), (0, .ref (q 0))]) hx hb d_M_perform_4 rfl hl (by decide) rfl (fun ls hl => ?_)
  refine lv_iconst (v := nI 0) hx hb d_M_perform_5 (by decide) ?_
  refine lv_istore_n (lv' := [(2, .int (nI 0)), (1, .int (nI (mx_cnt ch2 200))), (0, .ref (q 0))]) hx hb d_M_perform_6 rfl hl (by decide) rfl (fun ls hl => ?_)
  exact loop1 300 0 (by omega) (fun j hj => by omega) H locs ls hw (lv_sub hl [0, 1, 2] rfl)
end
section
theorem d_X_init_0 : decode b_X_init 0 = .ok (.aload_n 0, 1) := by decide +kernel
theorem d_X_init_1 : decode b_X_init 1 = .ok (.invokespecial 1, 3) := by decide +kernel
theorem d_X_init_4 : decode b_X_init 4 = .ok (.aload_n 0, 1) := by decide +kernel
theorem d_X_init_5 : decode b_X_init 5 = .ok (.new 7, 3) := by decide +kernel
theorem d_X_init_8 : decode b_X_init 8 = .ok (.dup, 1) := by decide +kernel
theorem d_X_init_9 : decode b_X_init 9 = .ok (.invokespecial 9, 3) := by decide +kernel
theorem d_X_init_12 : decode b_X_init 12 = .ok (.putfield 10, 3) := by decide +kernel
theorem d_X_init_15 : decode b_X_init 15 = .ok (.aload_n 0, 1) := by decide +kernel
theorem d_X_init_16 : decode b_X_init 16 = .ok (.new 16, 3) := by decide +kernel
theorem d_X_init_19 : decode b_X_init 19 = .ok (.dup, 1) := by decide +kernel
theorem d_X_init_20 : decode b_X_init 20 = .ok (.aload_n 0, 1) := by decide +kernel
theorem d_X_init_21 : decode b_X_init 21 = .ok (.getfield 10, 3) := by decide +kernel
theorem d_X_init_24 : decode b_X_init 24 = .ok (.sipush 200, 3) := by decide +kernel
theorem d_X_init_27 : decode b_X_init 27 = .ok (.sipush 300, 3) := by decide +kernel
theorem d_X_init_30 : decode b_X_init 30 = .ok (.invokespecial 18, 3) := by decide +kernel
theorem d_X_init_33 : decode b_X_init 33 = .ok (.putfield 21, 3) := by decide +kernel
theorem d_X_init_36 : decode b_X_init 36 = .ok (.return_, 1) := by decide +kernel
theorem d_M_init_0 : decode b_M_init 0 = .ok (.aload_n 0, 1) := by decide +kernel
theorem d_M_init_1 : decode b_M_init 1 = .ok (.invokespecial 1, 3) := by decide +kernel
theorem d_M_init_4 : decode b_M_init 4 = .ok (.aload_n 0, 1) := by decide +kernel
theorem d_M_init_5 : decode b_M_init 5 = .ok (.sipush 300, 3) := by decide +kernel
theorem d_M_init_8 : decode b_M_init 8 = .ok (.newarray .long, 2) := by decide +kernel
theorem d_M_init_10 : decode b_M_init 10 = .ok (.putfield 7, 3) := by decide +kernel
theorem d_M_init_13 : decode b_M_init 13 = .ok (.aload_n 0, 1) := by decide +kernel
theorem d_M_init_14 : decode b_M_init 14 = .ok (.sipush 300, 3) := by decide +kernel
theorem d_M_init_17 : decode b_M_init 17 = .ok (.newarray .long, 2) := by decide +kernel
theorem d_M_init_19 : decode b_M_init 19 = .ok (.putfield 13, 3) := by decide +kernel
theorem d_M_init_22 : decode b_M_init 22 = .ok (.aload_n 0, 1) := by decide +kernel
theorem d_M_init_23 : decode b_M_init 23 = .ok (.sipush 200, 3) := by decide +kernel
theorem d_M_init_26 : decode b_M_init 26 = .ok (.newarray .boolean, 2) := by decide +kernel
theorem d_M_init_28 : decode b_M_init 28 = .ok (.putfield 16, 3) := by decide +kernel
theorem d_M_init_31 : decode b_M_init 31 = .ok (.aload_n 0, 1) := by decide +kernel
theorem d_M_init_32 : decode b_M_init 32 = .ok (.sipush 200, 3) := by decide +kernel
theorem d_M_init_35 : decode b_M_init 35 = .ok (.newarray .boolean, 2) := by decide +kernel
theorem d_M_init_37 : decode b_M_init 37 = .ok (.putfield 20, 3) := by decide +kernel
theorem d_M_init_40 : decode b_M_init 40 = .ok (.aload_n 0, 1) := by decide +kernel
theorem d_M_init_41 : decode b_M_init 41 = .ok (.sipush 200, 3) := by decide +kernel
theorem d_M_init_44 : decode b_M_init 44 = .ok (.newarray .int, 2) := by decide +kernel
theorem d_M_init_46 : decode b_M_init 46 = .ok (.putfield 23, 3) := by decide +kernel
theorem d_M_init_49 : decode b_M_init 49 = .ok (.aload_n 0, 1) := by decide +kernel
theorem d_M_init_50 : decode b_M_init 50 = .ok (.sipush 3200, 3) := by decide +kernel
theorem d_M_init_53 : decode b_M_init 53 = .ok (.newarray .int, 2) := by decide +kernel
theorem d_M_init_55 : decode b_M_init 55 = .ok (.putfield 27, 3) := by decide +kernel
theorem d_M_init_58 : decode b_M_init 58 = .ok (.aload_n 0, 1) := by decide +kernel
theorem d_M_init_59 : decode b_M_init 59 = .ok (.sipush 3200, 3) := by decide +kernel
theorem d_M_init_62 : decode b_M_init 62 = .ok (.newarray .long, 2) := by decide +kernel
theorem d_M_init_64 : decode b_M_init 64 = .ok (.putfield 30, 3) := by decide +kernel
theorem d_M_init_67 : decode b_M_init 67 = .ok (.return_, 1) := by decide +kernel
theorem d_G_init_0 : decode b_G_init 0 = .ok (.aload_n 0, 1) := by decide +kernel
theorem d_G_init_1 : decode b_G_init 1 = .ok (.invokespecial 1, 3) := by decide +kernel
theorem d_G_init_4 : decode b_G_init 4 = .ok (.aload_n 0, 1) := by decide +kernel
theorem d_G_init_5 : decode b_G_init 5 = .ok (.aload_n 1, 1) := by decide +kernel
theorem d_G_init_6 : decode b_G_init 6 = .ok (.putfield 7, 3) := by decide +kernel
theorem d_G_init_9 : decode b_G_init 9 = .ok (.aload_n 0, 1) := by decide +kernel
theorem d_G_init_10 : decode b_G_init 10 = .ok (.iload_n 2, 1) := by decide +kernel
theorem d_G_init_11 : decode b_G_init 11 = .ok (.putfield 13, 3) := by decide +kernel
theorem d_G_init_14 : decode b_G_init 14 = .ok (.aload_n 0, 1) := by decide +kernel
theorem d_G_init_15 : decode b_G_init 15 = .ok (.iload_n 2, 1) := by decide +kernel
theorem d_G_init_16 : decode b_G_init 16 = .ok (.newarray .boolean, 2) := by decide +kernel
theorem d_G_init_18 : decode b_G_init 18 = .ok (.putfield 17, 3) := by decide +kernel
theorem d_G_init_21 : decode b_G_init 21 = .ok (.aload_n 0, 1) := by decide +kernel
theorem d_G_init_22 : decode b_G_init 22 = .ok (.iload_n 2, 1) := by decide +kernel
theorem d_G_init_23 : decode b_G_init 23 = .ok (.newarray .boolean, 2) := by decide +kernel
theorem d_G_init_25 : decode b_G_init 25 = .ok (.putfield 21, 3) := by decide +kernel
theorem d_G_init_28 : decode b_G_init 28 = .ok (.aload_n 0, 1) := by decide +kernel
theorem d_G_init_29 : decode b_G_init 29 = .ok (.iload_n 2, 1) := by decide +kernel
theorem d_G_init_30 : decode b_G_init 30 = .ok (.newarray .byte, 2) := by decide +kernel
theorem d_G_init_32 : decode b_G_init 32 = .ok (.putfield 24, 3) := by decide +kernel
theorem d_G_init_35 : decode b_G_init 35 = .ok (.aload_n 0, 1) := by decide +kernel
theorem d_G_init_36 : decode b_G_init 36 = .ok (.bipush 16, 2) := by decide +kernel
theorem d_G_init_38 : decode b_G_init 38 = .ok (.iload_n 2, 1) := by decide +kernel
theorem d_G_init_39 : decode b_G_init 39 = .ok (.imul, 1) := by decide +kernel
theorem d_G_init_40 : decode b_G_init 40 = .ok (.newarray .short, 2) := by decide +kernel
theorem d_G_init_42 : decode b_G_init 42 = .ok (.putfield 28, 3) := by decide +kernel
theorem d_G_init_45 : decode b_G_init 45 = .ok (.aload_n 0, 1) := by decide +kernel
theorem d_G_init_46 : decode b_G_init 46 = .ok (.bipush 16, 2) := by decide +kernel
theorem d_G_init_48 : decode b_G_init 48 = .ok (.iload_n 2, 1) := by decide +kernel
theorem d_G_init_49 : decode b_G_init 49 = .ok (.imul, 1) := by decide +kernel
theorem d_G_init_50 : decode b_G_init 50 = .ok (.newarray .long, 2) := by decide +kernel
theorem d_G_init_52 : decode b_G_init 52 = .ok (.putfield 32, 3) := by decide +kernel
theorem d_G_init_55 : decode b_G_init 55 = .ok (.aload_n 0, 1) := by decide +kernel
theorem d_G_init_56 : decode b_G_init 56 = .ok (.bipush 16, 2) := by decide +kernel
theorem d_G_init_58 : decode b_G_init 58 = .ok (.iload_n 2, 1) := by decide +kernel
theorem d_G_init_59 : decode b_G_init 59 = .ok (.imul, 1) := by decide +kernel
theorem d_G_init_60 : decode b_G_init 60 = .ok (.newarray .int, 2) := by decide +kernel
theorem d_G_init_62 : decode b_G_init 62 = .ok (.putfield 36, 3) := by decide +kernel
theorem d_G_init_65 : decode b_G_init 65 = .ok (.aload_n 0, 1) := by decide +kernel
theorem d_G_init_66 : decode b_G_init 66 = .ok (.bipush 16, 2) := by decide +kernel
theorem d_G_init_68 : decode b_G_init 68 = .ok (.iload_n 2, 1) := by decide +kernel
theorem d_G_init_69 : decode b_G_init 69 = .ok (.imul, 1) := by decide +kernel
theorem d_G_init_70 : decode b_G_init 70 = .ok (.newarray .int, 2) := by decide +kernel
theorem d_G_init_72 : decode b_G_init 72 = .ok (.putfield 40, 3) := by decide +kernel
theorem d_G_init_75 : decode b_G_init 75 = .ok (.aload_n 0, 1) := by decide +kernel
theorem d_G_init_76 : decode b_G_init 76 = .ok (.iload_n 3, 1) := by decide +kernel
theorem d_G_init_77 : decode b_G_init 77 = .ok (.newarray .int, 2) := by decide +kernel
theorem d_G_init_79 : decode b_G_init 79 = .ok (.putfield 43, 3) := by decide +kernel
theorem d_G_init_82 : decode b_G_init 82 = .ok (.aload_n 0, 1) := by decide +kernel
theorem d_G_init_83 : decode b_G_init 83 = .ok (.iload_n 3, 1) := by decide +kernel
theorem d_G_init_84 : decode b_G_init 84 = .ok (.newarray .long, 2) := by decide +kernel
theorem d_G_init_86 : decode b_G_init 86 = .ok (.putfield 46, 3) := by decide +kernel
theorem d_G_init_89 : decode b_G_init 89 = .ok (.aload_n 0, 1) := by decide +kernel
theorem d_G_init_90 : decode b_G_init 90 = .ok (.new 49, 3) := by decide +kernel
theorem d_G_init_93 : decode b_G_init 93 = .ok (.dup, 1) := by decide +kernel
theorem d_G_init_94 : decode b_G_init 94 = .ok (.iload_n 3, 1) := by decide +kernel
theorem d_G_init_95 : decode b_G_init 95 = .ok (.invokespecial 51, 3) := by decide +kernel
theorem d_G_init_98 : decode b_G_init 98 = .ok (.putfield 54, 3) := by decide +kernel
theorem d_G_init_101 : decode b_G_init 101 = .ok (.aload_n 0, 1) := by decide +kernel
theorem d_G_init_102 : decode b_G_init 102 = .ok (.new 49, 3) := by decide +kernel
theorem d_G_init_105 : decode b_G_init 105 = .ok (.dup, 1) := by decide +kernel
theorem d_G_init_106 : decode b_G_init 106 = .ok (.iload_n 2, 1) := by decide +kernel
theorem d_G_init_107 : decode b_G_init 107 = .ok (.invokespecial 51, 3) := by decide +kernel
theorem d_G_init_110 : decode b_G_init 110 = .ok (.putfield 58, 3) := by decide +kernel
theorem d_G_init_113 : decode b_G_init 113 = .ok (.return_, 1) := by decide +kernel
theorem d_P_init_0 : decode b_P_init 0 = .ok (.aload_n 0, 1) := by decide +kernel
theorem d_P_init_1 : decode b_P_init 1 = .ok (.invokespecial 1, 3) := by decide +kernel
theorem d_P_init_4 : decode b_P_init 4 = .ok (.aload_n 0, 1) := by decide +kernel
theorem d_P_init_5 : decode b_P_init 5 = .ok (.iload_n 1, 1) := by decide +kernel
theorem d_P_init_6 : decode b_P_init 6 = .ok (.newarray .short, 2) := by decide +kernel
theorem d_P_init_8 : decode b_P_init 8 = .ok (.putfield 7, 3) := by decide +kernel
theorem d_P_init_11 : decode b_P_init 11 = .ok (.aload_n 0, 1) := by decide +kernel
theorem d_P_init_12 : decode b_P_init 12 = .ok (.iload_n 1, 1) := by decide +kernel
theorem d_P_init_13 : decode b_P_init 13 = .ok (.newarray .boolean, 2) := by decide +kernel
theorem d_P_init_15 : decode b_P_init 15 = .ok (.putfield 13, 3) := by decide +kernel
theorem d_P_init_18 : decode b_P_init 18 = .ok (.return_, 1) := by decide +kernel
theorem d_A_init_0 : decode b_A_init 0 = .ok (.aload_n 0, 1) := by decide +kernel
theorem d_A_init_1 : decode b_A_init 1 = .ok (.invokespecial 1, 3) := by decide +kernel
theorem d_A_init_4 : decode b_A_init 4 = .ok (.aload_n 0, 1) := by decide +kernel
theorem d_A_init_5 : decode b_A_init 5 = .ok (.sipush 300, 3) := by decide +kernel
theorem d_A_init_8 : decode b_A_init 8 = .ok (.newarray .long, 2) := by decide +kernel
theorem d_A_init_10 : decode b_A_init 10 = .ok (.putfield 9, 3) := by decide +kernel
theorem d_A_init_13 : decode b_A_init 13 = .ok (.aload_n 0, 1) := by decide +kernel
theorem d_A_init_14 : decode b_A_init 14 = .ok (.sipush 300, 3) := by decide +kernel
theorem d_A_init_17 : decode b_A_init 17 = .ok (.newarray .long, 2) := by decide +kernel
theorem d_A_init_19 : decode b_A_init 19 = .ok (.putfield 13, 3) := by decide +kernel
theorem d_A_init_22 : decode b_A_init 22 = .ok (.return_, 1) := by decide +kernel
abbrev rm_P_init_300 : Room := { frames := 1, cells := 2, slots := 600, locals := 24 }
set_option maxHeartbeats 4000000 in
set_option maxRecDepth 100000 in
/-- Pile(300) -/
theorem c_P_init_300 (l : Launch) (D : va_G) (ct : Nat → ClassId) (sz : Nat) (a : Nat) : gd_ctV l y_P_init k_P_init rm_P_init_300 D ct [.ref a, .int (nI 300)] sz ([(a, .inr (3, [.null, .null, .int (nI 0)]))]) (S := (Nat × Nat)) (fun u => True) (fun u => wP a u.1 u.2 ct 300 (fun _ => 0) []) 2 600 := by
  refine gd_entV (by decide +kernel) rfl (Nat.le_of_ble_eq_true rfl) (fun p e s m below meth c Q A ls cx hmn hw hl hret => ?_)
  have hx := cx.1
  have hb := cx.2.1
  have hl : lv_has ls 2 [(0, .ref a), (1, .int (nI 300))] := hl
  refine lv_aload_n hx hb d_P_init_0 rfl (lv_at hl 0 rfl) ?_
  refine gd_objInit cx tw_41 hl.1 (Nat.le_of_ble_eq_true rfl) (by decide) d_P_init_1 ?_
  refine lv_aload_n hx hb d_P_init_4 rfl (lv_at hl 0 rfl) ?_
  refine lv_iload_n hx hb d_P_init_5 rfl (lv_at hl 1 rfl) ?_
  refine gd_newa (N := 300) (t0 := 2) (a0 := (300, .inl (fun _ => 0))) cx hw tw_54 rfl rfl (fun _ h => h) (fun _ => rfl) (by decide) (by decide) (by decide) (by decide) d_P_init_6 (fun q6 H hw => ?_)
  have hw : gd_Ws D A s ([(a, .inr (3, [.null, .null, .int (nI 0)])), (q6, .inl (ct 2, 300, .inl (fun _ => 0)))]) H _ := hw
  refine gd_putF (ty := .array .short) (wn := [(a, .inr (3, [.ref q6, .null, .int (nI 0)])), (q6, .inl (ct 2, 300, .inl (fun _ => 0)))]) i_P t_P t_P_ok n_P cx hmn hw 0 rfl rfl 0 (by decide) tw_42 rfl rfl rfl (by decide +kernel) rfl rfl (Nat.le_of_ble_eq_true rfl) rfl d_P_init_8 (fun H locs hw => ?_)
  refine lv_aload_n hx hb d_P_init_11 rfl (lv_at hl 0 rfl) ?_
  refine lv_iload_n hx hb d_P_init_12 rfl (lv_at hl 1 rfl) ?_
  refine gd_newa (N := 300) (t0 := 0) (a0 := (300, .inl (fun v => mx_b (decide (v ∈ ([] : List Nat)))))) cx hw tw_52 rfl rfl (fun _ h => h) (fun _ => rfl) (by decide) (by decide) (by decide) (by decide) d_P_init_13 (fun q13 H hw => ?_)
  have hw : gd_Ws D A s ([(a, .inr (3, [.ref q6, .null, .int (nI 0)])), (q6, .inl (ct 2, 300, .inl (fun _ => 0))), (q13, .inl (ct 0, 300, .inl (fun v => mx_b (decide (v ∈ ([] : List Nat))))))]) H _ := hw
  refine gd_putF (ty := .array .boolean) (wn := [(a, .inr (3, [.ref q6, .ref q13, .int (nI 0)])), (q6, .inl (ct 2, 300, .inl (fun _ => 0))), (q13, .inl (ct 0, 300, .inl (fun v => mx_b (decide (v ∈ ([] : List Nat))))))]) i_P t_P t_P_ok n_P cx hmn hw 0 rfl rfl 1 (by decide) tw_43 rfl rfl rfl (by decide +kernel) rfl rfl (Nat.le_of_ble_eq_true rfl) rfl d_P_init_15 (fun H locs hw => ?_)
  exact hret (q6, q13) _ _ _ _ _ _ (by decide) (by decide) d_P_init_18 trivial hw
abbrev rm_P_init_200 : Room := { frames := 1, cells := 2, slots := 400, locals := 24 }
set_option maxHeartbeats 4000000 in
set_option maxRecDepth 100000 in
/-- Pile(200) -/
theorem c_P_init_200 (l : Launch) (D : va_G) (ct : Nat → ClassId) (sz : Nat) (a : Nat) : gd_ctV l y_P_init k_P_init rm_P_init_200 D ct [.ref a, .int (nI 200)] sz ([(a, .inr (3, [.null, .null, .int (nI 0)]))]) (S := (Nat × Nat)) (fun u => True) (fun u => wP a u.1 u.2 ct 200 (fun _ => 0) []) 2 400 := by
  refine gd_entV (by decide +kernel) rfl (Nat.le_of_ble_eq_true rfl) (fun p e s m below meth c Q A ls cx hmn hw hl hret => ?_)
  have hx := cx.1
  have hb := cx.2.1
  have hl : lv_has ls 2 [(0, .ref a), (1, .int (nI 200))] := hl
  refine lv_aload_n hx hb d_P_init_0 rfl (lv_at hl 0 rfl) ?_
  refine gd_objInit cx tw_41 hl.1 (Nat.le_of_ble_eq_true rfl) (by decide) d_P_init_1 ?_
  refine lv_aload_n hx hb d_P_init_4 rfl (lv_at hl 0 rfl) ?_
  refine lv_iload_n hx hb d_P_init_5 rfl (lv_at hl 1 rfl) ?_
  refine gd_newa (N := 200) (t0 := 2) (a0 := (200, .inl (fun _ => 0))) cx hw tw_54 rfl rfl (fun _ h => h) (fun _ => rfl) (by decide) (by decide) (by decide) (by decide) d_P_init_6 (fun q6 H hw => ?_)
  have hw : gd_Ws D A s ([(a, .inr (3, [.null, .null, .int (nI 0)])), (q6, .inl (ct 2, 200, .inl (fun _ => 0)))]) H _ := hw
  refine gd_putF (ty := .array .short) (wn := [(a, .inr (3, [.ref q6, .null, .int (nI 0)])), (q6, .inl (ct 2, 200, .inl (fun _ => 0)))]) i_P t_P t_P_ok n_P cx hmn hw 0 rfl rfl 0 (by decide) tw_42 rfl rfl rfl (by decide +kernel) rfl rfl (Nat.le_of_ble_eq_true rfl) rfl d_P_init_8 (fun H locs hw => ?_)
  refine lv_aload_n hx hb d_P_init_11 rfl (lv_at hl 0 rfl) ?_
  refine lv_iload_n hx hb d_P_init_12 rfl (lv_at hl 1 rfl) ?_
  refine gd_newa (N := 200) (t0 := 0) (a0 := (200, .inl (fun v => mx_b (decide (v ∈ ([] : List Nat)))))) cx hw tw_52 rfl rfl (fun _ h => h) (fun _ => rfl) (by decide) (by decide) (by decide) (by decide) d_P_init_13 (fun q13 H hw => ?_)
  have hw : gd_Ws D A s ([(a, .inr (3, [.ref q6, .null, .int (nI 0)])), (q6, .inl (ct 2, 200, .inl (fun _ => 0))), (q13, .inl (ct 0, 200, .inl (fun v => mx_b (decide (v ∈ ([] : List Nat))))))]) H _ := hw
  refine gd_putF (ty := .array .boolean) (wn := [(a, .inr (3, [.ref q6, .ref q13, .int (nI 0)])), (q6, .inl (ct 2, 200, .inl (fun _ => 0))), (q13, .inl (ct 0, 200, .inl (fun v => mx_b (decide (v ∈ ([] : List Nat))))))]) i_P t_P t_P_ok n_P cx hmn hw 0 rfl rfl 1 (by decide) tw_43 rfl rfl rfl (by decide +kernel) rfl rfl (Nat.le_of_ble_eq_true rfl) rfl d_P_init_15 (fun H locs hw => ?_)
  exact hret (q6, q13) _ _ _ _ _ _ (by decide) (by decide) d_P_init_18 trivial hw
abbrev rm_A_init : Room := { frames := 1, cells := 2, slots := 600, locals := 24 }
set_option maxHeartbeats 4000000 in
set_option maxRecDepth 100000 in
/-- Places() -/
theorem c_A_init (l : Launch) (D : va_G) (ct : Nat → ClassId) (sz : Nat) (a : Nat) : gd_ctV l y_A_init k_A_init rm_A_init D ct [.ref a] sz ([(a, .inr (1, [.null, .null]))]) (S := (Nat × Nat)) (fun u => True) (fun u => wA a u.1 u.2 ct mx_X0) 2 600 := by
  refine gd_entV (by decide +kernel) rfl (Nat.le_of_ble_eq_true rfl) (fun p e s m below meth c Q A ls cx hmn hw hl hret => ?_)
  have hx := cx.1
  have hb := cx.2.1
  have hl : lv_has ls 1 [(0, .ref a)] := hl
  refine lv_aload_n hx hb d_A_init_0 rfl (lv_at hl 0 rfl) ?_
  refine gd_objInit cx tw_19 hl.1 (Nat.le_of_ble_eq_true rfl) (by decide) d_A_init_1 ?_
  refine lv_aload_n hx hb d_A_init_4 rfl (lv_at hl 0 rfl) ?_
  refine lv_sipush (v := nI 300) hx hb d_A_init_5 (by decide) ?_
  refine gd_newa (N := 300) (t0 := 4) (a0 := (300, .inr (.inl (fun p => mx_l (mx_v mx_X0 p))))) cx hw tw_29 rfl rfl (fun _ h => h) (fun _ => rfl) (by decide) (by decide) (by decide) (by decide) d_A_init_8 (fun q8 H hw => ?_)
  have hw : gd_Ws D A s ([(a, .inr (1, [.null, .null])), (q8, .inl (ct 4, 300, .inr (.inl (fun p => mx_l (mx_v mx_X0 p)))))]) H _ := hw
  refine gd_putF (ty := .array .long) (wn := [(a, .inr (1, [.ref q8, .null])), (q8, .inl (ct 4, 300, .inr (.inl (fun p => mx_l (mx_v mx_X0 p)))))]) i_A t_A t_A_ok n_A cx hmn hw 0 rfl rfl 0 (by decide) tw_20 rfl rfl rfl (by decide +kernel) rfl rfl (Nat.le_of_ble_eq_true rfl) rfl d_A_init_10 (fun H locs hw => ?_)
  refine lv_aload_n hx hb d_A_init_13 rfl (lv_at hl 0 rfl) ?_
  refine lv_sipush (v := nI 300) hx hb d_A_init_14 (by decide) ?_
  refine gd_newa (N := 300) (t0 := 4) (a0 := (300, .inr (.inl (fun p => mx_l (mx_f mx_X0 p))))) cx hw tw_29 rfl rfl (fun _ h => h) (fun _ => rfl) (by decide) (by decide) (by decide) (by decide) d_A_init_17 (fun q17 H hw => ?_)
  have hw : gd_Ws D A s ([(a, .inr (1, [.ref q8, .null])), (q8, .inl (ct 4, 300, .inr (.inl (fun p => mx_l (mx_v mx_X0 p))))), (q17, .inl (ct 4, 300, .inr (.inl (fun p => mx_l (mx_f mx_X0 p)))))]) H _ := hw
  refine gd_putF (ty := .array .long) (wn := [(a, .inr (1, [.ref q8, .ref q17])), (q8, .inl (ct 4, 300, .inr (.inl (fun p => mx_l (mx_v mx_X0 p))))), (q17, .inl (ct 4, 300, .inr (.inl (fun p => mx_l (mx_f mx_X0 p)))))]) i_A t_A t_A_ok n_A cx hmn hw 0 rfl rfl 1 (by decide) tw_22 rfl rfl rfl (by decide +kernel) rfl rfl (Nat.le_of_ble_eq_true rfl) rfl d_A_init_19 (fun H locs hw => ?_)
  exact hret (q8, q17) _ _ _ _ _ _ (by decide) (by decide) d_A_init_22 trivial hw
abbrev wGi (q : Nat → Nat) (ct : Nat → ClassId) : va_W := (wG q ct mx_X0 (fun _ => false) (fun _ => some 0) (fun _ => some 0) (fun _ => some 0) (fun _ => 0) (fun _ => 0) [] (fun _ => 0) []).take 16
abbrev rm_G_init : Room := { frames := 2, cells := 15, slots := 15006, locals := 55 }
set_option maxHeartbeats 4000000 in
set_option maxRecDepth 100000 in
/-- Grid(accounts, 200, 300) -/
theorem c_G_init (l : Launch) (D : va_G) (ct : Nat → ClassId) (sz : Nat) (g ac : Nat) : gd_ctV l y_G_init k_G_init rm_G_init D ct [.ref g, .ref ac, .int (nI 200), .int (nI 300)] sz ([(g, .inr (2, [.null, .int (nI 0), .null, .null, .null, .null, .null, .null, .null, .null, .null, .null, .null, .int (nI 0)]))]) (S := (Nat → Nat)) (fun u => u 0 = g ∧ u 16 = ac) (fun u => wGi u ct) 15 15006 := by
  refine gd_entV (by decide +kernel) rfl (Nat.le_of_ble_eq_true rfl) (fun p e s m below meth c Q A ls cx hmn hw hl hret => ?_)
  have hx := cx.1
  have hb := cx.2.1
  have hl : lv_has ls 4 [(0, .ref g), (1, .ref ac), (2, .int (nI 200)), (3, .int (nI 300))] := hl
  refine lv_aload_n hx hb d_G_init_0 rfl (lv_at hl 0 rfl) ?_
  refine gd_objInit cx tw_35 hl.1 (Nat.le_of_ble_eq_true rfl) (by decide) d_G_init_1 ?_
  refine lv_aload_n hx hb d_G_init_4 rfl (lv_at hl 0 rfl) ?_
  refine lv_aload_n hx hb d_G_init_5 rfl (lv_at hl 1 rfl) ?_
  refine gd_putF (ty := .object "GridDesk$Accounts") (wn := [(g, .inr (2, [.ref ac, .int (nI 0), .null, .null, .null, .null, .null, .null, .null, .null, .null, .null, .null, .int (nI 0)]))]) i_G t_G t_G_ok n_G cx hmn hw 0 rfl rfl 0 (by decide) tw_56 rfl rfl rfl (by decide +kernel) rfl rfl (Nat.le_of_ble_eq_true rfl) rfl d_G_init_6 (fun H locs hw => ?_)
  refine lv_aload_n hx hb d_G_init_9 rfl (lv_at hl 0 rfl) ?_
  refine lv_iload_n hx hb d_G_init_10 rfl (lv_at hl 2 rfl) ?_
  refine gd_putF (ty := .int) (wn := [(g, .inr (2, [.ref ac, .int (nI 200), .null, .null, .null, .null, .null, .null, .null, .null, .null, .null, .null, .int (nI 0)]))]) i_G t_G t_G_ok n_G cx hmn hw 0 rfl rfl 1 (by decide) tw_57 rfl rfl rfl (by decide +kernel) rfl rfl (Nat.le_of_ble_eq_true rfl) rfl d_G_init_11 (fun H locs hw => ?_)
  refine lv_aload_n hx hb d_G_init_14 rfl (lv_at hl 0 rfl) ?_
  refine lv_iload_n hx hb d_G_init_15 rfl (lv_at hl 2 rfl) ?_
  refine gd_newa (N := 200) (t0 := 0) (a0 := (200, .inl (fun i => mx_b (mx_t mx_X0 i)))) cx hw tw_52 rfl rfl (fun _ h => h) (fun _ => rfl) (by decide) (by decide) (by decide) (by decide) d_G_init_16 (fun a1 H hw => ?_)
  have hw : gd_Ws D A s ([(g, .inr (2, [.ref ac, .int (nI 200), .null, .null, .null, .null, .null, .null, .null, .null, .null, .null, .null, .int (nI 0)])), (a1, .inl (ct 0, 200, .inl (fun i => mx_b (mx_t mx_X0 i))))]) H _ := hw
  refine gd_putF (ty := .array .boolean) (wn := [(g, .inr (2, [.ref ac, .int (nI 200), .ref a1, .null, .null, .null, .null, .null, .null, .null, .null, .null, .null, .int (nI 0)])), (a1, .inl (ct 0, 200, .inl (fun i => mx_b (mx_t mx_X0 i))))]) i_G t_G t_G_ok n_G cx hmn hw 0 rfl rfl 2 (by decide) tw_58 rfl rfl rfl (by decide +kernel) rfl rfl (Nat.le_of_ble_eq_true rfl) rfl d_G_init_18 (fun H locs hw => ?_)
  refine lv_aload_n hx hb d_G_init_21 rfl (lv_at hl 0 rfl) ?_
  refine lv_iload_n hx hb d_G_init_22 rfl (lv_at hl 2 rfl) ?_
  refine gd_newa (N := 200) (t0 := 0) (a0 := (200, .inl (fun i => mx_b ((fun _ => false) i)))) cx hw tw_52 rfl rfl (fun _ h => h) (fun _ => rfl) (by decide) (by decide) (by decide) (by decide) d_G_init_23 (fun a2 H hw => ?_)
  have hw : gd_Ws D A s ([(g, .inr (2, [.ref ac, .int (nI 200), .ref a1, .null, .null, .null, .null, .null, .null, .null, .null, .null, .null, .int (nI 0)])), (a1, .inl (ct 0, 200, .inl (fun i => mx_b (mx_t mx_X0 i)))), (a2, .inl (ct 0, 200, .inl (fun i => mx_b ((fun _ => false) i))))]) H _ := hw
  refine gd_putF (ty := .array .boolean) (wn := [(g, .inr (2, [.ref ac, .int (nI 200), .ref a1, .ref a2, .null, .null, .null, .null, .null, .null, .null, .null, .null, .int (nI 0)])), (a1, .inl (ct 0, 200, .inl (fun i => mx_b (mx_t mx_X0 i)))), (a2, .inl (ct 0, 200, .inl (fun i => mx_b ((fun _ => false) i))))]) i_G t_G t_G_ok n_G cx hmn hw 0 rfl rfl 3 (by decide) tw_60 rfl rfl rfl (by decide +kernel) rfl rfl (Nat.le_of_ble_eq_true rfl) rfl d_G_init_25 (fun H locs hw => ?_)
  refine lv_aload_n hx hb d_G_init_28 rfl (lv_at hl 0 rfl) ?_
  refine lv_iload_n hx hb d_G_init_29 rfl (lv_at hl 2 rfl) ?_
  refine gd_newa (N := 200) (t0 := 1) (a0 := (200, .inl (fun i => nI (mx_m mx_X0 i)))) cx hw tw_53 rfl rfl (fun _ h => h) (fun _ => rfl) (by decide) (by decide) (by decide) (by decide) d_G_init_30 (fun a3 H hw => ?_)
  have hw : gd_Ws D A s ([(g, .inr (2, [.ref ac, .int (nI 200), .ref a1, .ref a2, .null, .null, .null, .null, .null, .null, .null, .null, .null, .int (nI 0)])), (a1, .inl (ct 0, 200, .inl (fun i => mx_b (mx_t mx_X0 i)))), (a2, .inl (ct 0, 200, .inl (fun i => mx_b ((fun _ => false) i)))), (a3, .inl (ct 1, 200, .inl (fun i => nI (mx_m mx_X0 i))))]) H _ := hw
  refine gd_putF (ty := .array .byte) (wn := [(g, .inr (2, [.ref ac, .int (nI 200), .ref a1, .ref a2, .ref a3, .null, .null, .null, .null, .null, .null, .null, .null, .int (nI 0)])), (a1, .inl (ct 0, 200, .inl (fun i => mx_b (mx_t mx_X0 i)))), (a2, .inl (ct 0, 200, .inl (fun i => mx_b ((fun _ => false) i)))), (a3, .inl (ct 1, 200, .inl (fun i => nI (mx_m mx_X0 i))))]) i_G t_G t_G_ok n_G cx hmn hw 0 rfl rfl 4 (by decide) tw_62 rfl rfl rfl (by decide +kernel) rfl rfl (Nat.le_of_ble_eq_true rfl) rfl d_G_init_32 (fun H locs hw => ?_)
  refine lv_aload_n hx hb d_G_init_35 rfl (lv_at hl 0 rfl) ?_
  refine lv_bipush (v := nI 16) hx hb d_G_init_36 (by decide) ?_
  refine lv_iload_n hx hb d_G_init_38 rfl (lv_at hl 2 rfl) ?_
  refine gd_imul hx hb d_G_init_39 ?_
  refine W.eq (g2 := F0 m 40 ls [.int (nI 3200), .ref g]) rfl ?_
  refine gd_newa (N := 3200) (t0 := 2) (a0 := (3200, .inl (fun i => nI (mx_p mx_X0 i)))) cx hw tw_54 rfl rfl (fun _ h => h) (fun _ => rfl) (by decide) (by decide) (by decide) (by decide) d_G_init_40 (fun a4 H hw => ?_)
  have hw : gd_Ws D A s ([(g, .inr (2, [.ref ac, .int (nI 200), .ref a1, .ref a2, .ref a3, .null, .null, .null, .null, .null, .null, .null, .null, .int (nI 0)])), (a1, .inl (ct 0, 200, .inl (fun i => mx_b (mx_t mx_X0 i)))), (a2, .inl (ct 0, 200, .inl (fun i => mx_b ((fun _ => false) i)))), (a3, .inl (ct 1, 200, .inl (fun i => nI (mx_m mx_X0 i)))), (a4, .inl (ct 2, 3200, .inl (fun i => nI (mx_p mx_X0 i))))]) H _ := hw
  refine gd_putF (ty := .array .short) (wn := [(g, .inr (2, [.ref ac, .int (nI 200), .ref a1, .ref a2, .ref a3, .ref a4, .null, .null, .null, .null, .null, .null, .null, .int (nI 0)])), (a1, .inl (ct 0, 200, .inl (fun i => mx_b (mx_t mx_X0 i)))), (a2, .inl (ct 0, 200, .inl (fun i => mx_b ((fun _ => false) i)))), (a3, .inl (ct 1, 200, .inl (fun i => nI (mx_m mx_X0 i)))), (a4, .inl (ct 2, 3200, .inl (fun i => nI (mx_p mx_X0 i))))]) i_G t_G t_G_ok n_G cx hmn hw 0 rfl rfl 5 (by decide) tw_63 rfl rfl rfl (by decide +kernel) rfl rfl (Nat.le_of_ble_eq_true rfl) rfl d_G_init_42 (fun H locs hw => ?_)
  refine lv_aload_n hx hb d_G_init_45 rfl (lv_at hl 0 rfl) ?_
  refine lv_bipush (v := nI 16) hx hb d_G_init_46 (by decide) ?_
  refine lv_iload_n hx hb d_G_init_48 rfl (lv_at hl 2 rfl) ?_
  refine gd_imul hx hb d_G_init_49 ?_
  refine W.eq (g2 := F0 m 50 ls [.int (nI 3200), .ref g]) rfl ?_
  refine gd_newa (N := 3200) (t0 := 4) (a0 := (3200, .inr (.inl (fun i => mx_l (mx_a mx_X0 i))))) cx hw tw_29 rfl rfl (fun _ h => h) (fun _ => rfl) (by decide) (by decide) (by decide) (by decide) d_G_init_50 (fun a5 H hw => ?_)
  have hw : gd_Ws D A s ([(g, .inr (2, [.ref ac, .int (nI 200), .ref a1, .ref a2, .ref a3, .ref a4, .null, .null, .null, .null, .null, .null, .null, .int (nI 0)])), (a1, .inl (ct 0, 200, .inl (fun i => mx_b (mx_t mx_X0 i)))), (a2, .inl (ct 0, 200, .inl (fun i => mx_b ((fun _ => false) i)))), (a3, .inl (ct 1, 200, .inl (fun i => nI (mx_m mx_X0 i)))), (a4, .inl (ct 2, 3200, .inl (fun i => nI (mx_p mx_X0 i)))), (a5, .inl (ct 4, 3200, .inr (.inl (fun i => mx_l (mx_a mx_X0 i)))))]) H _ := hw
  refine gd_putF (ty := .array .long) (wn := [(g, .inr (2, [.ref ac, .int (nI 200), .ref a1, .ref a2, .ref a3, .ref a4, .ref a5, .null, .null, .null, .null, .null, .null, .int (nI 0)])), (a1, .inl (ct 0, 200, .inl (fun i => mx_b (mx_t mx_X0 i)))), (a2, .inl (ct 0, 200, .inl (fun i => mx_b ((fun _ => false) i)))), (a3, .inl (ct 1, 200, .inl (fun i => nI (mx_m mx_X0 i)))), (a4, .inl (ct 2, 3200, .inl (fun i => nI (mx_p mx_X0 i)))), (a5, .inl (ct 4, 3200, .inr (.inl (fun i => mx_l (mx_a mx_X0 i)))))]) i_G t_G t_G_ok n_G cx hmn hw 0 rfl rfl 6 (by decide) tw_64 rfl rfl rfl (by decide +kernel) rfl rfl (Nat.le_of_ble_eq_true rfl) rfl d_G_init_52 (fun H locs hw => ?_)
  refine lv_aload_n hx hb d_G_init_55 rfl (lv_at hl 0 rfl) ?_
  refine lv_bipush (v := nI 16) hx hb d_G_init_56 (by decide) ?_
  refine lv_iload_n hx hb d_G_init_58 rfl (lv_at hl 2 rfl) ?_
  refine gd_imul hx hb d_G_init_59 ?_
  refine W.eq (g2 := F0 m 60 ls [.int (nI 3200), .ref g]) rfl ?_
  refine gd_newa (N := 3200) (t0 := 3) (a0 := (3200, .inl (fun i => mx_o ((fun _ => some 0) i)))) cx hw tw_55 rfl rfl (fun _ h => h) (fun _ => rfl) (by decide) (by decide) (by decide) (by decide) d_G_init_60 (fun a6 H hw => ?_)
  have hw : gd_Ws D A s ([(g, .inr (2, [.ref ac, .int (nI 200), .ref a1, .ref a2, .ref a3, .ref a4, .ref a5, .null, .null, .null, .null, .null, .null, .int (nI 0)])), (a1, .inl (ct 0, 200, .inl (fun i => mx_b (mx_t mx_X0 i)))), (a2, .inl (ct 0, 200, .inl (fun i => mx_b ((fun _ => false) i)))), (a3, .inl (ct 1, 200, .inl (fun i => nI (mx_m mx_X0 i)))), (a4, .inl (ct 2, 3200, .inl (fun i => nI (mx_p mx_X0 i)))), (a5, .inl (ct 4, 3200, .inr (.inl (fun i => mx_l (mx_a mx_X0 i))))), (a6, .inl (ct 3, 3200, .inl (fun i => mx_o ((fun _ => some 0) i))))]) H _ := hw
  refine gd_putF (ty := .array .int) (wn := [(g, .inr (2, [.ref ac, .int (nI 200), .ref a1, .ref a2, .ref a3, .ref a4, .ref a5, .ref a6, .null, .null, .null, .null, .null, .int (nI 0)])), (a1, .inl (ct 0, 200, .inl (fun i => mx_b (mx_t mx_X0 i)))), (a2, .inl (ct 0, 200, .inl (fun i => mx_b ((fun _ => false) i)))), (a3, .inl (ct 1, 200, .inl (fun i => nI (mx_m mx_X0 i)))), (a4, .inl (ct 2, 3200, .inl (fun i => nI (mx_p mx_X0 i)))), (a5, .inl (ct 4, 3200, .inr (.inl (fun i => mx_l (mx_a mx_X0 i))))), (a6, .inl (ct 3, 3200, .inl (fun i => mx_o ((fun _ => some 0) i))))]) i_G t_G t_G_ok n_G cx hmn hw 0 rfl rfl 7 (by decide) tw_65 rfl rfl rfl (by decide +kernel) rfl rfl (Nat.le_of_ble_eq_true rfl) rfl d_G_init_62 (fun H locs hw => ?_)
  refine lv_aload_n hx hb d_G_init_65 rfl (lv_at hl 0 rfl) ?_
  refine lv_bipush (v := nI 16) hx hb d_G_init_66 (by decide) ?_
  refine lv_iload_n hx hb d_G_init_68 rfl (lv_at hl 2 rfl) ?_
  refine gd_imul hx hb d_G_init_69 ?_
  refine W.eq (g2 := F0 m 70 ls [.int (nI 3200), .ref g]) rfl ?_
  refine gd_newa (N := 3200) (t0 := 3) (a0 := (3200, .inl (fun i => mx_o ((fun _ => some 0) i)))) cx hw tw_55 rfl rfl (fun _ h => h) (fun _ => rfl) (by decide) (by decide) (by decide) (by decide) d_G_init_70 (fun a7 H hw => ?_)
  have hw : gd_Ws D A s ([(g, .inr (2, [.ref ac, .int (nI 200), .ref a1, .ref a2, .ref a3, .ref a4, .ref a5, .ref a6, .null, .null, .null, .null, .null, .int (nI 0)])), (a1, .inl (ct 0, 200, .inl (fun i => mx_b (mx_t mx_X0 i)))), (a2, .inl (ct 0, 200, .inl (fun i => mx_b ((fun _ => false) i)))), (a3, .inl (ct 1, 200, .inl (fun i => nI (mx_m mx_X0 i)))), (a4, .inl (ct 2, 3200, .inl (fun i => nI (mx_p mx_X0 i)))), (a5, .inl (ct 4, 3200, .inr (.inl (fun i => mx_l (mx_a mx_X0 i))))), (a6, .inl (ct 3, 3200, .inl (fun i => mx_o ((fun _ => some 0) i)))), (a7, .inl (ct 3, 3200, .inl (fun i => mx_o ((fun _ => some 0) i))))]) H _ := hw
  refine gd_putF (ty := .array .int) (wn := [(g, .inr (2, [.ref ac, .int (nI 200), .ref a1, .ref a2, .ref a3, .ref a4, .ref a5, .ref a6, .ref a7, .null, .null, .null, .null, .int (nI 0)])), (a1, .inl (ct 0, 200, .inl (fun i => mx_b (mx_t mx_X0 i)))), (a2, .inl (ct 0, 200, .inl (fun i => mx_b ((fun _ => false) i)))), (a3, .inl (ct 1, 200, .inl (fun i => nI (mx_m mx_X0 i)))), (a4, .inl (ct 2, 3200, .inl (fun i => nI (mx_p mx_X0 i)))), (a5, .inl (ct 4, 3200, .inr (.inl (fun i => mx_l (mx_a mx_X0 i))))), (a6, .inl (ct 3, 3200, .inl (fun i => mx_o ((fun _ => some 0) i)))), (a7, .inl (ct 3, 3200, .inl (fun i => mx_o ((fun _ => some 0) i))))]) i_G t_G t_G_ok n_G cx hmn hw 0 rfl rfl 8 (by decide) tw_66 rfl rfl rfl (by decide +kernel) rfl rfl (Nat.le_of_ble_eq_true rfl) rfl d_G_init_72 (fun H locs hw => ?_)
  refine lv_aload_n hx hb d_G_init_75 rfl (lv_at hl 0 rfl) ?_
  refine lv_iload_n hx hb d_G_init_76 rfl (lv_at hl 3 rfl) ?_
  refine gd_newa (N := 300) (t0 := 3) (a0 := (300, .inl (fun i => mx_o ((fun _ => some 0) i)))) cx hw tw_55 rfl rfl (fun _ h => h) (fun _ => rfl) (by decide) (by decide) (by decide) (by decide) d_G_init_77 (fun a8 H hw => ?_)
  have hw : gd_Ws D A s ([(g, .inr (2, [.ref ac, .int (nI 200), .ref a1, .ref a2, .ref a3, .ref a4, .ref a5, .ref a6, .ref a7, .null, .null, .null, .null, .int (nI 0)])), (a1, .inl (ct 0, 200, .inl (fun i => mx_b (mx_t mx_X0 i)))), (a2, .inl (ct 0, 200, .inl (fun i => mx_b ((fun _ => false) i)))), (a3, .inl (ct 1, 200, .inl (fun i => nI (mx_m mx_X0 i)))), (a4, .inl (ct 2, 3200, .inl (fun i => nI (mx_p mx_X0 i)))), (a5, .inl (ct 4, 3200, .inr (.inl (fun i => mx_l (mx_a mx_X0 i))))), (a6, .inl (ct 3, 3200, .inl (fun i => mx_o ((fun _ => some 0) i)))), (a7, .inl (ct 3, 3200, .inl (fun i => mx_o ((fun _ => some 0) i)))), (a8, .inl (ct 3, 300, .inl (fun i => mx_o ((fun _ => some 0) i))))]) H _ := hw
  refine gd_putF (ty := .array .int) (wn := [(g, .inr (2, [.ref ac, .int (nI 200), .ref a1, .ref a2, .ref a3, .ref a4, .ref a5, .ref a6, .ref a7, .ref a8, .null, .null, .null, .int (nI 0)])), (a1, .inl (ct 0, 200, .inl (fun i => mx_b (mx_t mx_X0 i)))), (a2, .inl (ct 0, 200, .inl (fun i => mx_b ((fun _ => false) i)))), (a3, .inl (ct 1, 200, .inl (fun i => nI (mx_m mx_X0 i)))), (a4, .inl (ct 2, 3200, .inl (fun i => nI (mx_p mx_X0 i)))), (a5, .inl (ct 4, 3200, .inr (.inl (fun i => mx_l (mx_a mx_X0 i))))), (a6, .inl (ct 3, 3200, .inl (fun i => mx_o ((fun _ => some 0) i)))), (a7, .inl (ct 3, 3200, .inl (fun i => mx_o ((fun _ => some 0) i)))), (a8, .inl (ct 3, 300, .inl (fun i => mx_o ((fun _ => some 0) i))))]) i_G t_G t_G_ok n_G cx hmn hw 0 rfl rfl 9 (by decide) tw_67 rfl rfl rfl (by decide +kernel) rfl rfl (Nat.le_of_ble_eq_true rfl) rfl d_G_init_79 (fun H locs hw => ?_)
  refine lv_aload_n hx hb d_G_init_82 rfl (lv_at hl 0 rfl) ?_
  refine lv_iload_n hx hb d_G_init_83 rfl (lv_at hl 3 rfl) ?_
  refine gd_newa (N := 300) (t0 := 4) (a0 := (300, .inr (.inl (fun i => mx_l ((fun _ => (0 : Int)) i))))) cx hw tw_29 rfl rfl (fun _ h => h) (fun _ => rfl) (by decide) (by decide) (by decide) (by decide) d_G_init_84 (fun a9 H hw => ?_)
  have hw : gd_Ws D A s ([(g, .inr (2, [.ref ac, .int (nI 200), .ref a1, .ref a2, .ref a3, .ref a4, .ref a5, .ref a6, .ref a7, .ref a8, .null, .null, .null, .int (nI 0)])), (a1, .inl (ct 0, 200, .inl (fun i => mx_b (mx_t mx_X0 i)))), (a2, .inl (ct 0, 200, .inl (fun i => mx_b ((fun _ => false) i)))), (a3, .inl (ct 1, 200, .inl (fun i => nI (mx_m mx_X0 i)))), (a4, .inl (ct 2, 3200, .inl (fun i => nI (mx_p mx_X0 i)))), (a5, .inl (ct 4, 3200, .inr (.inl (fun i => mx_l (mx_a mx_X0 i))))), (a6, .inl (ct 3, 3200, .inl (fun i => mx_o ((fun _ => some 0) i)))), (a7, .inl (ct 3, 3200, .inl (fun i => mx_o ((fun _ => some 0) i)))), (a8, .inl (ct 3, 300, .inl (fun i => mx_o ((fun _ => some 0) i)))), (a9, .inl (ct 4, 300, .inr (.inl (fun i => mx_l ((fun _ => (0 : Int)) i)))))]) H _ := hw
  refine gd_putF (ty := .array .long) (wn := [(g, .inr (2, [.ref ac, .int (nI 200), .ref a1, .ref a2, .ref a3, .ref a4, .ref a5, .ref a6, .ref a7, .ref a8, .ref a9, .null, .null, .int (nI 0)])), (a1, .inl (ct 0, 200, .inl (fun i => mx_b (mx_t mx_X0 i)))), (a2, .inl (ct 0, 200, .inl (fun i => mx_b ((fun _ => false) i)))), (a3, .inl (ct 1, 200, .inl (fun i => nI (mx_m mx_X0 i)))), (a4, .inl (ct 2, 3200, .inl (fun i => nI (mx_p mx_X0 i)))), (a5, .inl (ct 4, 3200, .inr (.inl (fun i => mx_l (mx_a mx_X0 i))))), (a6, .inl (ct 3, 3200, .inl (fun i => mx_o ((fun _ => some 0) i)))), (a7, .inl (ct 3, 3200, .inl (fun i => mx_o ((fun _ => some 0) i)))), (a8, .inl (ct 3, 300, .inl (fun i => mx_o ((fun _ => some 0) i)))), (a9, .inl (ct 4, 300, .inr (.inl (fun i => mx_l ((fun _ => (0 : Int)) i)))))]) i_G t_G t_G_ok n_G cx hmn hw 0 rfl rfl 10 (by decide) tw_68 rfl rfl rfl (by decide +kernel) rfl rfl (Nat.le_of_ble_eq_true rfl) rfl d_G_init_86 (fun H locs hw => ?_)
  refine lv_aload_n hx hb d_G_init_89 rfl (lv_at hl 0 rfl) ?_
  refine gd_new (fs := [.null, .null, .int (nI 0)]) i_P t_P t_P_ok cx hw tw_36 tw_37 tw_4 (ci := 3) rfl (fun j hj => by rcases (show j = 0 ∨ j = 1 ∨ j = 2 by omega) with rfl | rfl | rfl <;> rfl) (by decide) (by decide) d_G_init_90 (fun a10 H hw => ?_)
  have hw : gd_Ws D A s ([(g, .inr (2, [.ref ac, .int (nI 200), .ref a1, .ref a2, .ref a3, .ref a4, .ref a5, .ref a6, .ref a7, .ref a8, .ref a9, .null, .null, .int (nI 0)])), (a1, .inl (ct 0, 200, .inl (fun i => mx_b (mx_t mx_X0 i)))), (a2, .inl (ct 0, 200, .inl (fun i => mx_b ((fun _ => false) i)))), (a3, .inl (ct 1, 200, .inl (fun i => nI (mx_m mx_X0 i)))), (a4, .inl (ct 2, 3200, .inl (fun i => nI (mx_p mx_X0 i)))), (a5, .inl (ct 4, 3200, .inr (.inl (fun i => mx_l (mx_a mx_X0 i))))), (a6, .inl (ct 3, 3200, .inl (fun i => mx_o ((fun _ => some 0) i)))), (a7, .inl (ct 3, 3200, .inl (fun i => mx_o ((fun _ => some 0) i)))), (a8, .inl (ct 3, 300, .inl (fun i => mx_o ((fun _ => some 0) i)))), (a9, .inl (ct 4, 300, .inr (.inl (fun i => mx_l ((fun _ => (0 : Int)) i))))), (a10, .inr (3, [.null, .null, .int (nI 0)]))]) H _ := hw
  refine lv_dup hx hb d_G_init_93 rfl ?_
  refine lv_iload_n hx hb d_G_init_94 rfl (lv_at hl 3 rfl) ?_
  refine gd_callIV (n := 1) (As := [.int (nI 300)]) (rest := [.ref a10, .ref g]) cx hw (c_P_init_300 l D ct _ a10) tw_40 tw_4 (tw_38) tw_39 rfl (by decide +kernel) ⟨by decide, by decide⟩ ⟨rfl, rfl⟩ [10] rfl rfl (gd_jn (w2 := fun u => [(g, .inr (2, [.ref ac, .int (nI 200), .ref a1, .ref a2, .ref a3, .ref a4, .ref a5, .ref a6, .ref a7, .ref a8, .ref a9, .null, .null, .int (nI 0)])), (a1, .inl (ct 0, 200, .inl (fun i => mx_b (mx_t mx_X0 i)))), (a2, .inl (ct 0, 200, .inl (fun i => mx_b ((fun _ => false) i)))), (a3, .inl (ct 1, 200, .inl (fun i => nI (mx_m mx_X0 i)))), (a4, .inl (ct 2, 3200, .inl (fun i => nI (mx_p mx_X0 i)))), (a5, .inl (ct 4, 3200, .inr (.inl (fun i => mx_l (mx_a mx_X0 i))))), (a6, .inl (ct 3, 3200, .inl (fun i => mx_o ((fun _ => some 0) i)))), (a7, .inl (ct 3, 3200, .inl (fun i => mx_o ((fun _ => some 0) i)))), (a8, .inl (ct 3, 300, .inl (fun i => mx_o ((fun _ => some 0) i)))), (a9, .inl (ct 4, 300, .inr (.inl (fun i => mx_l ((fun _ => (0 : Int)) i)))))] ++ wP a10 u.1 u.2 ct 300 (fun _ => 0) []) hw [10] [0, 1, 2, 3, 4, 5, 6, 7, 8, 9] [0, 1, 2, 3, 4, 5, 6, 7, 8, 9, 10, 11, 12] rfl rfl rfl (by decide) (fun _ => rfl) rfl) rfl hl.1 rfl (Nat.le_of_ble_eq_true rfl) ⟨by decide, by decide⟩ d_G_init_95 (fun u H locs hp hw => ?_)
  obtain ⟨a11, a12⟩ := u
  have hw : gd_Ws D A s ([(g, .inr (2, [.ref ac, .int (nI 200), .ref a1, .ref a2, .ref a3, .ref a4, .ref a5, .ref a6, .ref a7, .ref a8, .ref a9, .null, .null, .int (nI 0)])), (a1, .inl (ct 0, 200, .inl (fun i => mx_b (mx_t mx_X0 i)))), (a2, .inl (ct 0, 200, .inl (fun i => mx_b ((fun _ => false) i)))), (a3, .inl (ct 1, 200, .inl (fun i => nI (mx_m mx_X0 i)))), (a4, .inl (ct 2, 3200, .inl (fun i => nI (mx_p mx_X0 i)))), (a5, .inl (ct 4, 3200, .inr (.inl (fun i => mx_l (mx_a mx_X0 i))))), (a6, .inl (ct 3, 3200, .inl (fun i => mx_o ((fun _ => some 0) i)))), (a7, .inl (ct 3, 3200, .inl (fun i => mx_o ((fun _ => some 0) i)))), (a8, .inl (ct 3, 300, .inl (fun i => mx_o ((fun _ => some 0) i)))), (a9, .inl (ct 4, 300, .inr (.inl (fun i => mx_l ((fun _ => (0 : Int)) i))))), (a10, .inr (3, [.ref a11, .ref a12, .int (nI (([] : List Nat).length))])), (a11, .inl (ct 2, 300, .inl (fun _ => 0))), (a12, .inl (ct 0, 300, .inl (fun v => mx_b (decide (v ∈ ([] : List Nat))))))]) H locs := hw
  refine gd_putF (ty := .object "GridDesk$Pile") (wn := [(g, .inr (2, [.ref ac, .int (nI 200), .ref a1, .ref a2, .ref a3, .ref a4, .ref a5, .ref a6, .ref a7, .ref a8, .ref a9, .ref a10, .null, .int (nI 0)])), (a1, .inl (ct 0, 200, .inl (fun i => mx_b (mx_t mx_X0 i)))), (a2, .inl (ct 0, 200, .inl (fun i => mx_b ((fun _ => false) i)))), (a3, .inl (ct 1, 200, .inl (fun i => nI (mx_m mx_X0 i)))), (a4, .inl (ct 2, 3200, .inl (fun i => nI (mx_p mx_X0 i)))), (a5, .inl (ct 4, 3200, .inr (.inl (fun i => mx_l (mx_a mx_X0 i))))), (a6, .inl (ct 3, 3200, .inl (fun i => mx_o ((fun _ => some 0) i)))), (a7, .inl (ct 3, 3200, .inl (fun i => mx_o ((fun _ => some 0) i)))), (a8, .inl (ct 3, 300, .inl (fun i => mx_o ((fun _ => some 0) i)))), (a9, .inl (ct 4, 300, .inr (.inl (fun i => mx_l ((fun _ => (0 : Int)) i))))), (a10, .inr (3, [.ref a11, .ref a12, .int (nI (([] : List Nat).length))])), (a11, .inl (ct 2, 300, .inl (fun _ => 0))), (a12, .inl (ct 0, 300, .inl (fun v => mx_b (decide (v ∈ ([] : List Nat))))))]) i_G t_G t_G_ok n_G cx hmn hw 0 rfl rfl 11 (by decide) tw_70 rfl rfl rfl (by decide +kernel) rfl rfl (Nat.le_of_ble_eq_true rfl) rfl d_G_init_98 (fun H locs hw => ?_)
  refine lv_aload_n hx hb d_G_init_101 rfl (lv_at hl 0 rfl) ?_
  refine gd_new (fs := [.null, .null, .int (nI 0)]) i_P t_P t_P_ok cx hw tw_36 tw_37 tw_4 (ci := 3) rfl (fun j hj => by rcases (show j = 0 ∨ j = 1 ∨ j = 2 by omega) with rfl | rfl | rfl <;> rfl) (by decide) (by decide) d_G_init_102 (fun a13 H hw => ?_)
  have hw : gd_Ws D A s ([(g, .inr (2, [.ref ac, .int (nI 200), .ref a1, .ref a2, .ref a3, .ref a4, .ref a5, .ref a6, .ref a7, .ref a8, .ref a9, .ref a10, .null, .int (nI 0)])), (a1, .inl (ct 0, 200, .inl (fun i => mx_b (mx_t mx_X0 i)))), (a2, .inl (ct 0, 200, .inl (fun i => mx_b ((fun _ => false) i)))), (a3, .inl (ct 1, 200, .inl (fun i => nI (mx_m mx_X0 i)))), (a4, .inl (ct 2, 3200, .inl (fun i => nI (mx_p mx_X0 i)))), (a5, .inl (ct 4, 3200, .inr (.inl (fun i => mx_l (mx_a mx_X0 i))))), (a6, .inl (ct 3, 3200, .inl (fun i => mx_o ((fun _ => some 0) i)))), (a7, .inl (ct 3, 3200, .inl (fun i => mx_o ((fun _ => some 0) i)))), (a8, .inl (ct 3, 300, .inl (fun i => mx_o ((fun _ => some 0) i)))), (a9, .inl (ct 4, 300, .inr (.inl (fun i => mx_l ((fun _ => (0 : Int)) i))))), (a10, .inr (3, [.ref a11, .ref a12, .int (nI (([] : List Nat).length))])), (a11, .inl (ct 2, 300, .inl (fun _ => 0))), (a12, .inl (ct 0, 300, .inl (fun v => mx_b (decide (v ∈ ([] : List Nat)))))), (a13, .inr (3, [.null, .null, .int (nI 0)]))]) H _ := hw
  refine lv_dup hx hb d_G_init_105 rfl ?_
  refine lv_iload_n hx hb d_G_init_106 rfl (lv_at hl 2 rfl) ?_
  refine gd_callIV (n := 1) (As := [.int (nI 200)]) (rest := [.ref a13, .ref g]) cx hw (c_P_init_200 l D ct _ a13) tw_40 tw_4 (tw_38) tw_39 rfl (by decide +kernel) ⟨by decide, by decide⟩ ⟨rfl, rfl⟩ [13] rfl rfl (gd_jn (w2 := fun u => [(g, .inr (2, [.ref ac, .int (nI 200), .ref a1, .ref a2, .ref a3, .ref a4, .ref a5, .ref a6, .ref a7, .ref a8, .ref a9, .ref a10, .null, .int (nI 0)])), (a1, .inl (ct 0, 200, .inl (fun i => mx_b (mx_t mx_X0 i)))), (a2, .inl (ct 0, 200, .inl (fun i => mx_b ((fun _ => false) i)))), (a3, .inl (ct 1, 200, .inl (fun i => nI (mx_m mx_X0 i)))), (a4, .inl (ct 2, 3200, .inl (fun i => nI (mx_p mx_X0 i)))), (a5, .inl (ct 4, 3200, .inr (.inl (fun i => mx_l (mx_a mx_X0 i))))), (a6, .inl (ct 3, 3200, .inl (fun i => mx_o ((fun _ => some 0) i)))), (a7, .inl (ct 3, 3200, .inl (fun i => mx_o ((fun _ => some 0) i)))), (a8, .inl (ct 3, 300, .inl (fun i => mx_o ((fun _ => some 0) i)))), (a9, .inl (ct 4, 300, .inr (.inl (fun i => mx_l ((fun _ => (0 : Int)) i))))), (a10, .inr (3, [.ref a11, .ref a12, .int (nI (([] : List Nat).length))])), (a11, .inl (ct 2, 300, .inl (fun _ => 0))), (a12, .inl (ct 0, 300, .inl (fun v => mx_b (decide (v ∈ ([] : List Nat))))))] ++ wP a13 u.1 u.2 ct 200 (fun _ => 0) []) hw [13] [0, 1, 2, 3, 4, 5, 6, 7, 8, 9, 10, 11, 12] [0, 1, 2, 3, 4, 5, 6, 7, 8, 9, 10, 11, 12, 13, 14, 15] rfl rfl rfl (by decide) (fun _ => rfl) rfl) rfl hl.1 rfl (Nat.le_of_ble_eq_true rfl) ⟨by decide, by decide⟩ d_G_init_107 (fun u H locs hp hw => ?_)
  obtain ⟨a14, a15⟩ := u
  have hw : gd_Ws D A s ([(g, .inr (2, [.ref ac, .int (nI 200), .ref a1, .ref a2, .ref a3, .ref a4, .ref a5, .ref a6, .ref a7, .ref a8, .ref a9, .ref a10, .null, .int (nI 0)])), (a1, .inl (ct 0, 200, .inl (fun i => mx_b (mx_t mx_X0 i)))), (a2, .inl (ct 0, 200, .inl (fun i => mx_b ((fun _ => false) i)))), (a3, .inl (ct 1, 200, .inl (fun i => nI (mx_m mx_X0 i)))), (a4, .inl (ct 2, 3200, .inl (fun i => nI (mx_p mx_X0 i)))), (a5, .inl (ct 4, 3200, .inr (.inl (fun i => mx_l (mx_a mx_X0 i))))), (a6, .inl (ct 3, 3200, .inl (fun i => mx_o ((fun _ => some 0) i)))), (a7, .inl (ct 3, 3200, .inl (fun i => mx_o ((fun _ => some 0) i)))), (a8, .inl (ct 3, 300, .inl (fun i => mx_o ((fun _ => some 0) i)))), (a9, .inl (ct 4, 300, .inr (.inl (fun i => mx_l ((fun _ => (0 : Int)) i))))), (a10, .inr (3, [.ref a11, .ref a12, .int (nI (([] : List Nat).length))])), (a11, .inl (ct 2, 300, .inl (fun _ => 0))), (a12, .inl (ct 0, 300, .inl (fun v => mx_b (decide (v ∈ ([] : List Nat)))))), (a13, .inr (3, [.ref a14, .ref a15, .int (nI (([] : List Nat).length))])), (a14, .inl (ct 2, 200, .inl (fun _ => 0))), (a15, .inl (ct 0, 200, .inl (fun v => mx_b (decide (v ∈ ([] : List Nat))))))]) H locs := hw
  refine gd_putF (ty := .object "GridDesk$Pile") (wn := [(g, .inr (2, [.ref ac, .int (nI 200), .ref a1, .ref a2, .ref a3, .ref a4, .ref a5, .ref a6, .ref a7, .ref a8, .ref a9, .ref a10, .ref a13, .int (nI 0)])), (a1, .inl (ct 0, 200, .inl (fun i => mx_b (mx_t mx_X0 i)))), (a2, .inl (ct 0, 200, .inl (fun i => mx_b ((fun _ => false) i)))), (a3, .inl (ct 1, 200, .inl (fun i => nI (mx_m mx_X0 i)))), (a4, .inl (ct 2, 3200, .inl (fun i => nI (mx_p mx_X0 i)))), (a5, .inl (ct 4, 3200, .inr (.inl (fun i => mx_l (mx_a mx_X0 i))))), (a6, .inl (ct 3, 3200, .inl (fun i => mx_o ((fun _ => some 0) i)))), (a7, .inl (ct 3, 3200, .inl (fun i => mx_o ((fun _ => some 0) i)))), (a8, .inl (ct 3, 300, .inl (fun i => mx_o ((fun _ => some 0) i)))), (a9, .inl (ct 4, 300, .inr (.inl (fun i => mx_l ((fun _ => (0 : Int)) i))))), (a10, .inr (3, [.ref a11, .ref a12, .int (nI (([] : List Nat).length))])), (a11, .inl (ct 2, 300, .inl (fun _ => 0))), (a12, .inl (ct 0, 300, .inl (fun v => mx_b (decide (v ∈ ([] : List Nat)))))), (a13, .inr (3, [.ref a14, .ref a15, .int (nI (([] : List Nat).length))])), (a14, .inl (ct 2, 200, .inl (fun _ => 0))), (a15, .inl (ct 0, 200, .inl (fun v => mx_b (decide (v ∈ ([] : List Nat))))))]) i_G t_G t_G_ok n_G cx hmn hw 0 rfl rfl 12 (by decide) tw_71 rfl rfl rfl (by decide +kernel) rfl rfl (Nat.le_of_ble_eq_true rfl) rfl d_G_init_110 (fun H locs hw => ?_)
  obtain ⟨q, e0, e1, e2, e3, e4, e5, e6, e7, e8, e9, e10, e11, e12, e13, e14, e15, e16⟩ : ∃ q : Nat → Nat, g = q 0 ∧ a1 = q 1 ∧ a2 = q 2 ∧ a3 = q 3 ∧ a4 = q 4 ∧ a5 = q 5 ∧ a6 = q 6 ∧ a7 = q 7 ∧ a8 = q 8 ∧ a9 = q 9 ∧ a10 = q 10 ∧ a11 = q 11 ∧ a12 = q 12 ∧ a13 = q 13 ∧ a14 = q 14 ∧ a15 = q 15 ∧ ac = q 16 := ⟨fun k => [g, a1, a2, a3, a4, a5, a6, a7, a8, a9, a10, a11, a12, a13, a14, a15, ac].getD k 0, rfl, rfl, rfl, rfl, rfl, rfl, rfl, rfl, rfl, rfl, rfl, rfl, rfl, rfl, rfl, rfl, rfl⟩
  subst e0 e1 e2 e3 e4 e5 e6 e7 e8 e9 e10 e11 e12 e13 e14 e15 e16
  exact hret q _ _ _ _ _ _ (by decide) (by decide) d_G_init_113 ⟨rfl, rfl⟩ hw
abbrev wX0 (q : Nat → Nat) (ct : Nat → ClassId) : va_W := wX q ct mx_X0 (fun _ => false) (fun _ => some 0) (fun _ => some 0) (fun _ => some 0) (fun _ => 0) (fun _ => 0) [] (fun _ => 0) []
abbrev rm_X_init : Room := { frames := 3, cells := 19, slots := 15622, locals := 100 }
set_option maxHeartbeats 4000000 in
set_option maxRecDepth 100000 in
/-- GridDesk() -/
theorem c_X_init (l : Launch) (D : va_G) (ct : Nat → ClassId) (sz : Nat) (d0 : Nat) : gd_ctV l y_X_init k_X_init rm_X_init D ct [.ref d0] sz ([(d0, .inr (0, [.null, .null]))]) (S := (Nat → Nat)) (fun u => u 19 = d0) (fun u => wX0 u ct) 19 15622 := by
  refine gd_entV (by decide +kernel) rfl (Nat.le_of_ble_eq_true rfl) (fun p e s m below meth c Q A ls cx hmn hw hl hret => ?_)
  have hx := cx.1
  have hb := cx.2.1
  have hl : lv_has ls 1 [(0, .ref d0)] := hl
  refine lv_aload_n hx hb d_X_init_0 rfl (lv_at hl 0 rfl) ?_
  refine gd_objInit cx tw_11 hl.1 (Nat.le_of_ble_eq_true rfl) (by decide) d_X_init_1 ?_
  refine lv_aload_n hx hb d_X_init_4 rfl (lv_at hl 0 rfl) ?_
  refine gd_new (fs := [.null, .null]) i_A t_A t_A_ok cx hw tw_14 tw_15 tw_2 (ci := 1) rfl (fun j hj => by rcases (show j = 0 ∨ j = 1 by omega) with rfl | rfl <;> rfl) (by decide) (by decide) d_X_init_5 (fun p5 H hw => ?_)
  have hw : gd_Ws D A s ([(d0, .inr (0, [.null, .null])), (p5, .inr (1, [.null, .null]))]) H _ := hw
  refine lv_dup hx hb d_X_init_8 rfl ?_
  refine gd_callIN (n := 0) (As := []) (rest := [.ref p5, .ref d0]) cx hw (c_A_init l D ct _ p5) tw_18 tw_2 (cx.2.2.2.2.2.2.2.2.2.2.2.2.1) tw_17 rfl (by decide +kernel) ⟨by decide, by decide⟩ ⟨rfl, rfl⟩ [1] rfl rfl (gd_jn (w2 := fun u => [(d0, .inr (0, [.null, .null]))] ++ wA p5 u.1 u.2 ct mx_X0) hw [1] [0] [0, 1, 2, 3] rfl rfl rfl (by decide) (fun _ => rfl) rfl) rfl hl.1 rfl (Nat.le_of_ble_eq_true rfl) ⟨by decide, by decide⟩ d_X_init_9 (fun u H locs hp hw => ?_)
  obtain ⟨pv, pf⟩ := u
  have hw : gd_Ws D A s ([(d0, .inr (0, [.null, .null])), (p5, .inr (1, [.ref pv, .ref pf])), (pv, .inl (ct 4, 300, .inr (.inl (fun p => mx_l (mx_v mx_X0 p))))), (pf, .inl (ct 4, 300, .inr (.inl (fun p => mx_l (mx_f mx_X0 p)))))]) H locs := hw
  refine gd_putF (ty := .object "GridDesk$Places") (wn := [(d0, .inr (0, [.ref p5, .null])), (p5, .inr (1, [.ref pv, .ref pf])), (pv, .inl (ct 4, 300, .inr (.inl (fun p => mx_l (mx_v mx_X0 p))))), (pf, .inl (ct 4, 300, .inr (.inl (fun p => mx_l (mx_f mx_X0 p)))))]) i_X t_X t_X_ok n_X cx hmn hw 0 rfl rfl 0 (by decide) tw_103 rfl rfl rfl (by decide +kernel) rfl rfl (Nat.le_of_ble_eq_true rfl) rfl d_X_init_12 (fun H locs hw => ?_)
  refine lv_aload_n hx hb d_X_init_15 rfl (lv_at hl 0 rfl) ?_
  refine gd_new (fs := [.null, .int (nI 0), .null, .null, .null, .null, .null, .null, .null, .null, .null, .null, .null, .int (nI 0)]) i_G t_G t_G_ok cx hw tw_30 tw_31 tw_3 (ci := 2) rfl (fun j hj => by rcases (show j = 0 ∨ j = 1 ∨ j = 2 ∨ j = 3 ∨ j = 4 ∨ j = 5 ∨ j = 6 ∨ j = 7 ∨ j = 8 ∨ j = 9 ∨ j = 10 ∨ j = 11 ∨ j = 12 ∨ j = 13 by omega) with rfl | rfl | rfl | rfl | rfl | rfl | rfl | rfl | rfl | rfl | rfl | rfl | rfl | rfl <;> rfl) (by decide) (by decide) d_X_init_16 (fun g16 H hw => ?_)
  have hw : gd_Ws D A s ([(d0, .inr (0, [.ref p5, .null])), (p5, .inr (1, [.ref pv, .ref pf])), (pv, .inl (ct 4, 300, .inr (.inl (fun p => mx_l (mx_v mx_X0 p))))), (pf, .inl (ct 4, 300, .inr (.inl (fun p => mx_l (mx_f mx_X0 p))))), (g16, .inr (2, [.null, .int (nI 0), .null, .null, .null, .null, .null, .null, .null, .null, .null, .null, .null, .int (nI 0)]))]) H _ := hw
  refine lv_dup hx hb d_X_init_19 rfl ?_
  refine lv_aload_n hx hb d_X_init_20 rfl (lv_at hl 0 rfl) ?_
  refine gd_get (v := .ref p5) i_X cx hw 0 rfl rfl 0 (by decide) tw_103 rfl rfl d_X_init_21 ?_
  refine lv_sipush (v := nI 200) hx hb d_X_init_24 (by decide) ?_
  refine lv_sipush (v := nI 300) hx hb d_X_init_27 (by decide) ?_
  refine gd_callIV (n := 3) (As := [.ref p5, .int (nI 200), .int (nI 300)]) (rest := [.ref g16, .ref d0]) cx hw (c_G_init l D ct _ g16 p5) tw_34 tw_3 (tw_32) tw_33 rfl (by decide +kernel) ⟨by decide, by decide⟩ ⟨rfl, rfl⟩ [4] rfl rfl (gd_jn (w2 := fun u => [(d0, .inr (0, [.ref p5, .null])), (p5, .inr (1, [.ref pv, .ref pf])), (pv, .inl (ct 4, 300, .inr (.inl (fun p => mx_l (mx_v mx_X0 p))))), (pf, .inl (ct 4, 300, .inr (.inl (fun p => mx_l (mx_f mx_X0 p)))))] ++ wGi u ct) hw [4] [0, 1, 2, 3] [0, 1, 2, 3, 4, 5, 6, 7, 8, 9, 10, 11, 12, 13, 14, 15, 16, 17, 18, 19] rfl rfl rfl (by decide) (fun _ => rfl) rfl) rfl hl.1 rfl (Nat.le_of_ble_eq_true rfl) ⟨by decide, by decide⟩ d_X_init_30 (fun u H locs hp hw => ?_)
  obtain ⟨hq0, hq16⟩ := hp
  have hw : gd_Ws D A s ([(d0, .inr (0, [.ref p5, .null])), (p5, .inr (1, [.ref pv, .ref pf])), (pv, .inl (ct 4, 300, .inr (.inl (fun p => mx_l (mx_v mx_X0 p))))), (pf, .inl (ct 4, 300, .inr (.inl (fun p => mx_l (mx_f mx_X0 p)))))] ++ wGi u ct) H locs := hw
  have hw : gd_Ws D A s (wGi u ct ++ [(p5, .inr (1, [.ref pv, .ref pf])), (pv, .inl (ct 4, 300, .inr (.inl (fun p => mx_l (mx_v mx_X0 p))))), (pf, .inl (ct 4, 300, .inr (.inl (fun p => mx_l (mx_f mx_X0 p))))), (d0, .inr (0, [.ref p5, .null]))]) H locs := ⟨hw.1.sub [4, 5, 6, 7, 8, 9, 10, 11, 12, 13, 14, 15, 16, 17, 18, 19, 1, 2, 3, 0] rfl, hw.2.1.sub [4, 5, 6, 7, 8, 9, 10, 11, 12, 13, 14, 15, 16, 17, 18, 19, 1, 2, 3, 0] rfl rfl, hw.2.2⟩
  obtain ⟨q, hq⟩ : ∃ q : Nat → Nat, q = (fun k => if k < 17 then u k else if k = 17 then pv else if k = 18 then pf else d0) := ⟨_, rfl⟩
  have e0 : ∀ k, k < 17 → u k = q k := fun k hk => by rw [hq]; show u k = if k < 17 then u k else _; rw [if_pos hk]
  have e17 : pv = q 17 := by rw [hq]; rfl
  have e18 : pf = q 18 := by rw [hq]; rfl
  have e19 : d0 = q 19 := by rw [hq]; rfl
  have eac : p5 = q 16 := by rw [← hq16]; exact e0 16 (by decide)
  have eg : g16 = q 0 := by rw [← hq0]; exact e0 0 (by decide)
  have hw : gd_Ws D A s ((wG q ct mx_X0 (fun _ => false) (fun _ => some 0) (fun _ => some 0) (fun _ => some 0) (fun _ => 0) (fun _ => 0) [] (fun _ => 0) []) ++ [(q 19, .inr (0, [.ref (q 16), .null]))]) H locs := by
    have hw2 := hw
    simp only [wGi, List.take] at hw2
    rw [e0 0 (by decide), e0 1 (by decide), e0 2 (by decide), e0 3 (by decide), e0 4 (by decide), e0 5 (by decide), e0 6 (by decide), e0 7 (by decide), e0 8 (by decide), e0 9 (by decide), e0 10 (by decide), e0 11 (by decide), e0 12 (by decide), e0 13 (by decide), e0 14 (by decide), e0 15 (by decide), e0 16 (by decide), e17, e18, e19, eac] at hw2
    exact hw2
  refine W.eq (g2 := F0 m 33 ls [.ref (q 0), .ref (q 19)]) (by rw [← eg, ← e19]) ?_
  refine gd_putF (ty := .object "GridDesk$Grid") (wn := wX0 q ct) i_X t_X t_X_ok n_X cx hmn hw 19 rfl rfl 1 (by decide) tw_104 rfl rfl rfl (by decide +kernel) rfl rfl (Nat.le_of_ble_eq_true rfl) rfl d_X_init_33 (fun H locs hw => ?_)
  exact hret q _ _ _ _ _ _ (by decide) (by decide) d_X_init_36 e19.symm hw
abbrev rm_M_init : Room := { frames := 1, cells := 7, slots := 7600, locals := 24 }
set_option maxHeartbeats 4000000 in
set_option maxRecDepth 100000 in
/-- GridDeskModel() -/
theorem c_M_init (l : Launch) (D : va_G) (ct : Nat → ClassId) (sz : Nat) (a : Nat) : gd_ctV l y_M_init k_M_init rm_M_init D ct [.ref a] sz ([(a, .inr (4, [.null, .null, .int (nI 0), .null, .null, .null, .null, .null]))]) (S := (Nat → Nat)) (fun u => u 0 = a) (fun u => wM u ct mx_X0 (fun _ => false)) 7 7600 := by
  refine gd_entV (by decide +kernel) rfl (Nat.le_of_ble_eq_true rfl) (fun p e s m below meth c Q A ls cx hmn hw hl hret => ?_)
  have hx := cx.1
  have hb := cx.2.1
  have hl : lv_has ls 1 [(0, .ref a)] := hl
  refine lv_aload_n hx hb d_M_init_0 rfl (lv_at hl 0 rfl) ?_
  refine gd_objInit cx tw_251 hl.1 (Nat.le_of_ble_eq_true rfl) (by decide) d_M_init_1 ?_
  refine lv_aload_n hx hb d_M_init_4 rfl (lv_at hl 0 rfl) ?_
  refine lv_sipush (v := nI 300) hx hb d_M_init_5 (by decide) ?_
  refine gd_newa (N := 300) (t0 := 4) (a0 := (300, .inr (.inl (fun p => mx_l (mx_v mx_X0 p))))) cx hw tw_29 rfl rfl (fun _ h => h) (fun _ => rfl) (by decide) (by decide) (by decide) (by decide) d_M_init_8 (fun a1 H hw => ?_)
  have hw : gd_Ws D A s ([(a, .inr (4, [.null, .null, .int (nI 0), .null, .null, .null, .null, .null])), (a1, .inl (ct 4, 300, .inr (.inl (fun p => mx_l (mx_v mx_X0 p)))))]) H _ := hw
  refine gd_putF (ty := .array .long) (wn := [(a, .inr (4, [.ref a1, .null, .int (nI 0), .null, .null, .null, .null, .null])), (a1, .inl (ct 4, 300, .inr (.inl (fun p => mx_l (mx_v mx_X0 p)))))]) i_M t_M t_M_ok n_M cx hmn hw 0 rfl rfl 0 (by decide) tw_252 rfl rfl rfl (by decide +kernel) rfl rfl (Nat.le_of_ble_eq_true rfl) rfl d_M_init_10 (fun H locs hw => ?_)
  refine lv_aload_n hx hb d_M_init_13 rfl (lv_at hl 0 rfl) ?_
  refine lv_sipush (v := nI 300) hx hb d_M_init_14 (by decide) ?_
  refine gd_newa (N := 300) (t0 := 4) (a0 := (300, .inr (.inl (fun p => mx_l (mx_f mx_X0 p))))) cx hw tw_29 rfl rfl (fun _ h => h) (fun _ => rfl) (by decide) (by decide) (by decide) (by decide) d_M_init_17 (fun a2 H hw => ?_)
  have hw : gd_Ws D A s ([(a, .inr (4, [.ref a1, .null, .int (nI 0), .null, .null, .null, .null, .null])), (a1, .inl (ct 4, 300, .inr (.inl (fun p => mx_l (mx_v mx_X0 p))))), (a2, .inl (ct 4, 300, .inr (.inl (fun p => mx_l (mx_f mx_X0 p)))))]) H _ := hw
  refine gd_putF (ty := .array .long) (wn := [(a, .inr (4, [.ref a1, .ref a2, .int (nI 0), .null, .null, .null, .null, .null])), (a1, .inl (ct 4, 300, .inr (.inl (fun p => mx_l (mx_v mx_X0 p))))), (a2, .inl (ct 4, 300, .inr (.inl (fun p => mx_l (mx_f mx_X0 p)))))]) i_M t_M t_M_ok n_M cx hmn hw 0 rfl rfl 1 (by decide) tw_253 rfl rfl rfl (by decide +kernel) rfl rfl (Nat.le_of_ble_eq_true rfl) rfl d_M_init_19 (fun H locs hw => ?_)
  refine lv_aload_n hx hb d_M_init_22 rfl (lv_at hl 0 rfl) ?_
  refine lv_sipush (v := nI 200) hx hb d_M_init_23 (by decide) ?_
  refine gd_newa (N := 200) (t0 := 0) (a0 := (200, .inl (fun i => mx_b (mx_t mx_X0 i)))) cx hw tw_52 rfl rfl (fun _ h => h) (fun _ => rfl) (by decide) (by decide) (by decide) (by decide) d_M_init_26 (fun a3 H hw => ?_)
  have hw : gd_Ws D A s ([(a, .inr (4, [.ref a1, .ref a2, .int (nI 0), .null, .null, .null, .null, .null])), (a1, .inl (ct 4, 300, .inr (.inl (fun p => mx_l (mx_v mx_X0 p))))), (a2, .inl (ct 4, 300, .inr (.inl (fun p => mx_l (mx_f mx_X0 p))))), (a3, .inl (ct 0, 200, .inl (fun i => mx_b (mx_t mx_X0 i))))]) H _ := hw
  refine gd_putF (ty := .array .boolean) (wn := [(a, .inr (4, [.ref a1, .ref a2, .int (nI 0), .ref a3, .null, .null, .null, .null])), (a1, .inl (ct 4, 300, .inr (.inl (fun p => mx_l (mx_v mx_X0 p))))), (a2, .inl (ct 4, 300, .inr (.inl (fun p => mx_l (mx_f mx_X0 p))))), (a3, .inl (ct 0, 200, .inl (fun i => mx_b (mx_t mx_X0 i))))]) i_M t_M t_M_ok n_M cx hmn hw 0 rfl rfl 3 (by decide) tw_255 rfl rfl rfl (by decide +kernel) rfl rfl (Nat.le_of_ble_eq_true rfl) rfl d_M_init_28 (fun H locs hw => ?_)
  refine lv_aload_n hx hb d_M_init_31 rfl (lv_at hl 0 rfl) ?_
  refine lv_sipush (v := nI 200) hx hb d_M_init_32 (by decide) ?_
  refine gd_newa (N := 200) (t0 := 0) (a0 := (200, .inl (fun i => mx_b ((fun _ => false) i)))) cx hw tw_52 rfl rfl (fun _ h => h) (fun _ => rfl) (by decide) (by decide) (by decide) (by decide) d_M_init_35 (fun a4 H hw => ?_)
  have hw : gd_Ws D A s ([(a, .inr (4, [.ref a1, .ref a2, .int (nI 0), .ref a3, .null, .null, .null, .null])), (a1, .inl (ct 4, 300, .inr (.inl (fun p => mx_l (mx_v mx_X0 p))))), (a2, .inl (ct 4, 300, .inr (.inl (fun p => mx_l (mx_f mx_X0 p))))), (a3, .inl (ct 0, 200, .inl (fun i => mx_b (mx_t mx_X0 i)))), (a4, .inl (ct 0, 200, .inl (fun i => mx_b ((fun _ => false) i))))]) H _ := hw
  refine gd_putF (ty := .array .boolean) (wn := [(a, .inr (4, [.ref a1, .ref a2, .int (nI 0), .ref a3, .ref a4, .null, .null, .null])), (a1, .inl (ct 4, 300, .inr (.inl (fun p => mx_l (mx_v mx_X0 p))))), (a2, .inl (ct 4, 300, .inr (.inl (fun p => mx_l (mx_f mx_X0 p))))), (a3, .inl (ct 0, 200, .inl (fun i => mx_b (mx_t mx_X0 i)))), (a4, .inl (ct 0, 200, .inl (fun i => mx_b ((fun _ => false) i))))]) i_M t_M t_M_ok n_M cx hmn hw 0 rfl rfl 4 (by decide) tw_256 rfl rfl rfl (by decide +kernel) rfl rfl (Nat.le_of_ble_eq_true rfl) rfl d_M_init_37 (fun H locs hw => ?_)
  refine lv_aload_n hx hb d_M_init_40 rfl (lv_at hl 0 rfl) ?_
  refine lv_sipush (v := nI 200) hx hb d_M_init_41 (by decide) ?_
  refine gd_newa (N := 200) (t0 := 3) (a0 := (200, .inl (fun i => nI (mx_m mx_X0 i)))) cx hw tw_55 rfl rfl (fun _ h => h) (fun _ => rfl) (by decide) (by decide) (by decide) (by decide) d_M_init_44 (fun a5 H hw => ?_)
  have hw : gd_Ws D A s ([(a, .inr (4, [.ref a1, .ref a2, .int (nI 0), .ref a3, .ref a4, .null, .null, .null])), (a1, .inl (ct 4, 300, .inr (.inl (fun p => mx_l (mx_v mx_X0 p))))), (a2, .inl (ct 4, 300, .inr (.inl (fun p => mx_l (mx_f mx_X0 p))))), (a3, .inl (ct 0, 200, .inl (fun i => mx_b (mx_t mx_X0 i)))), (a4, .inl (ct 0, 200, .inl (fun i => mx_b ((fun _ => false) i)))), (a5, .inl (ct 3, 200, .inl (fun i => nI (mx_m mx_X0 i))))]) H _ := hw
  refine gd_putF (ty := .array .int) (wn := [(a, .inr (4, [.ref a1, .ref a2, .int (nI 0), .ref a3, .ref a4, .ref a5, .null, .null])), (a1, .inl (ct 4, 300, .inr (.inl (fun p => mx_l (mx_v mx_X0 p))))), (a2, .inl (ct 4, 300, .inr (.inl (fun p => mx_l (mx_f mx_X0 p))))), (a3, .inl (ct 0, 200, .inl (fun i => mx_b (mx_t mx_X0 i)))), (a4, .inl (ct 0, 200, .inl (fun i => mx_b ((fun _ => false) i)))), (a5, .inl (ct 3, 200, .inl (fun i => nI (mx_m mx_X0 i))))]) i_M t_M t_M_ok n_M cx hmn hw 0 rfl rfl 5 (by decide) tw_257 rfl rfl rfl (by decide +kernel) rfl rfl (Nat.le_of_ble_eq_true rfl) rfl d_M_init_46 (fun H locs hw => ?_)
  refine lv_aload_n hx hb d_M_init_49 rfl (lv_at hl 0 rfl) ?_
  refine lv_sipush (v := nI 3200) hx hb d_M_init_50 (by decide) ?_
  refine gd_newa (N := 3200) (t0 := 3) (a0 := (3200, .inl (fun i => nI (mx_p mx_X0 i)))) cx hw tw_55 rfl rfl (fun _ h => h) (fun _ => rfl) (by decide) (by decide) (by decide) (by decide) d_M_init_53 (fun a6 H hw => ?_)
  have hw : gd_Ws D A s ([(a, .inr (4, [.ref a1, .ref a2, .int (nI 0), .ref a3, .ref a4, .ref a5, .null, .null])), (a1, .inl (ct 4, 300, .inr (.inl (fun p => mx_l (mx_v mx_X0 p))))), (a2, .inl (ct 4, 300, .inr (.inl (fun p => mx_l (mx_f mx_X0 p))))), (a3, .inl (ct 0, 200, .inl (fun i => mx_b (mx_t mx_X0 i)))), (a4, .inl (ct 0, 200, .inl (fun i => mx_b ((fun _ => false) i)))), (a5, .inl (ct 3, 200, .inl (fun i => nI (mx_m mx_X0 i)))), (a6, .inl (ct 3, 3200, .inl (fun i => nI (mx_p mx_X0 i))))]) H _ := hw
  refine gd_putF (ty := .array .int) (wn := [(a, .inr (4, [.ref a1, .ref a2, .int (nI 0), .ref a3, .ref a4, .ref a5, .ref a6, .null])), (a1, .inl (ct 4, 300, .inr (.inl (fun p => mx_l (mx_v mx_X0 p))))), (a2, .inl (ct 4, 300, .inr (.inl (fun p => mx_l (mx_f mx_X0 p))))), (a3, .inl (ct 0, 200, .inl (fun i => mx_b (mx_t mx_X0 i)))), (a4, .inl (ct 0, 200, .inl (fun i => mx_b ((fun _ => false) i)))), (a5, .inl (ct 3, 200, .inl (fun i => nI (mx_m mx_X0 i)))), (a6, .inl (ct 3, 3200, .inl (fun i => nI (mx_p mx_X0 i))))]) i_M t_M t_M_ok n_M cx hmn hw 0 rfl rfl 6 (by decide) tw_258 rfl rfl rfl (by decide +kernel) rfl rfl (Nat.le_of_ble_eq_true rfl) rfl d_M_init_55 (fun H locs hw => ?_)
  refine lv_aload_n hx hb d_M_init_58 rfl (lv_at hl 0 rfl) ?_
  refine lv_sipush (v := nI 3200) hx hb d_M_init_59 (by decide) ?_
  refine gd_newa (N := 3200) (t0 := 4) (a0 := (3200, .inr (.inl (fun i => mx_l (mx_a mx_X0 i))))) cx hw tw_29 rfl rfl (fun _ h => h) (fun _ => rfl) (by decide) (by decide) (by decide) (by decide) d_M_init_62 (fun a7 H hw => ?_)
  have hw : gd_Ws D A s ([(a, .inr (4, [.ref a1, .ref a2, .int (nI 0), .ref a3, .ref a4, .ref a5, .ref a6, .null])), (a1, .inl (ct 4, 300, .inr (.inl (fun p => mx_l (mx_v mx_X0 p))))), (a2, .inl (ct 4, 300, .inr (.inl (fun p => mx_l (mx_f mx_X0 p))))), (a3, .inl (ct 0, 200, .inl (fun i => mx_b (mx_t mx_X0 i)))), (a4, .inl (ct 0, 200, .inl (fun i => mx_b ((fun _ => false) i)))), (a5, .inl (ct 3, 200, .inl (fun i => nI (mx_m mx_X0 i)))), (a6, .inl (ct 3, 3200, .inl (fun i => nI (mx_p mx_X0 i)))), (a7, .inl (ct 4, 3200, .inr (.inl (fun i => mx_l (mx_a mx_X0 i)))))]) H _ := hw
  refine gd_putF (ty := .array .long) (wn := [(a, .inr (4, [.ref a1, .ref a2, .int (nI 0), .ref a3, .ref a4, .ref a5, .ref a6, .ref a7])), (a1, .inl (ct 4, 300, .inr (.inl (fun p => mx_l (mx_v mx_X0 p))))), (a2, .inl (ct 4, 300, .inr (.inl (fun p => mx_l (mx_f mx_X0 p))))), (a3, .inl (ct 0, 200, .inl (fun i => mx_b (mx_t mx_X0 i)))), (a4, .inl (ct 0, 200, .inl (fun i => mx_b ((fun _ => false) i)))), (a5, .inl (ct 3, 200, .inl (fun i => nI (mx_m mx_X0 i)))), (a6, .inl (ct 3, 3200, .inl (fun i => nI (mx_p mx_X0 i)))), (a7, .inl (ct 4, 3200, .inr (.inl (fun i => mx_l (mx_a mx_X0 i)))))]) i_M t_M t_M_ok n_M cx hmn hw 0 rfl rfl 7 (by decide) tw_259 rfl rfl rfl (by decide +kernel) rfl rfl (Nat.le_of_ble_eq_true rfl) rfl d_M_init_64 (fun H locs hw => ?_)
  exact hret (fun k => match k with | 0 => a | 1 => a1 | 2 => a2 | 3 => a3 | 4 => a4 | 5 => a5 | 6 => a6 | _ => a7) _ _ _ _ _ _ (by decide) (by decide) d_M_init_67 rfl hw
end
section
/-! THE LAW: rows of its script, its numbers, what holds at the head of its loop -/
section GDS
variable {p : Program} {l : Launch} {e : Env} {R : Room} {s : State} {m : MethodId} {args : Array Value} {below : List Frame} {meth : Method} {c : Code} {H : Heap} {locs : List Loc} {cells slots : Nat} {Q : State → Prop}
variable {cc : ByteArray} {pc : Nat} {ls : Array Slot} {rest : List Value} {D : va_G} {A : Nat → Prop} {ws : va_W}
theorem gd_scr {b L k : Nat} {xs : Nat → Int32} (hx : p.tables.exec = Jvm.exec) (hb : c.code = cc) (hX : va_X b L xs s s.heap) (hbl : b < s.heap.size) (hbA : ¬ A b) (hw : gd_Ws D A s ws H locs) (hk : k < L) (hL : L ≤ 3072) (hdg : decode cc pc = .ok (.iaload, 1))
    (kk : W p l e R s m args below meth c H locs cells slots Q (F0 m (pc + 1) ls (.int (xs k) :: rest))) : W p l e R s m args below meth c H locs cells slots Q (F0 m pc ls (.int (nI k) :: .ref b :: rest)) := by
  refine va_sld hx hb hX hbl hbA hw.2.2.1 (vp_in_nI hk (by omega)) hdg ?_
  rw [nI_clamp (by omega)]; exact kk
theorem gd_lor {x y v : Int64} (hx : p.tables.exec = Jvm.exec) (hb : c.code = cc) (hv : x ||| y = v) (hdg : decode cc pc = .ok (.lor, 1)) (kk : W p l e R s m args below meth c H locs cells slots Q (F0 m (pc + 1) ls (.long v :: rest))) : W p l e R s m args below meth c H locs cells slots Q (F0 m pc ls (.long y :: .long x :: rest)) := by
  refine lv_lor hx hb hdg ?_
  rw [hv]; exact kk
end GDS
def mx_lg (a b : Int32) : Int := ((a.toInt64 <<< ((nI 32).toInt64 &&& 63)) ||| (b.toInt64 &&& mx_l 4294967295)).toInt
theorem mx_lg_eq (a b : Int32) : ((a.toInt64 <<< ((nI 32).toInt64 &&& 63)) ||| (b.toInt64 &&& mx_l 4294967295)) = mx_l (mx_lg a b) := (mx_l_of _).symm
theorem mx_lg_fit (a b : Int32) : mx_fit (mx_lg a b) := mx_l_fit _
def lw_I (X Y : GX) (inn : Nat → Bool) : Prop := mx_WF X ∧ mx_Rel X Y ∧ ∀ j, mx_n X ≤ j → inn j = false
def lw_Nx (p : Program) (l : Launch) (e : Env) (s : State) (m : MethodId) (below : List Frame) (meth : Method) (c : Code) (Q : State → Prop) (D : va_G) (ct : Nat → ClassId) (b : Nat) (q q2 : Nat → Nat) (i : Nat) : Prop :=
  ∀ (X Y : GX) (inn : Nat → Bool) (ah af la : Nat → Option Nat) (su : Nat → Int) (sr dr : Nat → Int32) (H : Heap) (locs : List Loc) (ls : Array Slot), lw_I X Y inn → gd_Ws D (fun x : Nat => s.heap.size ≤ x) s (wX q ct X inn ah af la su sr [] dr [] ++ wM q2 ct Y inn) H locs → lv_has ls 4 [(0, .ref b), (1, .ref (q 19)), (2, .ref (q2 0)), (3, .int (nI i))] → W p l e room_1 s m #[Value.ref b] below meth c H locs 28 23232 Q (F0 m 430 ls [])
theorem mx_vf {f : Nat → Bool} {k : Nat} (h : f k = false) : va_up f k false = f := by
  funext j
  by_cases e : j = k
  · subst e; rw [va_up_self, h]
  · exact va_up_ne _ _ e
theorem mx_Sol_out {X : GX} (hX : mx_WF X) {S : Nat → Bool} (h : mx_Sol X S) : ∀ j, mx_n X ≤ j → S j = false := fun j hj => by
  cases hs : S j with
  | false => rfl
  | true =>
    have h1 := h.1.1 j hs
    rw [(hX.out hj).1] at h1; cases h1
theorem cv_law_15 : gd_CV R_law 15 R_X y_X_place k_X_place 3 := gd_cv tw_110 tw_111 tw_112 tw_1 tw_113 (by decide +kernel)
theorem cv_law_19 : gd_CV R_law 19 R_M y_M_place k_M_place 3 := gd_cv tw_277 tw_278 tw_279 tw_5 tw_280 (by decide +kernel)
theorem cv_law_20 : gd_CV R_law 20 R_X y_X_item k_X_item 0 := gd_cv tw_121 tw_122 tw_123 tw_1 tw_124 (by decide +kernel)
theorem cv_law_24 : gd_CV R_law 24 R_M y_M_item k_M_item 0 := gd_cv tw_289 tw_290 tw_291 tw_5 tw_292 (by decide +kernel)
theorem cv_law_25 : gd_CV R_law 25 R_X y_X_net k_X_net 3 := gd_cv tw_133 tw_134 tw_135 tw_1 tw_136 (by decide +kernel)
theorem cv_law_29 : gd_CV R_law 29 R_M y_M_net k_M_net 3 := gd_cv tw_293 tw_294 tw_295 tw_5 tw_296 (by decide +kernel)
theorem cv_law_30 : gd_CV R_law 30 R_X y_X_go k_X_go 1 := gd_cv tw_159 tw_160 tw_161 tw_1 tw_162 (by decide +kernel)
theorem cv_law_34 : gd_CV R_law 34 R_M y_M_go k_M_go 1 := gd_cv tw_313 tw_314 tw_315 tw_5 tw_316 (by decide +kernel)
theorem cv_law_35 : gd_CV R_law 35 R_X y_X_solve k_X_solve 0 := gd_cv tw_163 tw_164 tw_165 tw_1 tw_166 (by decide +kernel)
theorem cv_law_38 : gd_CV R_law 38 R_M y_M_solve k_M_solve 0 := gd_cv tw_317 tw_318 tw_319 tw_5 tw_320 (by decide +kernel)
theorem cv_law_39 : gd_CV R_law 39 R_X y_X_in k_X_in 1 := gd_cv tw_226 tw_227 tw_228 tw_1 tw_229 (by decide +kernel)
theorem cv_law_42 : gd_CV R_law 42 R_M y_M_in k_M_in 1 := gd_cv tw_341 tw_342 tw_343 tw_5 tw_344 (by decide +kernel)
theorem cv_law_43 : gd_CV R_law 43 R_X y_X_perform k_X_perform 0 := gd_cv tw_230 tw_231 tw_232 tw_1 tw_233 (by decide +kernel)
theorem cv_law_46 : gd_CV R_law 46 R_M y_M_perform k_M_perform 0 := gd_cv tw_345 tw_346 tw_347 tw_5 tw_348 (by decide +kernel)
theorem cv_law_47 : gd_CV R_law 47 R_X y_X_value k_X_value 1 := gd_cv tw_234 tw_235 tw_236 tw_1 tw_237 (by decide +kernel)
theorem cv_law_51 : gd_CV R_law 51 R_M y_M_value k_M_value 1 := gd_cv tw_350 tw_351 tw_352 tw_5 tw_353 (by decide +kernel)
theorem cv_law_52 : gd_CV R_law 52 R_X y_X_netOf k_X_netOf 2 := gd_cv tw_238 tw_239 tw_240 tw_1 tw_241 (by decide +kernel)
theorem cv_law_56 : gd_CV R_law 56 R_M y_M_netOf k_M_netOf 2 := gd_cv tw_354 tw_355 tw_356 tw_5 tw_357 (by decide +kernel)
theorem cv_law_57 : gd_CV R_law 57 R_X y_X_count k_X_count 1 := gd_cv tw_242 tw_243 tw_244 tw_1 tw_245 (by decide +kernel)
theorem cv_law_61 : gd_CV R_law 61 R_M y_M_count k_M_count 1 := gd_cv tw_358 tw_338 tw_339 tw_5 tw_340 (by decide +kernel)
end
section
theorem d_law_law_0 : decode code 0 = .ok (.new 7, 3) := by decide +kernel
theorem d_law_law_3 : decode code 3 = .ok (.dup, 1) := by decide +kernel
theorem d_law_law_4 : decode code 4 = .ok (.invokespecial 9, 3) := by decide +kernel
theorem d_law_law_7 : decode code 7 = .ok (.astore_n 1, 1) := by decide +kernel
theorem d_law_law_8 : decode code 8 = .ok (.new 10, 3) := by decide +kernel
theorem d_law_law_11 : decode code 11 = .ok (.dup, 1) := by decide +kernel
theorem d_law_law_12 : decode code 12 = .ok (.invokespecial 12, 3) := by decide +kernel
theorem d_law_law_15 : decode code 15 = .ok (.astore_n 2, 1) := by decide +kernel
theorem d_law_law_16 : decode code 16 = .ok (.iconst 0, 1) := by decide +kernel
theorem d_law_law_17 : decode code 17 = .ok (.istore_n 3, 1) := by decide +kernel
theorem d_law_law_18 : decode code 18 = .ok (.iload_n 3, 1) := by decide +kernel
theorem d_law_law_19 : decode code 19 = .ok (.aload_n 0, 1) := by decide +kernel
theorem d_law_law_20 : decode code 20 = .ok (.arraylength, 1) := by decide +kernel
theorem d_law_law_21 : decode code 21 = .ok (.bipush 6, 2) := by decide +kernel
theorem d_law_law_23 : decode code 23 = .ok (.isub, 1) := by decide +kernel
theorem d_law_law_24 : decode code 24 = .ok (.if_icmp .gt 412, 3) := by decide +kernel
theorem d_law_law_27 : decode code 27 = .ok (.aload_n 0, 1) := by decide +kernel
theorem d_law_law_28 : decode code 28 = .ok (.iload_n 3, 1) := by decide +kernel
theorem d_law_law_29 : decode code 29 = .ok (.iaload, 1) := by decide +kernel
theorem d_law_law_30 : decode code 30 = .ok (.bipush 15, 2) := by decide +kernel
theorem d_law_law_32 : decode code 32 = .ok (.iand, 1) := by decide +kernel
theorem d_law_law_33 : decode code 33 = .ok (.tableswitch 397 0 9 #[55, 158, 171, 244, 267, 280, 303, 316, 340, 374], 55) := by decide +kernel
theorem d_law_law_88 : decode code 88 = .ok (.aload_n 1, 1) := by decide +kernel
theorem d_law_law_89 : decode code 89 = .ok (.aload_n 0, 1) := by decide +kernel
theorem d_law_law_90 : decode code 90 = .ok (.iload_n 3, 1) := by decide +kernel
theorem d_law_law_91 : decode code 91 = .ok (.iconst 1, 1) := by decide +kernel
theorem d_law_law_92 : decode code 92 = .ok (.iadd, 1) := by decide +kernel
theorem d_law_law_93 : decode code 93 = .ok (.iaload, 1) := by decide +kernel
theorem d_law_law_94 : decode code 94 = .ok (.aload_n 0, 1) := by decide +kernel
theorem d_law_law_95 : decode code 95 = .ok (.iload_n 3, 1) := by decide +kernel
theorem d_law_law_96 : decode code 96 = .ok (.iconst 2, 1) := by decide +kernel
theorem d_law_law_97 : decode code 97 = .ok (.iadd, 1) := by decide +kernel
theorem d_law_law_98 : decode code 98 = .ok (.iaload, 1) := by decide +kernel
theorem d_law_law_99 : decode code 99 = .ok (.i2l, 1) := by decide +kernel
theorem d_law_law_100 : decode code 100 = .ok (.bipush 32, 2) := by decide +kernel
theorem d_law_law_102 : decode code 102 = .ok (.lshl, 1) := by decide +kernel
theorem d_law_law_103 : decode code 103 = .ok (.aload_n 0, 1) := by decide +kernel
theorem d_law_law_104 : decode code 104 = .ok (.iload_n 3, 1) := by decide +kernel
theorem d_law_law_105 : decode code 105 = .ok (.iconst 3, 1) := by decide +kernel
theorem d_law_law_106 : decode code 106 = .ok (.iadd, 1) := by decide +kernel
theorem d_law_law_107 : decode code 107 = .ok (.iaload, 1) := by decide +kernel
theorem d_law_law_108 : decode code 108 = .ok (.i2l, 1) := by decide +kernel
theorem d_law_law_109 : decode code 109 = .ok (.ldc2_w 13, 3) := by decide +kernel
theorem d_law_law_112 : decode code 112 = .ok (.land, 1) := by decide +kernel
theorem d_law_law_113 : decode code 113 = .ok (.lor, 1) := by decide +kernel
theorem d_law_law_114 : decode code 114 = .ok (.aload_n 0, 1) := by decide +kernel
theorem d_law_law_115 : decode code 115 = .ok (.iload_n 3, 1) := by decide +kernel
theorem d_law_law_116 : decode code 116 = .ok (.iconst 4, 1) := by decide +kernel
theorem d_law_law_117 : decode code 117 = .ok (.iadd, 1) := by decide +kernel
theorem d_law_law_118 : decode code 118 = .ok (.iaload, 1) := by decide +kernel
theorem d_law_law_119 : decode code 119 = .ok (.i2l, 1) := by decide +kernel
theorem d_law_law_120 : decode code 120 = .ok (.bipush 32, 2) := by decide +kernel
theorem d_law_law_122 : decode code 122 = .ok (.lshl, 1) := by decide +kernel
theorem d_law_law_123 : decode code 123 = .ok (.aload_n 0, 1) := by decide +kernel
theorem d_law_law_124 : decode code 124 = .ok (.iload_n 3, 1) := by decide +kernel
theorem d_law_law_125 : decode code 125 = .ok (.iconst 5, 1) := by decide +kernel
theorem d_law_law_126 : decode code 126 = .ok (.iadd, 1) := by decide +kernel
theorem d_law_law_127 : decode code 127 = .ok (.iaload, 1) := by decide +kernel
theorem d_law_law_128 : decode code 128 = .ok (.i2l, 1) := by decide +kernel
theorem d_law_law_129 : decode code 129 = .ok (.ldc2_w 13, 3) := by decide +kernel
theorem d_law_law_132 : decode code 132 = .ok (.land, 1) := by decide +kernel
theorem d_law_law_133 : decode code 133 = .ok (.lor, 1) := by decide +kernel
theorem d_law_law_134 : decode code 134 = .ok (.invokevirtual 15, 3) := by decide +kernel
theorem d_law_law_137 : decode code 137 = .ok (.aload_n 2, 1) := by decide +kernel
theorem d_law_law_138 : decode code 138 = .ok (.aload_n 0, 1) := by decide +kernel
theorem d_law_law_139 : decode code 139 = .ok (.iload_n 3, 1) := by decide +kernel
theorem d_law_law_140 : decode code 140 = .ok (.iconst 1, 1) := by decide +kernel
theorem d_law_law_141 : decode code 141 = .ok (.iadd, 1) := by decide +kernel
theorem d_law_law_142 : decode code 142 = .ok (.iaload, 1) := by decide +kernel
theorem d_law_law_143 : decode code 143 = .ok (.aload_n 0, 1) := by decide +kernel
theorem d_law_law_144 : decode code 144 = .ok (.iload_n 3, 1) := by decide +kernel
theorem d_law_law_145 : decode code 145 = .ok (.iconst 2, 1) := by decide +kernel
theorem d_law_law_146 : decode code 146 = .ok (.iadd, 1) := by decide +kernel
theorem d_law_law_147 : decode code 147 = .ok (.iaload, 1) := by decide +kernel
theorem d_law_law_148 : decode code 148 = .ok (.i2l, 1) := by decide +kernel
end
section
theorem d_law_law_149 : decode code 149 = .ok (.bipush 32, 2) := by decide +kernel
theorem d_law_law_151 : decode code 151 = .ok (.lshl, 1) := by decide +kernel
theorem d_law_law_152 : decode code 152 = .ok (.aload_n 0, 1) := by decide +kernel
theorem d_law_law_153 : decode code 153 = .ok (.iload_n 3, 1) := by decide +kernel
theorem d_law_law_154 : decode code 154 = .ok (.iconst 3, 1) := by decide +kernel
theorem d_law_law_155 : decode code 155 = .ok (.iadd, 1) := by decide +kernel
theorem d_law_law_156 : decode code 156 = .ok (.iaload, 1) := by decide +kernel
theorem d_law_law_157 : decode code 157 = .ok (.i2l, 1) := by decide +kernel
theorem d_law_law_158 : decode code 158 = .ok (.ldc2_w 13, 3) := by decide +kernel
theorem d_law_law_161 : decode code 161 = .ok (.land, 1) := by decide +kernel
theorem d_law_law_162 : decode code 162 = .ok (.lor, 1) := by decide +kernel
theorem d_law_law_163 : decode code 163 = .ok (.aload_n 0, 1) := by decide +kernel
theorem d_law_law_164 : decode code 164 = .ok (.iload_n 3, 1) := by decide +kernel
theorem d_law_law_165 : decode code 165 = .ok (.iconst 4, 1) := by decide +kernel
theorem d_law_law_166 : decode code 166 = .ok (.iadd, 1) := by decide +kernel
theorem d_law_law_167 : decode code 167 = .ok (.iaload, 1) := by decide +kernel
theorem d_law_law_168 : decode code 168 = .ok (.i2l, 1) := by decide +kernel
theorem d_law_law_169 : decode code 169 = .ok (.bipush 32, 2) := by decide +kernel
theorem d_law_law_171 : decode code 171 = .ok (.lshl, 1) := by decide +kernel
theorem d_law_law_172 : decode code 172 = .ok (.aload_n 0, 1) := by decide +kernel
theorem d_law_law_173 : decode code 173 = .ok (.iload_n 3, 1) := by decide +kernel
theorem d_law_law_174 : decode code 174 = .ok (.iconst 5, 1) := by decide +kernel
theorem d_law_law_175 : decode code 175 = .ok (.iadd, 1) := by decide +kernel
theorem d_law_law_176 : decode code 176 = .ok (.iaload, 1) := by decide +kernel
theorem d_law_law_177 : decode code 177 = .ok (.i2l, 1) := by decide +kernel
theorem d_law_law_178 : decode code 178 = .ok (.ldc2_w 13, 3) := by decide +kernel
theorem d_law_law_181 : decode code 181 = .ok (.land, 1) := by decide +kernel
theorem d_law_law_182 : decode code 182 = .ok (.lor, 1) := by decide +kernel
theorem d_law_law_183 : decode code 183 = .ok (.invokevirtual 19, 3) := by decide +kernel
theorem d_law_law_186 : decode code 186 = .ok (.if_icmp .eq 244, 3) := by decide +kernel
theorem d_law_law_189 : decode code 189 = .ok (.iconst 0, 1) := by decide +kernel
theorem d_law_law_190 : decode code 190 = .ok (.ireturn, 1) := by decide +kernel
theorem d_law_law_191 : decode code 191 = .ok (.aload_n 1, 1) := by decide +kernel
theorem d_law_law_192 : decode code 192 = .ok (.invokevirtual 20, 3) := by decide +kernel
theorem d_law_law_195 : decode code 195 = .ok (.aload_n 2, 1) := by decide +kernel
theorem d_law_law_196 : decode code 196 = .ok (.invokevirtual 24, 3) := by decide +kernel
theorem d_law_law_199 : decode code 199 = .ok (.if_icmp .eq 231, 3) := by decide +kernel
theorem d_law_law_202 : decode code 202 = .ok (.iconst 0, 1) := by decide +kernel
theorem d_law_law_203 : decode code 203 = .ok (.ireturn, 1) := by decide +kernel
theorem d_law_law_204 : decode code 204 = .ok (.aload_n 1, 1) := by decide +kernel
theorem d_law_law_205 : decode code 205 = .ok (.aload_n 0, 1) := by decide +kernel
theorem d_law_law_206 : decode code 206 = .ok (.iload_n 3, 1) := by decide +kernel
theorem d_law_law_207 : decode code 207 = .ok (.iconst 1, 1) := by decide +kernel
theorem d_law_law_208 : decode code 208 = .ok (.iadd, 1) := by decide +kernel
theorem d_law_law_209 : decode code 209 = .ok (.iaload, 1) := by decide +kernel
theorem d_law_law_210 : decode code 210 = .ok (.aload_n 0, 1) := by decide +kernel
theorem d_law_law_211 : decode code 211 = .ok (.iload_n 3, 1) := by decide +kernel
theorem d_law_law_212 : decode code 212 = .ok (.iconst 2, 1) := by decide +kernel
theorem d_law_law_213 : decode code 213 = .ok (.iadd, 1) := by decide +kernel
theorem d_law_law_214 : decode code 214 = .ok (.iaload, 1) := by decide +kernel
theorem d_law_law_215 : decode code 215 = .ok (.aload_n 0, 1) := by decide +kernel
theorem d_law_law_216 : decode code 216 = .ok (.iload_n 3, 1) := by decide +kernel
theorem d_law_law_217 : decode code 217 = .ok (.iconst 3, 1) := by decide +kernel
theorem d_law_law_218 : decode code 218 = .ok (.iadd, 1) := by decide +kernel
theorem d_law_law_219 : decode code 219 = .ok (.iaload, 1) := by decide +kernel
theorem d_law_law_220 : decode code 220 = .ok (.i2l, 1) := by decide +kernel
theorem d_law_law_221 : decode code 221 = .ok (.bipush 32, 2) := by decide +kernel
theorem d_law_law_223 : decode code 223 = .ok (.lshl, 1) := by decide +kernel
theorem d_law_law_224 : decode code 224 = .ok (.aload_n 0, 1) := by decide +kernel
theorem d_law_law_225 : decode code 225 = .ok (.iload_n 3, 1) := by decide +kernel
theorem d_law_law_226 : decode code 226 = .ok (.iconst 4, 1) := by decide +kernel
theorem d_law_law_227 : decode code 227 = .ok (.iadd, 1) := by decide +kernel
theorem d_law_law_228 : decode code 228 = .ok (.iaload, 1) := by decide +kernel
theorem d_law_law_229 : decode code 229 = .ok (.i2l, 1) := by decide +kernel
theorem d_law_law_230 : decode code 230 = .ok (.ldc2_w 13, 3) := by decide +kernel
theorem d_law_law_233 : decode code 233 = .ok (.land, 1) := by decide +kernel
theorem d_law_law_234 : decode code 234 = .ok (.lor, 1) := by decide +kernel
theorem d_law_law_235 : decode code 235 = .ok (.invokevirtual 25, 3) := by decide +kernel
theorem d_law_law_238 : decode code 238 = .ok (.aload_n 2, 1) := by decide +kernel
theorem d_law_law_239 : decode code 239 = .ok (.aload_n 0, 1) := by decide +kernel
theorem d_law_law_240 : decode code 240 = .ok (.iload_n 3, 1) := by decide +kernel
theorem d_law_law_241 : decode code 241 = .ok (.iconst 1, 1) := by decide +kernel
theorem d_law_law_242 : decode code 242 = .ok (.iadd, 1) := by decide +kernel
theorem d_law_law_243 : decode code 243 = .ok (.iaload, 1) := by decide +kernel
theorem d_law_law_244 : decode code 244 = .ok (.aload_n 0, 1) := by decide +kernel
end
section
theorem d_law_law_245 : decode code 245 = .ok (.iload_n 3, 1) := by decide +kernel
theorem d_law_law_246 : decode code 246 = .ok (.iconst 2, 1) := by decide +kernel
theorem d_law_law_247 : decode code 247 = .ok (.iadd, 1) := by decide +kernel
theorem d_law_law_248 : decode code 248 = .ok (.iaload, 1) := by decide +kernel
theorem d_law_law_249 : decode code 249 = .ok (.aload_n 0, 1) := by decide +kernel
theorem d_law_law_250 : decode code 250 = .ok (.iload_n 3, 1) := by decide +kernel
theorem d_law_law_251 : decode code 251 = .ok (.iconst 3, 1) := by decide +kernel
theorem d_law_law_252 : decode code 252 = .ok (.iadd, 1) := by decide +kernel
theorem d_law_law_253 : decode code 253 = .ok (.iaload, 1) := by decide +kernel
theorem d_law_law_254 : decode code 254 = .ok (.i2l, 1) := by decide +kernel
theorem d_law_law_255 : decode code 255 = .ok (.bipush 32, 2) := by decide +kernel
theorem d_law_law_257 : decode code 257 = .ok (.lshl, 1) := by decide +kernel
theorem d_law_law_258 : decode code 258 = .ok (.aload_n 0, 1) := by decide +kernel
theorem d_law_law_259 : decode code 259 = .ok (.iload_n 3, 1) := by decide +kernel
theorem d_law_law_260 : decode code 260 = .ok (.iconst 4, 1) := by decide +kernel
theorem d_law_law_261 : decode code 261 = .ok (.iadd, 1) := by decide +kernel
theorem d_law_law_262 : decode code 262 = .ok (.iaload, 1) := by decide +kernel
theorem d_law_law_263 : decode code 263 = .ok (.i2l, 1) := by decide +kernel
theorem d_law_law_264 : decode code 264 = .ok (.ldc2_w 13, 3) := by decide +kernel
theorem d_law_law_267 : decode code 267 = .ok (.land, 1) := by decide +kernel
theorem d_law_law_268 : decode code 268 = .ok (.lor, 1) := by decide +kernel
theorem d_law_law_269 : decode code 269 = .ok (.invokevirtual 29, 3) := by decide +kernel
theorem d_law_law_272 : decode code 272 = .ok (.if_icmp .eq 158, 3) := by decide +kernel
theorem d_law_law_275 : decode code 275 = .ok (.iconst 0, 1) := by decide +kernel
theorem d_law_law_276 : decode code 276 = .ok (.ireturn, 1) := by decide +kernel
theorem d_law_law_277 : decode code 277 = .ok (.aload_n 1, 1) := by decide +kernel
theorem d_law_law_278 : decode code 278 = .ok (.aload_n 0, 1) := by decide +kernel
theorem d_law_law_279 : decode code 279 = .ok (.iload_n 3, 1) := by decide +kernel
theorem d_law_law_280 : decode code 280 = .ok (.iconst 1, 1) := by decide +kernel
theorem d_law_law_281 : decode code 281 = .ok (.iadd, 1) := by decide +kernel
theorem d_law_law_282 : decode code 282 = .ok (.iaload, 1) := by decide +kernel
theorem d_law_law_283 : decode code 283 = .ok (.invokevirtual 30, 3) := by decide +kernel
theorem d_law_law_286 : decode code 286 = .ok (.aload_n 2, 1) := by decide +kernel
theorem d_law_law_287 : decode code 287 = .ok (.aload_n 0, 1) := by decide +kernel
theorem d_law_law_288 : decode code 288 = .ok (.iload_n 3, 1) := by decide +kernel
theorem d_law_law_289 : decode code 289 = .ok (.iconst 1, 1) := by decide +kernel
theorem d_law_law_290 : decode code 290 = .ok (.iadd, 1) := by decide +kernel
theorem d_law_law_291 : decode code 291 = .ok (.iaload, 1) := by decide +kernel
theorem d_law_law_292 : decode code 292 = .ok (.invokevirtual 34, 3) := by decide +kernel
theorem d_law_law_295 : decode code 295 = .ok (.if_icmp .eq 135, 3) := by decide +kernel
theorem d_law_law_298 : decode code 298 = .ok (.iconst 0, 1) := by decide +kernel
theorem d_law_law_299 : decode code 299 = .ok (.ireturn, 1) := by decide +kernel
theorem d_law_law_300 : decode code 300 = .ok (.aload_n 1, 1) := by decide +kernel
theorem d_law_law_301 : decode code 301 = .ok (.invokevirtual 35, 3) := by decide +kernel
theorem d_law_law_304 : decode code 304 = .ok (.aload_n 2, 1) := by decide +kernel
theorem d_law_law_305 : decode code 305 = .ok (.invokevirtual 38, 3) := by decide +kernel
theorem d_law_law_308 : decode code 308 = .ok (.if_icmp .eq 122, 3) := by decide +kernel
theorem d_law_law_311 : decode code 311 = .ok (.iconst 0, 1) := by decide +kernel
theorem d_law_law_312 : decode code 312 = .ok (.ireturn, 1) := by decide +kernel
theorem d_law_law_313 : decode code 313 = .ok (.aload_n 1, 1) := by decide +kernel
theorem d_law_law_314 : decode code 314 = .ok (.aload_n 0, 1) := by decide +kernel
theorem d_law_law_315 : decode code 315 = .ok (.iload_n 3, 1) := by decide +kernel
theorem d_law_law_316 : decode code 316 = .ok (.iconst 1, 1) := by decide +kernel
theorem d_law_law_317 : decode code 317 = .ok (.iadd, 1) := by decide +kernel
theorem d_law_law_318 : decode code 318 = .ok (.iaload, 1) := by decide +kernel
theorem d_law_law_319 : decode code 319 = .ok (.invokevirtual 39, 3) := by decide +kernel
theorem d_law_law_322 : decode code 322 = .ok (.aload_n 2, 1) := by decide +kernel
theorem d_law_law_323 : decode code 323 = .ok (.aload_n 0, 1) := by decide +kernel
theorem d_law_law_324 : decode code 324 = .ok (.iload_n 3, 1) := by decide +kernel
theorem d_law_law_325 : decode code 325 = .ok (.iconst 1, 1) := by decide +kernel
theorem d_law_law_326 : decode code 326 = .ok (.iadd, 1) := by decide +kernel
theorem d_law_law_327 : decode code 327 = .ok (.iaload, 1) := by decide +kernel
theorem d_law_law_328 : decode code 328 = .ok (.invokevirtual 42, 3) := by decide +kernel
theorem d_law_law_331 : decode code 331 = .ok (.if_icmp .eq 99, 3) := by decide +kernel
theorem d_law_law_334 : decode code 334 = .ok (.iconst 0, 1) := by decide +kernel
theorem d_law_law_335 : decode code 335 = .ok (.ireturn, 1) := by decide +kernel
theorem d_law_law_336 : decode code 336 = .ok (.aload_n 1, 1) := by decide +kernel
theorem d_law_law_337 : decode code 337 = .ok (.invokevirtual 43, 3) := by decide +kernel
theorem d_law_law_340 : decode code 340 = .ok (.aload_n 2, 1) := by decide +kernel
theorem d_law_law_341 : decode code 341 = .ok (.invokevirtual 46, 3) := by decide +kernel
theorem d_law_law_344 : decode code 344 = .ok (.if_icmp .eq 86, 3) := by decide +kernel
theorem d_law_law_347 : decode code 347 = .ok (.iconst 0, 1) := by decide +kernel
theorem d_law_law_348 : decode code 348 = .ok (.ireturn, 1) := by decide +kernel
theorem d_law_law_349 : decode code 349 = .ok (.aload_n 1, 1) := by decide +kernel
theorem d_law_law_350 : decode code 350 = .ok (.aload_n 0, 1) := by decide +kernel
end
section
theorem d_law_law_351 : decode code 351 = .ok (.iload_n 3, 1) := by decide +kernel
theorem d_law_law_352 : decode code 352 = .ok (.iconst 1, 1) := by decide +kernel
theorem d_law_law_353 : decode code 353 = .ok (.iadd, 1) := by decide +kernel
theorem d_law_law_354 : decode code 354 = .ok (.iaload, 1) := by decide +kernel
theorem d_law_law_355 : decode code 355 = .ok (.invokevirtual 47, 3) := by decide +kernel
theorem d_law_law_358 : decode code 358 = .ok (.aload_n 2, 1) := by decide +kernel
theorem d_law_law_359 : decode code 359 = .ok (.aload_n 0, 1) := by decide +kernel
theorem d_law_law_360 : decode code 360 = .ok (.iload_n 3, 1) := by decide +kernel
theorem d_law_law_361 : decode code 361 = .ok (.iconst 1, 1) := by decide +kernel
theorem d_law_law_362 : decode code 362 = .ok (.iadd, 1) := by decide +kernel
theorem d_law_law_363 : decode code 363 = .ok (.iaload, 1) := by decide +kernel
theorem d_law_law_364 : decode code 364 = .ok (.invokevirtual 51, 3) := by decide +kernel
theorem d_law_law_367 : decode code 367 = .ok (.lcmp, 1) := by decide +kernel
theorem d_law_law_368 : decode code 368 = .ok (.ifCond .eq 62, 3) := by decide +kernel
theorem d_law_law_371 : decode code 371 = .ok (.iconst 0, 1) := by decide +kernel
theorem d_law_law_372 : decode code 372 = .ok (.ireturn, 1) := by decide +kernel
theorem d_law_law_373 : decode code 373 = .ok (.aload_n 1, 1) := by decide +kernel
theorem d_law_law_374 : decode code 374 = .ok (.aload_n 0, 1) := by decide +kernel
theorem d_law_law_375 : decode code 375 = .ok (.iload_n 3, 1) := by decide +kernel
theorem d_law_law_376 : decode code 376 = .ok (.iconst 1, 1) := by decide +kernel
theorem d_law_law_377 : decode code 377 = .ok (.iadd, 1) := by decide +kernel
theorem d_law_law_378 : decode code 378 = .ok (.iaload, 1) := by decide +kernel
theorem d_law_law_379 : decode code 379 = .ok (.aload_n 0, 1) := by decide +kernel
theorem d_law_law_380 : decode code 380 = .ok (.iload_n 3, 1) := by decide +kernel
theorem d_law_law_381 : decode code 381 = .ok (.iconst 2, 1) := by decide +kernel
theorem d_law_law_382 : decode code 382 = .ok (.iadd, 1) := by decide +kernel
theorem d_law_law_383 : decode code 383 = .ok (.iaload, 1) := by decide +kernel
theorem d_law_law_384 : decode code 384 = .ok (.invokevirtual 52, 3) := by decide +kernel
theorem d_law_law_387 : decode code 387 = .ok (.aload_n 2, 1) := by decide +kernel
theorem d_law_law_388 : decode code 388 = .ok (.aload_n 0, 1) := by decide +kernel
theorem d_law_law_389 : decode code 389 = .ok (.iload_n 3, 1) := by decide +kernel
theorem d_law_law_390 : decode code 390 = .ok (.iconst 1, 1) := by decide +kernel
theorem d_law_law_391 : decode code 391 = .ok (.iadd, 1) := by decide +kernel
theorem d_law_law_392 : decode code 392 = .ok (.iaload, 1) := by decide +kernel
theorem d_law_law_393 : decode code 393 = .ok (.aload_n 0, 1) := by decide +kernel
theorem d_law_law_394 : decode code 394 = .ok (.iload_n 3, 1) := by decide +kernel
theorem d_law_law_395 : decode code 395 = .ok (.iconst 2, 1) := by decide +kernel
theorem d_law_law_396 : decode code 396 = .ok (.iadd, 1) := by decide +kernel
theorem d_law_law_397 : decode code 397 = .ok (.iaload, 1) := by decide +kernel
theorem d_law_law_398 : decode code 398 = .ok (.invokevirtual 56, 3) := by decide +kernel
theorem d_law_law_401 : decode code 401 = .ok (.lcmp, 1) := by decide +kernel
theorem d_law_law_402 : decode code 402 = .ok (.ifCond .eq 28, 3) := by decide +kernel
theorem d_law_law_405 : decode code 405 = .ok (.iconst 0, 1) := by decide +kernel
theorem d_law_law_406 : decode code 406 = .ok (.ireturn, 1) := by decide +kernel
theorem d_law_law_407 : decode code 407 = .ok (.aload_n 1, 1) := by decide +kernel
theorem d_law_law_408 : decode code 408 = .ok (.aload_n 0, 1) := by decide +kernel
theorem d_law_law_409 : decode code 409 = .ok (.iload_n 3, 1) := by decide +kernel
theorem d_law_law_410 : decode code 410 = .ok (.iconst 1, 1) := by decide +kernel
theorem d_law_law_411 : decode code 411 = .ok (.iadd, 1) := by decide +kernel
theorem d_law_law_412 : decode code 412 = .ok (.iaload, 1) := by decide +kernel
theorem d_law_law_413 : decode code 413 = .ok (.invokevirtual 57, 3) := by decide +kernel
theorem d_law_law_416 : decode code 416 = .ok (.aload_n 2, 1) := by decide +kernel
theorem d_law_law_417 : decode code 417 = .ok (.aload_n 0, 1) := by decide +kernel
theorem d_law_law_418 : decode code 418 = .ok (.iload_n 3, 1) := by decide +kernel
theorem d_law_law_419 : decode code 419 = .ok (.iconst 1, 1) := by decide +kernel
theorem d_law_law_420 : decode code 420 = .ok (.iadd, 1) := by decide +kernel
theorem d_law_law_421 : decode code 421 = .ok (.iaload, 1) := by decide +kernel
theorem d_law_law_422 : decode code 422 = .ok (.invokevirtual 61, 3) := by decide +kernel
theorem d_law_law_425 : decode code 425 = .ok (.if_icmp .eq 5, 3) := by decide +kernel
theorem d_law_law_428 : decode code 428 = .ok (.iconst 0, 1) := by decide +kernel
theorem d_law_law_429 : decode code 429 = .ok (.ireturn, 1) := by decide +kernel
theorem d_law_law_430 : decode code 430 = .ok (.iinc 3 6, 3) := by decide +kernel
theorem d_law_law_433 : decode code 433 = .ok (.goto (-415), 3) := by decide +kernel
theorem d_law_law_436 : decode code 436 = .ok (.iconst 1, 1) := by decide +kernel
theorem d_law_law_437 : decode code 437 = .ok (.ireturn, 1) := by decide +kernel
end
section
set_option maxHeartbeats 4000000 in
set_option maxRecDepth 100000 in
/-- place -/
theorem lw_case0 {p : Program} {l : Launch} {e : Env} {s : State} {m : MethodId} {below : List Frame} {meth : Method} {c : Code} {Q : State → Prop} {D : va_G} {ct : Nat → ClassId} {b L : Nat} {xs : Nat → Int32} {q q2 : Nat → Nat} {X Y : GX} {inn : Nat → Bool} {ah af la : Nat → Option Nat} {su : Nat → Int} {sr dr : Nat → Int32} {H : Heap} {locs : List Loc} {ls : Array Slot} {i : Nat} (cx : gd_Cx p s m #[Value.ref b] c R_law code 4 D ct) (hX : va_X b L xs s s.heap) (hbl : b < s.heap.size) (hL : L ≤ 3072) (hi : i + 6 ≤ L) (hI : lw_I X Y inn) (hw : gd_Ws D (fun x : Nat => s.heap.size ≤ x) s (wX q ct X inn ah af la su sr [] dr [] ++ wM q2 ct Y inn) H locs) (hl : lv_has ls 4 [(0, .ref b), (1, .ref (q 19)), (2, .ref (q2 0)), (3, .int (nI i))]) (hN : lw_Nx p l e s m below meth c Q D ct b q q2 i) : W p l e room_1 s m #[Value.ref b] below meth c H locs 28 23232 Q (F0 m 88 ls []) := by
  have hx := cx.1
  have hb := cx.2.1
  have hbA : ¬ (fun x : Nat => s.heap.size ≤ x) b := Nat.not_le.mpr hbl
  obtain ⟨hWF, hR, hinn⟩ := hI
  have hWY := hR.wf hWF
  refine lv_aload_n hx hb d_law_law_88 rfl (lv_at hl 1 rfl) ?_
  refine lv_aload_n hx hb d_law_law_89 rfl (lv_at hl 0 rfl) ?_
  refine lv_iload_n hx hb d_law_law_90 rfl (lv_at hl 3 rfl) ?_
  refine lv_iconst (v := nI 1) hx hb d_law_law_91 (by decide) ?_
  refine gd_iadd hx hb d_law_law_92 ?_
  refine gd_scr hx hb hX hbl hbA hw (by omega) hL d_law_law_93 ?_
  refine lv_aload_n hx hb d_law_law_94 rfl (lv_at hl 0 rfl) ?_
  refine lv_iload_n hx hb d_law_law_95 rfl (lv_at hl 3 rfl) ?_
  refine lv_iconst (v := nI 2) hx hb d_law_law_96 (by decide) ?_
  refine gd_iadd hx hb d_law_law_97 ?_
  refine gd_scr hx hb hX hbl hbA hw (by omega) hL d_law_law_98 ?_
  refine lv_i2l (v := (((xs (i + 2))).toInt64)) hx hb d_law_law_99 rfl ?_
  refine lv_bipush (v := nI 32) hx hb d_law_law_100 (by decide) ?_
  refine lv_lshl (v := ((xs (i + 2))).toInt64 <<< ((nI 32).toInt64 &&& 63)) hx hb d_law_law_102 rfl ?_
  refine lv_aload_n hx hb d_law_law_103 rfl (lv_at hl 0 rfl) ?_
  refine lv_iload_n hx hb d_law_law_104 rfl (lv_at hl 3 rfl) ?_
  refine lv_iconst (v := nI 3) hx hb d_law_law_105 (by decide) ?_
  refine gd_iadd hx hb d_law_law_106 ?_
  refine gd_scr hx hb hX hbl hbA hw (by omega) hL d_law_law_107 ?_
  refine lv_i2l (v := (((xs (i + 3))).toInt64)) hx hb d_law_law_108 rfl ?_
  refine lv_ldc2 (v := mx_l 4294967295) hx hb cx.2.2.2.1 (cx.2.2.2.2.1 _ tw_359) d_law_law_109 ?_
  refine lv_land hx hb d_law_law_112 ?_
  refine gd_lor (v := mx_l (mx_lg (xs (i + 2)) (xs (i + 3)))) hx hb (mx_lg_eq _ _) d_law_law_113 ?_
  refine lv_aload_n hx hb d_law_law_114 rfl (lv_at hl 0 rfl) ?_
  refine lv_iload_n hx hb d_law_law_115 rfl (lv_at hl 3 rfl) ?_
  refine lv_iconst (v := nI 4) hx hb d_law_law_116 (by decide) ?_
  refine gd_iadd hx hb d_law_law_117 ?_
  refine gd_scr hx hb hX hbl hbA hw (by omega) hL d_law_law_118 ?_
  refine lv_i2l (v := (((xs (i + 4))).toInt64)) hx hb d_law_law_119 rfl ?_
  refine lv_bipush (v := nI 32) hx hb d_law_law_120 (by decide) ?_
  refine lv_lshl (v := ((xs (i + 4))).toInt64 <<< ((nI 32).toInt64 &&& 63)) hx hb d_law_law_122 rfl ?_
  refine lv_aload_n hx hb d_law_law_123 rfl (lv_at hl 0 rfl) ?_
  refine lv_iload_n hx hb d_law_law_124 rfl (lv_at hl 3 rfl) ?_
  refine lv_iconst (v := nI 5) hx hb d_law_law_125 (by decide) ?_
  refine gd_iadd hx hb d_law_law_126 ?_
  refine gd_scr hx hb hX hbl hbA hw (by omega) hL d_law_law_127 ?_
  refine lv_i2l (v := (((xs (i + 5))).toInt64)) hx hb d_law_law_128 rfl ?_
  refine lv_ldc2 (v := mx_l 4294967295) hx hb cx.2.2.2.1 (cx.2.2.2.2.1 _ tw_359) d_law_law_129 ?_
  refine lv_land hx hb d_law_law_132 ?_
  refine gd_lor (v := mx_l (mx_lg (xs (i + 4)) (xs (i + 5)))) hx hb (mx_lg_eq _ _) d_law_law_133 ?_
  refine gd_callVI (As := [.int (xs (i + 1)), .long (mx_l (mx_lg (xs (i + 2)) (xs (i + 3)))), .long (mx_l (mx_lg (xs (i + 4)) (xs (i + 5))))]) (rest := []) cx hw (c_X_place l D ct _ q X inn ah af la su sr ([]) dr ([]) (xs (i + 1)) (mx_lg (xs (i + 2)) (xs (i + 3))) (mx_lg (xs (i + 4)) (xs (i + 5))) (mx_lg_fit _ _) (mx_lg_fit _ _)) cv_law_15 ⟨by decide, by decide⟩ ⟨rfl, rfl⟩ [0, 1, 2, 3, 4, 5, 6, 7, 8, 9, 10, 11, 12, 13, 14, 15, 16, 17, 18, 19] rfl rfl 19 0 rfl rfl (gd_jn (w2 := fun u => wX q ct u inn ah af la su sr [] dr [] ++ wM q2 ct Y inn) hw [0, 1, 2, 3, 4, 5, 6, 7, 8, 9, 10, 11, 12, 13, 14, 15, 16, 17, 18, 19] [20, 21, 22, 23, 24, 25, 26, 27] [8, 9, 10, 11, 12, 13, 14, 15, 16, 17, 18, 19, 20, 21, 22, 23, 24, 25, 26, 27, 0, 1, 2, 3, 4, 5, 6, 7] rfl rfl rfl (by decide) (fun _ => rfl) rfl) rfl hl.1 rfl (Nat.le_of_ble_eq_true rfl) ⟨Nat.le_of_ble_eq_true rfl, Nat.le_of_ble_eq_true rfl⟩ d_law_law_134 (fun r1 X2 H locs hp1 hw => ?_)
  refine lv_aload_n hx hb d_law_law_137 rfl (lv_at hl 2 rfl) ?_
  refine lv_aload_n hx hb d_law_law_138 rfl (lv_at hl 0 rfl) ?_
  refine lv_iload_n hx hb d_law_law_139 rfl (lv_at hl 3 rfl) ?_
  refine lv_iconst (v := nI 1) hx hb d_law_law_140 (by decide) ?_
  refine gd_iadd hx hb d_law_law_141 ?_
  refine gd_scr hx hb hX hbl hbA hw (by omega) hL d_law_law_142 ?_
  refine lv_aload_n hx hb d_law_law_143 rfl (lv_at hl 0 rfl) ?_
  refine lv_iload_n hx hb d_law_law_144 rfl (lv_at hl 3 rfl) ?_
  refine lv_iconst (v := nI 2) hx hb d_law_law_145 (by decide) ?_
  refine gd_iadd hx hb d_law_law_146 ?_
  refine gd_scr hx hb hX hbl hbA hw (by omega) hL d_law_law_147 ?_
  refine lv_i2l (v := (((xs (i + 2))).toInt64)) hx hb d_law_law_148 rfl ?_
  refine lv_bipush (v := nI 32) hx hb d_law_law_149 (by decide) ?_
  refine lv_lshl (v := ((xs (i + 2))).toInt64 <<< ((nI 32).toInt64 &&& 63)) hx hb d_law_law_151 rfl ?_
  refine lv_aload_n hx hb d_law_law_152 rfl (lv_at hl 0 rfl) ?_
  refine lv_iload_n hx hb d_law_law_153 rfl (lv_at hl 3 rfl) ?_
  refine lv_iconst (v := nI 3) hx hb d_law_law_154 (by decide) ?_
  refine gd_iadd hx hb d_law_law_155 ?_
  refine gd_scr hx hb hX hbl hbA hw (by omega) hL d_law_law_156 ?_
  refine lv_i2l (v := (((xs (i + 3))).toInt64)) hx hb d_law_law_157 rfl ?_
  refine lv_ldc2 (v := mx_l 4294967295) hx hb cx.2.2.2.1 (cx.2.2.2.2.1 _ tw_359) d_law_law_158 ?_
  refine lv_land hx hb d_law_law_161 ?_
  refine gd_lor (v := mx_l (mx_lg (xs (i + 2)) (xs (i + 3)))) hx hb (mx_lg_eq _ _) d_law_law_162 ?_
  refine lv_aload_n hx hb d_law_law_163 rfl (lv_at hl 0 rfl) ?_
  refine lv_iload_n hx hb d_law_law_164 rfl (lv_at hl 3 rfl) ?_
  refine lv_iconst (v := nI 4) hx hb d_law_law_165 (by decide) ?_
  refine gd_iadd hx hb d_law_law_166 ?_
  refine gd_scr hx hb hX hbl hbA hw (by omega) hL d_law_law_167 ?_
  refine lv_i2l (v := (((xs (i + 4))).toInt64)) hx hb d_law_law_168 rfl ?_
  refine lv_bipush (v := nI 32) hx hb d_law_law_169 (by decide) ?_
  refine lv_lshl (v := ((xs (i + 4))).toInt64 <<< ((nI 32).toInt64 &&& 63)) hx hb d_law_law_171 rfl ?_
  refine lv_aload_n hx hb d_law_law_172 rfl (lv_at hl 0 rfl) ?_
  refine lv_iload_n hx hb d_law_law_173 rfl (lv_at hl 3 rfl) ?_
  refine lv_iconst (v := nI 5) hx hb d_law_law_174 (by decide) ?_
  refine gd_iadd hx hb d_law_law_175 ?_
  refine gd_scr hx hb hX hbl hbA hw (by omega) hL d_law_law_176 ?_
  refine lv_i2l (v := (((xs (i + 5))).toInt64)) hx hb d_law_law_177 rfl ?_
  refine lv_ldc2 (v := mx_l 4294967295) hx hb cx.2.2.2.1 (cx.2.2.2.2.1 _ tw_359) d_law_law_178 ?_
  refine lv_land hx hb d_law_law_181 ?_
  refine gd_lor (v := mx_l (mx_lg (xs (i + 4)) (xs (i + 5)))) hx hb (mx_lg_eq _ _) d_law_law_182 ?_
  refine gd_callVI (As := [.int (xs (i + 1)), .long (mx_l (mx_lg (xs (i + 2)) (xs (i + 3)))), .long (mx_l (mx_lg (xs (i + 4)) (xs (i + 5))))]) (rest := [.int r1]) cx hw (c_M_place l D ct _ q2 Y inn (xs (i + 1)) (mx_lg (xs (i + 2)) (xs (i + 3))) (mx_lg (xs (i + 4)) (xs (i + 5))) (mx_lg_fit _ _) (mx_lg_fit _ _)) cv_law_19 ⟨by decide, by decide⟩ ⟨rfl, rfl⟩ [20, 21, 22, 23, 24, 25, 26, 27] rfl rfl 0 4 rfl rfl (gd_jn (w2 := fun u => wX q ct X2 inn ah af la su sr [] dr [] ++ wM q2 ct u inn) hw [20, 21, 22, 23, 24, 25, 26, 27] [0, 1, 2, 3, 4, 5, 6, 7, 8, 9, 10, 11, 12, 13, 14, 15, 16, 17, 18, 19] [0, 1, 2, 3, 4, 5, 6, 7, 8, 9, 10, 11, 12, 13, 14, 15, 16, 17, 18, 19, 20, 21, 22, 23, 24, 25, 26, 27] rfl rfl rfl (by decide) (fun _ => rfl) rfl) rfl hl.1 rfl (Nat.le_of_ble_eq_true rfl) ⟨Nat.le_of_ble_eq_true rfl, Nat.le_of_ble_eq_true rfl⟩ d_law_law_183 (fun r2 Y2 H locs hp2 hw => ?_)
  have hr := mx_plF_rel hR (xs (i + 1)) (mx_lg (xs (i + 2)) (xs (i + 3))) (mx_lg (xs (i + 4)) (xs (i + 5)))
  obtain ⟨e1, e2⟩ := hp1
  obtain ⟨e3, e4⟩ := hp2
  refine lv_icmp_eq (tgt := 430) hx hb d_law_law_186 (by decide) (fun hc => ?_) (fun hc => absurd (by rw [e1, e3, hr.1]) hc)
  exact hN X2 Y2 inn ah af la su sr dr H locs ls ⟨by rw [e2]; exact mx_plF_wf hWF _ _ _, by rw [e2, e4]; exact hr.2, fun j hj => hinn j (by rw [e2, mx_plF_n] at hj; exact hj)⟩ hw hl
set_option maxHeartbeats 4000000 in
set_option maxRecDepth 100000 in
/-- item -/
theorem lw_case1 {p : Program} {l : Launch} {e : Env} {s : State} {m : MethodId} {below : List Frame} {meth : Method} {c : Code} {Q : State → Prop} {D : va_G} {ct : Nat → ClassId} {b L : Nat} {xs : Nat → Int32} {q q2 : Nat → Nat} {X Y : GX} {inn : Nat → Bool} {ah af la : Nat → Option Nat} {su : Nat → Int} {sr dr : Nat → Int32} {H : Heap} {locs : List Loc} {ls : Array Slot} {i : Nat} (cx : gd_Cx p s m #[Value.ref b] c R_law code 4 D ct) (hX : va_X b L xs s s.heap) (hbl : b < s.heap.size) (hL : L ≤ 3072) (hi : i + 6 ≤ L) (hI : lw_I X Y inn) (hw : gd_Ws D (fun x : Nat => s.heap.size ≤ x) s (wX q ct X inn ah af la su sr [] dr [] ++ wM q2 ct Y inn) H locs) (hl : lv_has ls 4 [(0, .ref b), (1, .ref (q 19)), (2, .ref (q2 0)), (3, .int (nI i))]) (hN : lw_Nx p l e s m below meth c Q D ct b q q2 i) : W p l e room_1 s m #[Value.ref b] below meth c H locs 28 23232 Q (F0 m 191 ls []) := by
  have hx := cx.1
  have hb := cx.2.1
  have hbA : ¬ (fun x : Nat => s.heap.size ≤ x) b := Nat.not_le.mpr hbl
  obtain ⟨hWF, hR, hinn⟩ := hI
  have hWY := hR.wf hWF
  refine lv_aload_n hx hb d_law_law_191 rfl (lv_at hl 1 rfl) ?_
  refine gd_callVI (As := []) (rest := []) cx hw (c_X_item l D ct _ q X inn ah af la su sr ([]) dr ([]) hWF) cv_law_20 ⟨by decide, by decide⟩ ⟨rfl, rfl⟩ [0, 1, 2, 3, 4, 5, 6, 7, 8, 9, 10, 11, 12, 13, 14, 15, 16, 17, 18, 19] rfl rfl 19 0 rfl rfl (gd_jn (w2 := fun u => wX q ct u.1 u.2 ah af la su sr [] dr [] ++ wM q2 ct Y inn) hw [0, 1, 2, 3, 4, 5, 6, 7, 8, 9, 10, 11, 12, 13, 14, 15, 16, 17, 18, 19] [20, 21, 22, 23, 24, 25, 26, 27] [8, 9, 10, 11, 12, 13, 14, 15, 16, 17, 18, 19, 20, 21, 22, 23, 24, 25, 26, 27, 0, 1, 2, 3, 4, 5, 6, 7] rfl rfl rfl (by decide) (fun _ => rfl) rfl) rfl hl.1 rfl (Nat.le_of_ble_eq_true rfl) ⟨Nat.le_of_ble_eq_true rfl, Nat.le_of_ble_eq_true rfl⟩ d_law_law_192 (fun r1 u1 H locs hp1 hw => ?_)
  refine lv_aload_n hx hb d_law_law_195 rfl (lv_at hl 2 rfl) ?_
  refine gd_callVI (As := []) (rest := [.int r1]) cx hw (c_M_item l D ct _ q2 Y inn hWY) cv_law_24 ⟨by decide, by decide⟩ ⟨rfl, rfl⟩ [20, 21, 22, 23, 24, 25, 26, 27] rfl rfl 0 4 rfl rfl (gd_jn (w2 := fun u => wX q ct u1.1 u1.2 ah af la su sr [] dr [] ++ wM q2 ct u inn) hw [20, 21, 22, 23, 24, 25, 26, 27] [0, 1, 2, 3, 4, 5, 6, 7, 8, 9, 10, 11, 12, 13, 14, 15, 16, 17, 18, 19] [0, 1, 2, 3, 4, 5, 6, 7, 8, 9, 10, 11, 12, 13, 14, 15, 16, 17, 18, 19, 20, 21, 22, 23, 24, 25, 26, 27] rfl rfl rfl (by decide) (fun _ => rfl) rfl) rfl hl.1 rfl (Nat.le_of_ble_eq_true rfl) ⟨Nat.le_of_ble_eq_true rfl, Nat.le_of_ble_eq_true rfl⟩ d_law_law_196 (fun r2 Y2 H locs hp2 hw => ?_)
  have hn := hR.1
  have hfin : r1 = r2 ∧ lw_I u1.1 Y2 inn ∧ u1.2 = inn := by
    rcases hp1 with ⟨a1, a2, a3⟩ | ⟨a1, a2, a3, a4⟩ <;> rcases hp2 with ⟨b1, b2, b3⟩ | ⟨b1, b2, b3⟩
    · rw [a2, b2, a3, b3]; exact ⟨rfl, ⟨hWF, hR, hinn⟩, rfl⟩
    · omega
    · omega
    · refine ⟨by rw [a2, b2, hn], ⟨a3.sm.wf (mx_addX_wf hWF a1), a3.tr (by rw [b3]; exact mx_addX_rel hR), fun j hj => hinn j ?_⟩, by rw [a4, mx_vf (hinn _ (Nat.le_refl _))]⟩
      rw [a3.1] at hj
      have hj : mx_n X + 1 ≤ j := hj
      omega
  obtain ⟨er, eI, eu⟩ := hfin
  refine lv_icmp_eq (tgt := 430) hx hb d_law_law_199 (by decide) (fun hc => ?_) (fun hc => absurd er hc)
  rw [eu] at hw
  exact hN u1.1 Y2 inn ah af la su sr dr H locs ls eI hw hl
set_option maxHeartbeats 4000000 in
set_option maxRecDepth 100000 in
/-- net -/
theorem lw_case2 {p : Program} {l : Launch} {e : Env} {s : State} {m : MethodId} {below : List Frame} {meth : Method} {c : Code} {Q : State → Prop} {D : va_G} {ct : Nat → ClassId} {b L : Nat} {xs : Nat → Int32} {q q2 : Nat → Nat} {X Y : GX} {inn : Nat → Bool} {ah af la : Nat → Option Nat} {su : Nat → Int} {sr dr : Nat → Int32} {H : Heap} {locs : List Loc} {ls : Array Slot} {i : Nat} (cx : gd_Cx p s m #[Value.ref b] c R_law code 4 D ct) (hX : va_X b L xs s s.heap) (hbl : b < s.heap.size) (hL : L ≤ 3072) (hi : i + 6 ≤ L) (hI : lw_I X Y inn) (hw : gd_Ws D (fun x : Nat => s.heap.size ≤ x) s (wX q ct X inn ah af la su sr [] dr [] ++ wM q2 ct Y inn) H locs) (hl : lv_has ls 4 [(0, .ref b), (1, .ref (q 19)), (2, .ref (q2 0)), (3, .int (nI i))]) (hN : lw_Nx p l e s m below meth c Q D ct b q q2 i) : W p l e room_1 s m #[Value.ref b] below meth c H locs 28 23232 Q (F0 m 204 ls []) := by
  have hx := cx.1
  have hb := cx.2.1
  have hbA : ¬ (fun x : Nat => s.heap.size ≤ x) b := Nat.not_le.mpr hbl
  obtain ⟨hWF, hR, hinn⟩ := hI
  have hWY := hR.wf hWF
  refine lv_aload_n hx hb d_law_law_204 rfl (lv_at hl 1 rfl) ?_
  refine lv_aload_n hx hb d_law_law_205 rfl (lv_at hl 0 rfl) ?_
  refine lv_iload_n hx hb d_law_law_206 rfl (lv_at hl 3 rfl) ?_
  refine lv_iconst (v := nI 1) hx hb d_law_law_207 (by decide) ?_
  refine gd_iadd hx hb d_law_law_208 ?_
  refine gd_scr hx hb hX hbl hbA hw (by omega) hL d_law_law_209 ?_
  refine lv_aload_n hx hb d_law_law_210 rfl (lv_at hl 0 rfl) ?_
  refine lv_iload_n hx hb d_law_law_211 rfl (lv_at hl 3 rfl) ?_
  refine lv_iconst (v := nI 2) hx hb d_law_law_212 (by decide) ?_
  refine gd_iadd hx hb d_law_law_213 ?_
  refine gd_scr hx hb hX hbl hbA hw (by omega) hL d_law_law_214 ?_
  refine lv_aload_n hx hb d_law_law_215 rfl (lv_at hl 0 rfl) ?_
  refine lv_iload_n hx hb d_law_law_216 rfl (lv_at hl 3 rfl) ?_
  refine lv_iconst (v := nI 3) hx hb d_law_law_217 (by decide) ?_
  refine gd_iadd hx hb d_law_law_218 ?_
  refine gd_scr hx hb hX hbl hbA hw (by omega) hL d_law_law_219 ?_
  refine lv_i2l (v := (((xs (i + 3))).toInt64)) hx hb d_law_law_220 rfl ?_
  refine lv_bipush (v := nI 32) hx hb d_law_law_221 (by decide) ?_
  refine lv_lshl (v := ((xs (i + 3))).toInt64 <<< ((nI 32).toInt64 &&& 63)) hx hb d_law_law_223 rfl ?_
  refine lv_aload_n hx hb d_law_law_224 rfl (lv_at hl 0 rfl) ?_
  refine lv_iload_n hx hb d_law_law_225 rfl (lv_at hl 3 rfl) ?_
  refine lv_iconst (v := nI 4) hx hb d_law_law_226 (by decide) ?_
  refine gd_iadd hx hb d_law_law_227 ?_
  refine gd_scr hx hb hX hbl hbA hw (by omega) hL d_law_law_228 ?_
  refine lv_i2l (v := (((xs (i + 4))).toInt64)) hx hb d_law_law_229 rfl ?_
  refine lv_ldc2 (v := mx_l 4294967295) hx hb cx.2.2.2.1 (cx.2.2.2.2.1 _ tw_359) d_law_law_230 ?_
  refine lv_land hx hb d_law_law_233 ?_
  refine gd_lor (v := mx_l (mx_lg (xs (i + 3)) (xs (i + 4)))) hx hb (mx_lg_eq _ _) d_law_law_234 ?_
  refine gd_callVI (As := [.int (xs (i + 1)), .int (xs (i + 2)), .long (mx_l (mx_lg (xs (i + 3)) (xs (i + 4))))]) (rest := []) cx hw (c_X_net l D ct _ q X inn ah af la su sr ([]) dr ([]) (xs (i + 1)) (xs (i + 2)) (mx_lg (xs (i + 3)) (xs (i + 4))) hWF (mx_lg_fit _ _)) cv_law_25 ⟨by decide, by decide⟩ ⟨rfl, rfl⟩ [0, 1, 2, 3, 4, 5, 6, 7, 8, 9, 10, 11, 12, 13, 14, 15, 16, 17, 18, 19] rfl rfl 19 0 rfl rfl (gd_jn (w2 := fun u => wX q ct u inn ah af la su sr [] dr [] ++ wM q2 ct Y inn) hw [0, 1, 2, 3, 4, 5, 6, 7, 8, 9, 10, 11, 12, 13, 14, 15, 16, 17, 18, 19] [20, 21, 22, 23, 24, 25, 26, 27] [8, 9, 10, 11, 12, 13, 14, 15, 16, 17, 18, 19, 20, 21, 22, 23, 24, 25, 26, 27, 0, 1, 2, 3, 4, 5, 6, 7] rfl rfl rfl (by decide) (fun _ => rfl) rfl) rfl hl.1 rfl (Nat.le_of_ble_eq_true rfl) ⟨Nat.le_of_ble_eq_true rfl, Nat.le_of_ble_eq_true rfl⟩ d_law_law_235 (fun r1 X2 H locs hp1 hw => ?_)
  refine lv_aload_n hx hb d_law_law_238 rfl (lv_at hl 2 rfl) ?_
  refine lv_aload_n hx hb d_law_law_239 rfl (lv_at hl 0 rfl) ?_
  refine lv_iload_n hx hb d_law_law_240 rfl (lv_at hl 3 rfl) ?_
  refine lv_iconst (v := nI 1) hx hb d_law_law_241 (by decide) ?_
  refine gd_iadd hx hb d_law_law_242 ?_
  refine gd_scr hx hb hX hbl hbA hw (by omega) hL d_law_law_243 ?_
  refine lv_aload_n hx hb d_law_law_244 rfl (lv_at hl 0 rfl) ?_
  refine lv_iload_n hx hb d_law_law_245 rfl (lv_at hl 3 rfl) ?_
  refine lv_iconst (v := nI 2) hx hb d_law_law_246 (by decide) ?_
  refine gd_iadd hx hb d_law_law_247 ?_
  refine gd_scr hx hb hX hbl hbA hw (by omega) hL d_law_law_248 ?_
  refine lv_aload_n hx hb d_law_law_249 rfl (lv_at hl 0 rfl) ?_
  refine lv_iload_n hx hb d_law_law_250 rfl (lv_at hl 3 rfl) ?_
  refine lv_iconst (v := nI 3) hx hb d_law_law_251 (by decide) ?_
  refine gd_iadd hx hb d_law_law_252 ?_
  refine gd_scr hx hb hX hbl hbA hw (by omega) hL d_law_law_253 ?_
  refine lv_i2l (v := (((xs (i + 3))).toInt64)) hx hb d_law_law_254 rfl ?_
  refine lv_bipush (v := nI 32) hx hb d_law_law_255 (by decide) ?_
  refine lv_lshl (v := ((xs (i + 3))).toInt64 <<< ((nI 32).toInt64 &&& 63)) hx hb d_law_law_257 rfl ?_
  refine lv_aload_n hx hb d_law_law_258 rfl (lv_at hl 0 rfl) ?_
  refine lv_iload_n hx hb d_law_law_259 rfl (lv_at hl 3 rfl) ?_
  refine lv_iconst (v := nI 4) hx hb d_law_law_260 (by decide) ?_
  refine gd_iadd hx hb d_law_law_261 ?_
  refine gd_scr hx hb hX hbl hbA hw (by omega) hL d_law_law_262 ?_
  refine lv_i2l (v := (((xs (i + 4))).toInt64)) hx hb d_law_law_263 rfl ?_
  refine lv_ldc2 (v := mx_l 4294967295) hx hb cx.2.2.2.1 (cx.2.2.2.2.1 _ tw_359) d_law_law_264 ?_
  refine lv_land hx hb d_law_law_267 ?_
  refine gd_lor (v := mx_l (mx_lg (xs (i + 3)) (xs (i + 4)))) hx hb (mx_lg_eq _ _) d_law_law_268 ?_
  refine gd_callVI (As := [.int (xs (i + 1)), .int (xs (i + 2)), .long (mx_l (mx_lg (xs (i + 3)) (xs (i + 4))))]) (rest := [.int r1]) cx hw (c_M_net l D ct _ q2 Y inn (xs (i + 1)) (xs (i + 2)) (mx_lg (xs (i + 3)) (xs (i + 4))) hWY (mx_lg_fit _ _)) cv_law_29 ⟨by decide, by decide⟩ ⟨rfl, rfl⟩ [20, 21, 22, 23, 24, 25, 26, 27] rfl rfl 0 4 rfl rfl (gd_jn (w2 := fun u => wX q ct X2 inn ah af la su sr [] dr [] ++ wM q2 ct u inn) hw [20, 21, 22, 23, 24, 25, 26, 27] [0, 1, 2, 3, 4, 5, 6, 7, 8, 9, 10, 11, 12, 13, 14, 15, 16, 17, 18, 19] [0, 1, 2, 3, 4, 5, 6, 7, 8, 9, 10, 11, 12, 13, 14, 15, 16, 17, 18, 19, 20, 21, 22, 23, 24, 25, 26, 27] rfl rfl rfl (by decide) (fun _ => rfl) rfl) rfl hl.1 rfl (Nat.le_of_ble_eq_true rfl) ⟨Nat.le_of_ble_eq_true rfl, Nat.le_of_ble_eq_true rfl⟩ d_law_law_269 (fun r2 Y2 H locs hp2 hw => ?_)
  have hr := mx_netG_rel hR hWF (xs (i + 1)) (xs (i + 2)) (mx_lg (xs (i + 3)) (xs (i + 4)))
  obtain ⟨e1, e2⟩ := hp1
  obtain ⟨e3, e4⟩ := hp2
  refine lv_icmp_eq (tgt := 430) hx hb d_law_law_272 (by decide) (fun hc => ?_) (fun hc => absurd (by rw [e1, e3, hr.1]) hc)
  exact hN X2 Y2 inn ah af la su sr dr H locs ls ⟨e2.sm.wf (mx_netG_wf hWF _ _ _), e2.tr (hr.2.tr e4.sm), fun j hj => hinn j (by rw [e2.1, mx_netG_n] at hj; exact hj)⟩ hw hl
set_option maxHeartbeats 4000000 in
set_option maxRecDepth 100000 in
/-- go -/
theorem lw_case3 {p : Program} {l : Launch} {e : Env} {s : State} {m : MethodId} {below : List Frame} {meth : Method} {c : Code} {Q : State → Prop} {D : va_G} {ct : Nat → ClassId} {b L : Nat} {xs : Nat → Int32} {q q2 : Nat → Nat} {X Y : GX} {inn : Nat → Bool} {ah af la : Nat → Option Nat} {su : Nat → Int} {sr dr : Nat → Int32} {H : Heap} {locs : List Loc} {ls : Array Slot} {i : Nat} (cx : gd_Cx p s m #[Value.ref b] c R_law code 4 D ct) (hX : va_X b L xs s s.heap) (hbl : b < s.heap.size) (hL : L ≤ 3072) (hi : i + 6 ≤ L) (hI : lw_I X Y inn) (hw : gd_Ws D (fun x : Nat => s.heap.size ≤ x) s (wX q ct X inn ah af la su sr [] dr [] ++ wM q2 ct Y inn) H locs) (hl : lv_has ls 4 [(0, .ref b), (1, .ref (q 19)), (2, .ref (q2 0)), (3, .int (nI i))]) (hN : lw_Nx p l e s m below meth c Q D ct b q q2 i) : W p l e room_1 s m #[Value.ref b] below meth c H locs 28 23232 Q (F0 m 277 ls []) := by
  have hx := cx.1
  have hb := cx.2.1
  have hbA : ¬ (fun x : Nat => s.heap.size ≤ x) b := Nat.not_le.mpr hbl
  obtain ⟨hWF, hR, hinn⟩ := hI
  have hWY := hR.wf hWF
  refine lv_aload_n hx hb d_law_law_277 rfl (lv_at hl 1 rfl) ?_
  refine lv_aload_n hx hb d_law_law_278 rfl (lv_at hl 0 rfl) ?_
  refine lv_iload_n hx hb d_law_law_279 rfl (lv_at hl 3 rfl) ?_
  refine lv_iconst (v := nI 1) hx hb d_law_law_280 (by decide) ?_
  refine gd_iadd hx hb d_law_law_281 ?_
  refine gd_scr hx hb hX hbl hbA hw (by omega) hL d_law_law_282 ?_
  refine gd_callVI (As := [.int (xs (i + 1))]) (rest := []) cx hw (c_X_go l D ct _ q X inn ah af la su sr ([]) dr ([]) (xs (i + 1)) hWF) cv_law_30 ⟨by decide, by decide⟩ ⟨rfl, rfl⟩ [0, 1, 2, 3, 4, 5, 6, 7, 8, 9, 10, 11, 12, 13, 14, 15, 16, 17, 18, 19] rfl rfl 19 0 rfl rfl (gd_jn (w2 := fun u => wX q ct u inn ah af la su sr [] dr [] ++ wM q2 ct Y inn) hw [0, 1, 2, 3, 4, 5, 6, 7, 8, 9, 10, 11, 12, 13, 14, 15, 16, 17, 18, 19] [20, 21, 22, 23, 24, 25, 26, 27] [8, 9, 10, 11, 12, 13, 14, 15, 16, 17, 18, 19, 20, 21, 22, 23, 24, 25, 26, 27, 0, 1, 2, 3, 4, 5, 6, 7] rfl rfl rfl (by decide) (fun _ => rfl) rfl) rfl hl.1 rfl (Nat.le_of_ble_eq_true rfl) ⟨Nat.le_of_ble_eq_true rfl, Nat.le_of_ble_eq_true rfl⟩ d_law_law_283 (fun r1 X2 H locs hp1 hw => ?_)
  refine lv_aload_n hx hb d_law_law_286 rfl (lv_at hl 2 rfl) ?_
  refine lv_aload_n hx hb d_law_law_287 rfl (lv_at hl 0 rfl) ?_
  refine lv_iload_n hx hb d_law_law_288 rfl (lv_at hl 3 rfl) ?_
  refine lv_iconst (v := nI 1) hx hb d_law_law_289 (by decide) ?_
  refine gd_iadd hx hb d_law_law_290 ?_
  refine gd_scr hx hb hX hbl hbA hw (by omega) hL d_law_law_291 ?_
  refine gd_callVI (As := [.int (xs (i + 1))]) (rest := [.int r1]) cx hw (c_M_go l D ct _ q2 Y inn (xs (i + 1)) hWY) cv_law_34 ⟨by decide, by decide⟩ ⟨rfl, rfl⟩ [20, 21, 22, 23, 24, 25, 26, 27] rfl rfl 0 4 rfl rfl (gd_jn (w2 := fun u => wX q ct X2 inn ah af la su sr [] dr [] ++ wM q2 ct u inn) hw [20, 21, 22, 23, 24, 25, 26, 27] [0, 1, 2, 3, 4, 5, 6, 7, 8, 9, 10, 11, 12, 13, 14, 15, 16, 17, 18, 19] [0, 1, 2, 3, 4, 5, 6, 7, 8, 9, 10, 11, 12, 13, 14, 15, 16, 17, 18, 19, 20, 21, 22, 23, 24, 25, 26, 27] rfl rfl rfl (by decide) (fun _ => rfl) rfl) rfl hl.1 rfl (Nat.le_of_ble_eq_true rfl) ⟨Nat.le_of_ble_eq_true rfl, Nat.le_of_ble_eq_true rfl⟩ d_law_law_292 (fun r2 Y2 H locs hp2 hw => ?_)
  have hr := mx_goF_rel hR (xs (i + 1))
  obtain ⟨e1, e2⟩ := hp1
  obtain ⟨e3, e4⟩ := hp2
  refine lv_icmp_eq (tgt := 430) hx hb d_law_law_295 (by decide) (fun hc => ?_) (fun hc => absurd (by rw [e1, e3, hr.1]) hc)
  exact hN X2 Y2 inn ah af la su sr dr H locs ls ⟨by rw [e2]; exact mx_goF_wf hWF _, by rw [e2, e4]; exact hr.2, fun j hj => hinn j (by rw [e2, mx_goF_n] at hj; exact hj)⟩ hw hl
set_option maxHeartbeats 4000000 in
set_option maxRecDepth 100000 in
/-- solve -/
theorem lw_case4 {p : Program} {l : Launch} {e : Env} {s : State} {m : MethodId} {below : List Frame} {meth : Method} {c : Code} {Q : State → Prop} {D : va_G} {ct : Nat → ClassId} {b L : Nat} {xs : Nat → Int32} {q q2 : Nat → Nat} {X Y : GX} {inn : Nat → Bool} {ah af la : Nat → Option Nat} {su : Nat → Int} {sr dr : Nat → Int32} {H : Heap} {locs : List Loc} {ls : Array Slot} {i : Nat} (cx : gd_Cx p s m #[Value.ref b] c R_law code 4 D ct) (hX : va_X b L xs s s.heap) (hbl : b < s.heap.size) (hL : L ≤ 3072) (hi : i + 6 ≤ L) (hI : lw_I X Y inn) (hw : gd_Ws D (fun x : Nat => s.heap.size ≤ x) s (wX q ct X inn ah af la su sr [] dr [] ++ wM q2 ct Y inn) H locs) (hl : lv_has ls 4 [(0, .ref b), (1, .ref (q 19)), (2, .ref (q2 0)), (3, .int (nI i))]) (hN : lw_Nx p l e s m below meth c Q D ct b q q2 i) : W p l e room_1 s m #[Value.ref b] below meth c H locs 28 23232 Q (F0 m 300 ls []) := by
  have hx := cx.1
  have hb := cx.2.1
  have hbA : ¬ (fun x : Nat => s.heap.size ≤ x) b := Nat.not_le.mpr hbl
  obtain ⟨hWF, hR, hinn⟩ := hI
  have hWY := hR.wf hWF
  refine lv_aload_n hx hb d_law_law_300 rfl (lv_at hl 1 rfl) ?_
  refine gd_callVI (As := []) (rest := []) cx hw (c_X_solve l D ct _ q X inn ah af la su sr dr hWF hinn) cv_law_35 ⟨by decide, by decide⟩ ⟨rfl, rfl⟩ [0, 1, 2, 3, 4, 5, 6, 7, 8, 9, 10, 11, 12, 13, 14, 15, 16, 17, 18, 19] rfl rfl 19 0 rfl rfl (gd_jn (w2 := fun u => wXs q ct X u ++ wM q2 ct Y inn) hw [0, 1, 2, 3, 4, 5, 6, 7, 8, 9, 10, 11, 12, 13, 14, 15, 16, 17, 18, 19] [20, 21, 22, 23, 24, 25, 26, 27] [8, 9, 10, 11, 12, 13, 14, 15, 16, 17, 18, 19, 20, 21, 22, 23, 24, 25, 26, 27, 0, 1, 2, 3, 4, 5, 6, 7] rfl rfl rfl (by decide) (fun _ => rfl) rfl) rfl hl.1 rfl (Nat.le_of_ble_eq_true rfl) ⟨Nat.le_of_ble_eq_true rfl, Nat.le_of_ble_eq_true rfl⟩ d_law_law_301 (fun r1 u1 H locs hp1 hw => ?_)
  obtain ⟨inn2, ah2, af2, la2, su2, sr2, dr2⟩ := u1
  obtain ⟨e1, hS1, -⟩ := hp1
  have e1 : r1 = nI (mx_cnt inn2 (mx_n X)) := e1
  have hS1 : mx_Sol X inn2 := hS1
  refine lv_aload_n hx hb d_law_law_304 rfl (lv_at hl 2 rfl) ?_
  refine gd_callVI (As := []) (rest := [.int r1]) cx hw (c_M_solve l D ct _ q2 Y inn hWY (fun j hj => hinn j (by rw [hR.1]; exact hj))) cv_law_38 ⟨by decide, by decide⟩ ⟨rfl, rfl⟩ [20, 21, 22, 23, 24, 25, 26, 27] rfl rfl 0 4 rfl rfl (gd_jn (w2 := fun u => wX q ct X inn2 ah2 af2 la2 su2 sr2 [] dr2 [] ++ wM q2 ct Y u) hw [20, 21, 22, 23, 24, 25, 26, 27] [0, 1, 2, 3, 4, 5, 6, 7, 8, 9, 10, 11, 12, 13, 14, 15, 16, 17, 18, 19] [0, 1, 2, 3, 4, 5, 6, 7, 8, 9, 10, 11, 12, 13, 14, 15, 16, 17, 18, 19, 20, 21, 22, 23, 24, 25, 26, 27] rfl rfl rfl (by decide) (fun _ => rfl) rfl) rfl hl.1 rfl (Nat.le_of_ble_eq_true rfl) ⟨Nat.le_of_ble_eq_true rfl, Nat.le_of_ble_eq_true rfl⟩ d_law_law_305 (fun r2 ch2 H locs hp2 hw => ?_)
  obtain ⟨e2, hS2⟩ := hp2
  have es : inn2 = ch2 := mx_Sol_one hS1 (hR.sm.sol hS2)
  subst es
  have ho := mx_Sol_out hWF hS1
  have ec : mx_cnt inn2 200 = mx_cnt inn2 (mx_n X) := mx_cnt_ext 200 hWF.n ho
  refine lv_icmp_eq (tgt := 430) hx hb d_law_law_308 (by decide) (fun hc => ?_) (fun hc => absurd (by rw [e1, e2, ec]) hc)
  exact hN X Y inn2 ah2 af2 la2 su2 sr2 dr2 H locs ls ⟨hWF, hR, ho⟩ hw hl
set_option maxHeartbeats 4000000 in
set_option maxRecDepth 100000 in
/-- in -/
theorem lw_case5 {p : Program} {l : Launch} {e : Env} {s : State} {m : MethodId} {below : List Frame} {meth : Method} {c : Code} {Q : State → Prop} {D : va_G} {ct : Nat → ClassId} {b L : Nat} {xs : Nat → Int32} {q q2 : Nat → Nat} {X Y : GX} {inn : Nat → Bool} {ah af la : Nat → Option Nat} {su : Nat → Int} {sr dr : Nat → Int32} {H : Heap} {locs : List Loc} {ls : Array Slot} {i : Nat} (cx : gd_Cx p s m #[Value.ref b] c R_law code 4 D ct) (hX : va_X b L xs s s.heap) (hbl : b < s.heap.size) (hL : L ≤ 3072) (hi : i + 6 ≤ L) (hI : lw_I X Y inn) (hw : gd_Ws D (fun x : Nat => s.heap.size ≤ x) s (wX q ct X inn ah af la su sr [] dr [] ++ wM q2 ct Y inn) H locs) (hl : lv_has ls 4 [(0, .ref b), (1, .ref (q 19)), (2, .ref (q2 0)), (3, .int (nI i))]) (hN : lw_Nx p l e s m below meth c Q D ct b q q2 i) : W p l e room_1 s m #[Value.ref b] below meth c H locs 28 23232 Q (F0 m 313 ls []) := by
  have hx := cx.1
  have hb := cx.2.1
  have hbA : ¬ (fun x : Nat => s.heap.size ≤ x) b := Nat.not_le.mpr hbl
  obtain ⟨hWF, hR, hinn⟩ := hI
  have hWY := hR.wf hWF
  refine lv_aload_n hx hb d_law_law_313 rfl (lv_at hl 1 rfl) ?_
  refine lv_aload_n hx hb d_law_law_314 rfl (lv_at hl 0 rfl) ?_
  refine lv_iload_n hx hb d_law_law_315 rfl (lv_at hl 3 rfl) ?_
  refine lv_iconst (v := nI 1) hx hb d_law_law_316 (by decide) ?_
  refine gd_iadd hx hb d_law_law_317 ?_
  refine gd_scr hx hb hX hbl hbA hw (by omega) hL d_law_law_318 ?_
  refine gd_callVI (As := [.int (xs (i + 1))]) (rest := []) cx hw (c_X_in l D ct _ q X inn ah af la su sr ([]) dr ([]) (xs (i + 1)) hWF) cv_law_39 ⟨by decide, by decide⟩ ⟨rfl, rfl⟩ [0, 1, 2, 3, 4, 5, 6, 7, 8, 9, 10, 11, 12, 13, 14, 15, 16, 17, 18, 19] rfl rfl 19 0 rfl rfl (gd_jr hw [0, 1, 2, 3, 4, 5, 6, 7, 8, 9, 10, 11, 12, 13, 14, 15, 16, 17, 18, 19] rfl) rfl hl.1 rfl (Nat.le_of_ble_eq_true rfl) ⟨Nat.le_of_ble_eq_true rfl, Nat.le_of_ble_eq_true rfl⟩ d_law_law_319 (fun r1 u1 H locs hp1 hw => ?_)
  refine lv_aload_n hx hb d_law_law_322 rfl (lv_at hl 2 rfl) ?_
  refine lv_aload_n hx hb d_law_law_323 rfl (lv_at hl 0 rfl) ?_
  refine lv_iload_n hx hb d_law_law_324 rfl (lv_at hl 3 rfl) ?_
  refine lv_iconst (v := nI 1) hx hb d_law_law_325 (by decide) ?_
  refine gd_iadd hx hb d_law_law_326 ?_
  refine gd_scr hx hb hX hbl hbA hw (by omega) hL d_law_law_327 ?_
  refine gd_callVI (As := [.int (xs (i + 1))]) (rest := [.int r1]) cx hw (c_M_in l D ct _ q2 Y inn (xs (i + 1))) cv_law_42 ⟨by decide, by decide⟩ ⟨rfl, rfl⟩ [20, 21, 22, 23, 24, 25, 26, 27] rfl rfl 0 4 rfl rfl (gd_jr hw [20, 21, 22, 23, 24, 25, 26, 27] rfl) rfl hl.1 rfl (Nat.le_of_ble_eq_true rfl) ⟨Nat.le_of_ble_eq_true rfl, Nat.le_of_ble_eq_true rfl⟩ d_law_law_328 (fun r2 u2 H locs hp2 hw => ?_)
  refine lv_icmp_eq (tgt := 430) hx hb d_law_law_331 (by decide) (fun hc => ?_) (fun hc => absurd (by rw [hp1, hp2, mx_inF_ext hWF.n hinn]) hc)
  exact hN X Y inn ah af la su sr dr H locs ls ⟨hWF, hR, hinn⟩ hw hl
set_option maxHeartbeats 4000000 in
set_option maxRecDepth 100000 in
/-- perform -/
theorem lw_case6 {p : Program} {l : Launch} {e : Env} {s : State} {m : MethodId} {below : List Frame} {meth : Method} {c : Code} {Q : State → Prop} {D : va_G} {ct : Nat → ClassId} {b L : Nat} {xs : Nat → Int32} {q q2 : Nat → Nat} {X Y : GX} {inn : Nat → Bool} {ah af la : Nat → Option Nat} {su : Nat → Int} {sr dr : Nat → Int32} {H : Heap} {locs : List Loc} {ls : Array Slot} {i : Nat} (cx : gd_Cx p s m #[Value.ref b] c R_law code 4 D ct) (hX : va_X b L xs s s.heap) (hbl : b < s.heap.size) (hL : L ≤ 3072) (hi : i + 6 ≤ L) (hI : lw_I X Y inn) (hw : gd_Ws D (fun x : Nat => s.heap.size ≤ x) s (wX q ct X inn ah af la su sr [] dr [] ++ wM q2 ct Y inn) H locs) (hl : lv_has ls 4 [(0, .ref b), (1, .ref (q 19)), (2, .ref (q2 0)), (3, .int (nI i))]) (hN : lw_Nx p l e s m below meth c Q D ct b q q2 i) : W p l e room_1 s m #[Value.ref b] below meth c H locs 28 23232 Q (F0 m 336 ls []) := by
  have hx := cx.1
  have hb := cx.2.1
  have hbA : ¬ (fun x : Nat => s.heap.size ≤ x) b := Nat.not_le.mpr hbl
  obtain ⟨hWF, hR, hinn⟩ := hI
  have hWY := hR.wf hWF
  refine lv_aload_n hx hb d_law_law_336 rfl (lv_at hl 1 rfl) ?_
  refine gd_callVI (As := []) (rest := []) cx hw (c_X_perform l D ct _ q X inn ah af la su sr dr hWF hinn) cv_law_43 ⟨by decide, by decide⟩ ⟨rfl, rfl⟩ [0, 1, 2, 3, 4, 5, 6, 7, 8, 9, 10, 11, 12, 13, 14, 15, 16, 17, 18, 19] rfl rfl 19 0 rfl rfl (gd_jn (w2 := fun u => wXs q ct u.2 u.1 ++ wM q2 ct Y inn) hw [0, 1, 2, 3, 4, 5, 6, 7, 8, 9, 10, 11, 12, 13, 14, 15, 16, 17, 18, 19] [20, 21, 22, 23, 24, 25, 26, 27] [8, 9, 10, 11, 12, 13, 14, 15, 16, 17, 18, 19, 20, 21, 22, 23, 24, 25, 26, 27, 0, 1, 2, 3, 4, 5, 6, 7] rfl rfl rfl (by decide) (fun _ => rfl) rfl) rfl hl.1 rfl (Nat.le_of_ble_eq_true rfl) ⟨Nat.le_of_ble_eq_true rfl, Nat.le_of_ble_eq_true rfl⟩ d_law_law_337 (fun r1 u1 H locs hp1 hw => ?_)
  obtain ⟨⟨inn2, ah2, af2, la2, su2, sr2, dr2⟩, X2⟩ := u1
  obtain ⟨hS1, hf1⟩ := hp1
  have hS1 : mx_Sol X inn2 := hS1
  have hf1 : mx_PfP X r1 inn2 X2 := hf1
  refine lv_aload_n hx hb d_law_law_340 rfl (lv_at hl 2 rfl) ?_
  refine gd_callVI (As := []) (rest := [.int r1]) cx hw (c_M_perform l D ct _ q2 Y inn hWY (fun j hj => hinn j (by rw [hR.1]; exact hj))) cv_law_46 ⟨by decide, by decide⟩ ⟨rfl, rfl⟩ [20, 21, 22, 23, 24, 25, 26, 27] rfl rfl 0 4 rfl rfl (gd_jn (w2 := fun u => wX q ct X2 inn2 ah2 af2 la2 su2 sr2 [] dr2 [] ++ wM q2 ct u.2 u.1) hw [20, 21, 22, 23, 24, 25, 26, 27] [0, 1, 2, 3, 4, 5, 6, 7, 8, 9, 10, 11, 12, 13, 14, 15, 16, 17, 18, 19] [0, 1, 2, 3, 4, 5, 6, 7, 8, 9, 10, 11, 12, 13, 14, 15, 16, 17, 18, 19, 20, 21, 22, 23, 24, 25, 26, 27] rfl rfl rfl (by decide) (fun _ => rfl) rfl) rfl hl.1 rfl (Nat.le_of_ble_eq_true rfl) ⟨Nat.le_of_ble_eq_true rfl, Nat.le_of_ble_eq_true rfl⟩ d_law_law_341 (fun r2 u2 H locs hp2 hw => ?_)
  obtain ⟨ch2, Y2⟩ := u2
  obtain ⟨hS2, hf2⟩ := hp2
  have hS2 : mx_Sol Y ch2 := hS2
  have hf2 : mx_PfP Y r2 ch2 Y2 := hf2
  have es : inn2 = ch2 := mx_Sol_one hS1 (hR.sm.sol hS2)
  subst es
  have ho := mx_Sol_out hWF hS1
  have hfin : r1 = r2 ∧ lw_I X2 Y2 inn2 := by
    rcases hf1 with ⟨⟨po, a1, a2⟩, a3, a4⟩ | ⟨a1, a2, a3⟩ <;> rcases hf2 with ⟨⟨po2, b1, b2⟩, b3, b4⟩ | ⟨b1, b2, b3⟩
    · rw [a3, b3, a4, b4]; exact ⟨rfl, hWF, hR, ho⟩
    · have h1 := b1 po a1
      rw [← hR.tot inn2 a1] at h1
      omega
    · have h1 := a1 po2 b1
      rw [hR.tot inn2 b1] at h1
      omega
    · exact ⟨by rw [a2, b2, hR.1], mx_Pf_wf hWF a3 hS1.1 a1, mx_Pf_rel hR a3 b3, fun j hj => ho j (by rw [a3.1] at hj; exact hj)⟩
  refine lv_icmp_eq (tgt := 430) hx hb d_law_law_344 (by decide) (fun hc => ?_) (fun hc => absurd hfin.1 hc)
  exact hN X2 Y2 inn2 ah2 af2 la2 su2 sr2 dr2 H locs ls hfin.2 hw hl
set_option maxHeartbeats 4000000 in
set_option maxRecDepth 100000 in
/-- value -/
theorem lw_case7 {p : Program} {l : Launch} {e : Env} {s : State} {m : MethodId} {below : List Frame} {meth : Method} {c : Code} {Q : State → Prop} {D : va_G} {ct : Nat → ClassId} {b L : Nat} {xs : Nat → Int32} {q q2 : Nat → Nat} {X Y : GX} {inn : Nat → Bool} {ah af la : Nat → Option Nat} {su : Nat → Int} {sr dr : Nat → Int32} {H : Heap} {locs : List Loc} {ls : Array Slot} {i : Nat} (cx : gd_Cx p s m #[Value.ref b] c R_law code 4 D ct) (hX : va_X b L xs s s.heap) (hbl : b < s.heap.size) (hL : L ≤ 3072) (hi : i + 6 ≤ L) (hI : lw_I X Y inn) (hw : gd_Ws D (fun x : Nat => s.heap.size ≤ x) s (wX q ct X inn ah af la su sr [] dr [] ++ wM q2 ct Y inn) H locs) (hl : lv_has ls 4 [(0, .ref b), (1, .ref (q 19)), (2, .ref (q2 0)), (3, .int (nI i))]) (hN : lw_Nx p l e s m below meth c Q D ct b q q2 i) : W p l e room_1 s m #[Value.ref b] below meth c H locs 28 23232 Q (F0 m 349 ls []) := by
  have hx := cx.1
  have hb := cx.2.1
  have hbA : ¬ (fun x : Nat => s.heap.size ≤ x) b := Nat.not_le.mpr hbl
  obtain ⟨hWF, hR, hinn⟩ := hI
  have hWY := hR.wf hWF
  refine lv_aload_n hx hb d_law_law_349 rfl (lv_at hl 1 rfl) ?_
  refine lv_aload_n hx hb d_law_law_350 rfl (lv_at hl 0 rfl) ?_
  refine lv_iload_n hx hb d_law_law_351 rfl (lv_at hl 3 rfl) ?_
  refine lv_iconst (v := nI 1) hx hb d_law_law_352 (by decide) ?_
  refine gd_iadd hx hb d_law_law_353 ?_
  refine gd_scr hx hb hX hbl hbA hw (by omega) hL d_law_law_354 ?_
  refine gd_callVL (As := [.int (xs (i + 1))]) (rest := []) cx hw (c_X_value l D ct _ q X inn ah af la su sr ([]) dr ([]) (xs (i + 1))) cv_law_47 ⟨by decide, by decide⟩ ⟨rfl, rfl⟩ [0, 1, 2, 3, 4, 5, 6, 7, 8, 9, 10, 11, 12, 13, 14, 15, 16, 17, 18, 19] rfl rfl 19 0 rfl rfl (gd_jr hw [0, 1, 2, 3, 4, 5, 6, 7, 8, 9, 10, 11, 12, 13, 14, 15, 16, 17, 18, 19] rfl) rfl hl.1 rfl (Nat.le_of_ble_eq_true rfl) ⟨Nat.le_of_ble_eq_true rfl, Nat.le_of_ble_eq_true rfl⟩ d_law_law_355 (fun r1 u1 H locs hp1 hw => ?_)
  refine lv_aload_n hx hb d_law_law_358 rfl (lv_at hl 2 rfl) ?_
  refine lv_aload_n hx hb d_law_law_359 rfl (lv_at hl 0 rfl) ?_
  refine lv_iload_n hx hb d_law_law_360 rfl (lv_at hl 3 rfl) ?_
  refine lv_iconst (v := nI 1) hx hb d_law_law_361 (by decide) ?_
  refine gd_iadd hx hb d_law_law_362 ?_
  refine gd_scr hx hb hX hbl hbA hw (by omega) hL d_law_law_363 ?_
  refine gd_callVL (As := [.int (xs (i + 1))]) (rest := [.long r1]) cx hw (c_M_value l D ct _ q2 Y inn (xs (i + 1))) cv_law_51 ⟨by decide, by decide⟩ ⟨rfl, rfl⟩ [20, 21, 22, 23, 24, 25, 26, 27] rfl rfl 0 4 rfl rfl (gd_jr hw [20, 21, 22, 23, 24, 25, 26, 27] rfl) rfl hl.1 rfl (Nat.le_of_ble_eq_true rfl) ⟨Nat.le_of_ble_eq_true rfl, Nat.le_of_ble_eq_true rfl⟩ d_law_law_364 (fun r2 u2 H locs hp2 hw => ?_)
  refine gd_leq (tgt := 430) hx hb d_law_law_367 d_law_law_368 (by decide) (by rw [hp1, hp2, mx_vF_rel hR]) ?_
  exact hN X Y inn ah af la su sr dr H locs ls ⟨hWF, hR, hinn⟩ hw hl
set_option maxHeartbeats 4000000 in
set_option maxRecDepth 100000 in
/-- netOf -/
theorem lw_case8 {p : Program} {l : Launch} {e : Env} {s : State} {m : MethodId} {below : List Frame} {meth : Method} {c : Code} {Q : State → Prop} {D : va_G} {ct : Nat → ClassId} {b L : Nat} {xs : Nat → Int32} {q q2 : Nat → Nat} {X Y : GX} {inn : Nat → Bool} {ah af la : Nat → Option Nat} {su : Nat → Int} {sr dr : Nat → Int32} {H : Heap} {locs : List Loc} {ls : Array Slot} {i : Nat} (cx : gd_Cx p s m #[Value.ref b] c R_law code 4 D ct) (hX : va_X b L xs s s.heap) (hbl : b < s.heap.size) (hL : L ≤ 3072) (hi : i + 6 ≤ L) (hI : lw_I X Y inn) (hw : gd_Ws D (fun x : Nat => s.heap.size ≤ x) s (wX q ct X inn ah af la su sr [] dr [] ++ wM q2 ct Y inn) H locs) (hl : lv_has ls 4 [(0, .ref b), (1, .ref (q 19)), (2, .ref (q2 0)), (3, .int (nI i))]) (hN : lw_Nx p l e s m below meth c Q D ct b q q2 i) : W p l e room_1 s m #[Value.ref b] below meth c H locs 28 23232 Q (F0 m 373 ls []) := by
  have hx := cx.1
  have hb := cx.2.1
  have hbA : ¬ (fun x : Nat => s.heap.size ≤ x) b := Nat.not_le.mpr hbl
  obtain ⟨hWF, hR, hinn⟩ := hI
  have hWY := hR.wf hWF
  refine lv_aload_n hx hb d_law_law_373 rfl (lv_at hl 1 rfl) ?_
  refine lv_aload_n hx hb d_law_law_374 rfl (lv_at hl 0 rfl) ?_
  refine lv_iload_n hx hb d_law_law_375 rfl (lv_at hl 3 rfl) ?_
  refine lv_iconst (v := nI 1) hx hb d_law_law_376 (by decide) ?_
  refine gd_iadd hx hb d_law_law_377 ?_
  refine gd_scr hx hb hX hbl hbA hw (by omega) hL d_law_law_378 ?_
  refine lv_aload_n hx hb d_law_law_379 rfl (lv_at hl 0 rfl) ?_
  refine lv_iload_n hx hb d_law_law_380 rfl (lv_at hl 3 rfl) ?_
  refine lv_iconst (v := nI 2) hx hb d_law_law_381 (by decide) ?_
  refine gd_iadd hx hb d_law_law_382 ?_
  refine gd_scr hx hb hX hbl hbA hw (by omega) hL d_law_law_383 ?_
  refine gd_callVL (As := [.int (xs (i + 1)), .int (xs (i + 2))]) (rest := []) cx hw (c_X_netOf l D ct _ q X inn ah af la su sr ([]) dr ([]) (xs (i + 1)) (xs (i + 2)) hWF) cv_law_52 ⟨by decide, by decide⟩ ⟨rfl, rfl⟩ [0, 1, 2, 3, 4, 5, 6, 7, 8, 9, 10, 11, 12, 13, 14, 15, 16, 17, 18, 19] rfl rfl 19 0 rfl rfl (gd_jr hw [0, 1, 2, 3, 4, 5, 6, 7, 8, 9, 10, 11, 12, 13, 14, 15, 16, 17, 18, 19] rfl) rfl hl.1 rfl (Nat.le_of_ble_eq_true rfl) ⟨Nat.le_of_ble_eq_true rfl, Nat.le_of_ble_eq_true rfl⟩ d_law_law_384 (fun r1 u1 H locs hp1 hw => ?_)
  refine lv_aload_n hx hb d_law_law_387 rfl (lv_at hl 2 rfl) ?_
  refine lv_aload_n hx hb d_law_law_388 rfl (lv_at hl 0 rfl) ?_
  refine lv_iload_n hx hb d_law_law_389 rfl (lv_at hl 3 rfl) ?_
  refine lv_iconst (v := nI 1) hx hb d_law_law_390 (by decide) ?_
  refine gd_iadd hx hb d_law_law_391 ?_
  refine gd_scr hx hb hX hbl hbA hw (by omega) hL d_law_law_392 ?_
  refine lv_aload_n hx hb d_law_law_393 rfl (lv_at hl 0 rfl) ?_
  refine lv_iload_n hx hb d_law_law_394 rfl (lv_at hl 3 rfl) ?_
  refine lv_iconst (v := nI 2) hx hb d_law_law_395 (by decide) ?_
  refine gd_iadd hx hb d_law_law_396 ?_
  refine gd_scr hx hb hX hbl hbA hw (by omega) hL d_law_law_397 ?_
  refine gd_callVL (As := [.int (xs (i + 1)), .int (xs (i + 2))]) (rest := [.long r1]) cx hw (c_M_netOf l D ct _ q2 Y inn (xs (i + 1)) (xs (i + 2)) hWY) cv_law_56 ⟨by decide, by decide⟩ ⟨rfl, rfl⟩ [20, 21, 22, 23, 24, 25, 26, 27] rfl rfl 0 4 rfl rfl (gd_jr hw [20, 21, 22, 23, 24, 25, 26, 27] rfl) rfl hl.1 rfl (Nat.le_of_ble_eq_true rfl) ⟨Nat.le_of_ble_eq_true rfl, Nat.le_of_ble_eq_true rfl⟩ d_law_law_398 (fun r2 u2 H locs hp2 hw => ?_)
  refine gd_leq (tgt := 430) hx hb d_law_law_401 d_law_law_402 (by decide) (by rw [hp1, hp2, mx_nF_rel hR]) ?_
  exact hN X Y inn ah af la su sr dr H locs ls ⟨hWF, hR, hinn⟩ hw hl
set_option maxHeartbeats 4000000 in
set_option maxRecDepth 100000 in
/-- count -/
theorem lw_case9 {p : Program} {l : Launch} {e : Env} {s : State} {m : MethodId} {below : List Frame} {meth : Method} {c : Code} {Q : State → Prop} {D : va_G} {ct : Nat → ClassId} {b L : Nat} {xs : Nat → Int32} {q q2 : Nat → Nat} {X Y : GX} {inn : Nat → Bool} {ah af la : Nat → Option Nat} {su : Nat → Int} {sr dr : Nat → Int32} {H : Heap} {locs : List Loc} {ls : Array Slot} {i : Nat} (cx : gd_Cx p s m #[Value.ref b] c R_law code 4 D ct) (hX : va_X b L xs s s.heap) (hbl : b < s.heap.size) (hL : L ≤ 3072) (hi : i + 6 ≤ L) (hI : lw_I X Y inn) (hw : gd_Ws D (fun x : Nat => s.heap.size ≤ x) s (wX q ct X inn ah af la su sr [] dr [] ++ wM q2 ct Y inn) H locs) (hl : lv_has ls 4 [(0, .ref b), (1, .ref (q 19)), (2, .ref (q2 0)), (3, .int (nI i))]) (hN : lw_Nx p l e s m below meth c Q D ct b q q2 i) : W p l e room_1 s m #[Value.ref b] below meth c H locs 28 23232 Q (F0 m 407 ls []) := by
  have hx := cx.1
  have hb := cx.2.1
  have hbA : ¬ (fun x : Nat => s.heap.size ≤ x) b := Nat.not_le.mpr hbl
  obtain ⟨hWF, hR, hinn⟩ := hI
  have hWY := hR.wf hWF
  refine lv_aload_n hx hb d_law_law_407 rfl (lv_at hl 1 rfl) ?_
  refine lv_aload_n hx hb d_law_law_408 rfl (lv_at hl 0 rfl) ?_
  refine lv_iload_n hx hb d_law_law_409 rfl (lv_at hl 3 rfl) ?_
  refine lv_iconst (v := nI 1) hx hb d_law_law_410 (by decide) ?_
  refine gd_iadd hx hb d_law_law_411 ?_
  refine gd_scr hx hb hX hbl hbA hw (by omega) hL d_law_law_412 ?_
  refine gd_callVI (As := [.int (xs (i + 1))]) (rest := []) cx hw (c_X_count l D ct _ q X inn ah af la su sr ([]) dr ([]) (xs (i + 1)) hWF) cv_law_57 ⟨by decide, by decide⟩ ⟨rfl, rfl⟩ [0, 1, 2, 3, 4, 5, 6, 7, 8, 9, 10, 11, 12, 13, 14, 15, 16, 17, 18, 19] rfl rfl 19 0 rfl rfl (gd_jr hw [0, 1, 2, 3, 4, 5, 6, 7, 8, 9, 10, 11, 12, 13, 14, 15, 16, 17, 18, 19] rfl) rfl hl.1 rfl (Nat.le_of_ble_eq_true rfl) ⟨Nat.le_of_ble_eq_true rfl, Nat.le_of_ble_eq_true rfl⟩ d_law_law_413 (fun r1 u1 H locs hp1 hw => ?_)
  refine lv_aload_n hx hb d_law_law_416 rfl (lv_at hl 2 rfl) ?_
  refine lv_aload_n hx hb d_law_law_417 rfl (lv_at hl 0 rfl) ?_
  refine lv_iload_n hx hb d_law_law_418 rfl (lv_at hl 3 rfl) ?_
  refine lv_iconst (v := nI 1) hx hb d_law_law_419 (by decide) ?_
  refine gd_iadd hx hb d_law_law_420 ?_
  refine gd_scr hx hb hX hbl hbA hw (by omega) hL d_law_law_421 ?_
  refine gd_callVI (As := [.int (xs (i + 1))]) (rest := [.int r1]) cx hw (c_M_count l D ct _ q2 Y inn (xs (i + 1))) cv_law_61 ⟨by decide, by decide⟩ ⟨rfl, rfl⟩ [20, 21, 22, 23, 24, 25, 26, 27] rfl rfl 0 4 rfl rfl (gd_jr hw [20, 21, 22, 23, 24, 25, 26, 27] rfl) rfl hl.1 rfl (Nat.le_of_ble_eq_true rfl) ⟨Nat.le_of_ble_eq_true rfl, Nat.le_of_ble_eq_true rfl⟩ d_law_law_422 (fun r2 u2 H locs hp2 hw => ?_)
  have et : mx_t X = mx_t Y := funext hR.2.1
  have e1 : mx_cnt (mx_t Y) 200 = mx_cnt (mx_t Y) (mx_n Y) := mx_cnt_ext 200 hWY.n (fun j hj => (hWY.out hj).1)
  have e2 : mx_cnt inn 200 = mx_cnt inn (mx_n Y) := mx_cnt_ext 200 hWY.n (fun j hj => hinn j (by rw [hR.1]; exact hj))
  refine lv_icmp_eq (tgt := 430) hx hb d_law_law_425 (by decide) (fun hc => ?_) (fun hc => absurd (by rw [hp1, hp2, e1, e2, et, hR.1]) hc)
  exact hN X Y inn ah af la su sr dr H locs ls ⟨hWF, hR, hinn⟩ hw hl
end
section
def lw_P (b : Addr) (xs : List Int32) (args : Array Value) (s : State) : Prop := args = #[.ref b] ∧ s.IntsAt b xs ∧ xs.length ≤ 3072 ∧ (Jvm.Cond.and given_1 narrow_1).before args s = true
def lw_Q (_ : Array Value) (s : State) (o : Outcome) (t : State) : Prop := o = .returned (some (.int 1)) ∧ Framed s o t [] 600000 7302250
def lw_Z (below : List Frame) (a : Array Value) (s : State) : State → Prop := fun t => ∃ o, t.status = .running ∧ Ended t below o ∧ lw_Q a s o t
/-- the law's own end, with 1 on the stack, nothing written that was there before, its room as the claim has it -/
theorem lw_ret {p : Program} {l : Launch} {e : Env} {s : State} {m : MethodId} {below : List Frame} {meth : Method} {c : Code} {b : Nat} (hx : p.tables.exec = Jvm.exec) (hb : c.code = code) (hr : meth.sig.returnType = ret) (hlocks : meth.locks = false) {pc : Nat} {H : Heap} {ls : Array Slot} (hdg : decode code pc = .ok (.ireturn, 1)) : W p l e room_1 s m #[Value.ref b] below meth c H [] 600000 7302250 (lw_Z below #[Value.ref b] s) (F0 m pc ls [.int 1]) := by
  intro T hT X
  obtain ⟨fs, hret, hrun, hended, hW, hframe⟩ := X.leave (v := some (.int 1)) (hlocks := hlocks) (fun h => by rw [hr] at h; cases h)
  have hmeth' : T.vm.method? m = some meth := X.method'
  refine ⟨T.setFrames fs, ?_, .returned (some (.int 1)), hrun, hended, rfl, ⟨_, rfl⟩, hW, hframe⟩
  jvm_step X.here [X.here.top, hx, hb, hdg, hmeth', hr, ret, narrow_b1]
  (try refine ⟨rfl, ?_⟩); (try refine ⟨rfl, ?_⟩)
  first | (intro acts; rw [hret _ acts rfl rfl rfl]) | rw [hret _ _ rfl rfl rfl]
  exact Steps.refl _
/-- what holds at the law's entry: the machine, the code, the tables' words (any of lw_tbl by 'hts w (by decide +kernel)'), the script of L ints xs at the cell b, what the Statement gives of the start (any of its parts by flat_of_before) -/
def lw_At (p : Program) (s : State) (m : MethodId) (meth : Method) (c : Code) (b L : Nat) (xs : Nat → Int32) : Prop :=
  p.tables.exec = Jvm.exec ∧ c.code = code ∧ meth.sig.returnType = ret ∧ c.maxLocals = 4 ∧ s.vm.findClass R_law = some m.cls ∧ (∀ w ∈ lw_tbl, w.before #[Value.ref b] s = true) ∧ va_X b L xs s s.heap ∧ b < s.heap.size ∧ meth.locks = false ∧ (Jvm.Cond.and given_1 narrow_1).before #[Value.ref b] s = true
set_option maxHeartbeats 4000000 in
set_option maxRecDepth 100000 in
/-- THE LAW'S LOOP: at its head the two desks agree -/
theorem law_loop {p : Program} {l : Launch} {e : Env} {s : State} {m : MethodId} {below : List Frame} {meth : Method} {c : Code} {D : va_G} {ct : Nat → ClassId} {b L : Nat} {xs : Nat → Int32} (hL : L ≤ 3072) (C0 : lw_At p s m meth c b L xs) (cx : gd_Cx p s m #[Value.ref b] c R_law code 4 D ct) (q q2 : Nat → Nat) :
    ∀ (n i : Nat), L + 7 ≤ i + n → i ≤ L + 6 → ∀ (X Y : GX) (inn : Nat → Bool) (ah af la : Nat → Option Nat) (su : Nat → Int) (sr dr : Nat → Int32) (H : Heap) (locs : List Loc) (ls : Array Slot), lw_I X Y inn → gd_Ws D (fun x : Nat => s.heap.size ≤ x) s (wX q ct X inn ah af la su sr [] dr [] ++ wM q2 ct Y inn) H locs → lv_has ls 4 [(0, .ref b), (1, .ref (q 19)), (2, .ref (q2 0)), (3, .int (nI i))] → W p l e room_1 s m #[Value.ref b] below meth c H locs 28 23232 (lw_Z below #[Value.ref b] s) (F0 m 18 ls []) := by
  obtain ⟨hx, hb, hr, hml, hown, hts, hX, hbl, hlocks, hgv⟩ := C0
  have hbA : ¬ (fun x : Nat => s.heap.size ≤ x) b := Nat.not_le.mpr hbl
  intro n
  induction n with
  | zero =>
    intro i h1 h2
    exact absurd h1 (by omega)
  | succ n ih =>
    intro i h1 h2 X Y inn ah af la su sr dr H locs ls hI hw hl
    refine lv_iload_n hx hb d_law_law_18 rfl (lv_at hl 3 rfl) ?_
    refine lv_aload_n hx hb d_law_law_19 rfl (lv_at hl 0 rfl) ?_
    refine va_slen hx hb hX hbl hbA hw.2.2.1 d_law_law_20 ?_
    refine lv_bipush (v := nI 6) hx hb d_law_law_21 (by decide) ?_
    refine lv_isub hx hb d_law_law_23 ?_
    have hsub : (nI L - nI 6).toInt = (L : Int) - 6 := pk_sub_toInt (by omega) (by decide)
    have hii : (nI i).toInt = (i : Int) := nI_toInt (by omega)
    refine lv_icmp_gt (tgt := 436) hx hb d_law_law_24 (by decide) (fun hc => ?_) (fun hc => ?_)
    · refine lv_iconst (v := 1) hx hb d_law_law_436 (by decide) ?_
      refine va_forget (fun x hx2 => hw.2.2.1.2.2 x hx2) ?_
      refine W.widen (k := 600000) (n := 7302250) (Nat.le_of_ble_eq_true rfl) (Nat.le_of_ble_eq_true rfl) ?_
      exact lw_ret hx hb hr hlocks d_law_law_437
    · have hi : i + 6 ≤ L := by
        have h3 : ¬ (nI L - nI 6 < nI i) := hc
        rw [Int32.lt_iff_toInt_lt, hsub, hii] at h3
        omega
      have hNx : lw_Nx p l e s m below meth c (lw_Z below #[Value.ref b] s) D ct b q q2 i := by
        intro X Y inn ah af la su sr dr H locs ls hI hw hl
        refine lv_iinc (v := nI (i + 6)) (lv' := [(3, .int (nI (i + 6))), (0, .ref b), (1, .ref (q 19)), (2, .ref (q2 0))]) hx hb d_law_law_430 hl (k := 3) rfl (gd_inc6 _) (by decide) rfl (fun ls hl => ?_)
        refine lv_goto (tgt := 18) hx hb d_law_law_433 (by decide) ?_
        exact ih (i + 6) (by omega) (by omega) X Y inn ah af la su sr dr H locs ls hI hw (lv_sub hl [1, 2, 3, 0] rfl)
      refine lv_aload_n hx hb d_law_law_27 rfl (lv_at hl 0 rfl) ?_
      refine lv_iload_n hx hb d_law_law_28 rfl (lv_at hl 3 rfl) ?_
      refine gd_scr hx hb hX hbl hbA hw (by omega) hL d_law_law_29 ?_
      refine lv_bipush (v := 15) hx hb d_law_law_30 (by decide) ?_
      refine lv_iand hx hb d_law_law_32 ?_
      obtain ⟨j, hj, ej⟩ := pk_andE (xs i) (m := 15) 4 (by decide)
      rw [ej]
      have hj : j < 16 := hj
      rcases (show j = 0 ∨ j = 1 ∨ j = 2 ∨ j = 3 ∨ j = 4 ∨ j = 5 ∨ j = 6 ∨ j = 7 ∨ j = 8 ∨ j = 9 ∨ 10 ≤ j by omega) with rfl | rfl | rfl | rfl | rfl | rfl | rfl | rfl | rfl | rfl | hj2
      · refine lv_tableIn (off := 55) (tgt := 88) hx hb d_law_law_33 (by decide) (by decide) (by decide) (by decide) ?_
        exact lw_case0 cx hX hbl hL hi hI hw hl hNx
      · refine lv_tableIn (off := 158) (tgt := 191) hx hb d_law_law_33 (by decide) (by decide) (by decide) (by decide) ?_
        exact lw_case1 cx hX hbl hL hi hI hw hl hNx
      · refine lv_tableIn (off := 171) (tgt := 204) hx hb d_law_law_33 (by decide) (by decide) (by decide) (by decide) ?_
        exact lw_case2 cx hX hbl hL hi hI hw hl hNx
      · refine lv_tableIn (off := 244) (tgt := 277) hx hb d_law_law_33 (by decide) (by decide) (by decide) (by decide) ?_
        exact lw_case3 cx hX hbl hL hi hI hw hl hNx
      · refine lv_tableIn (off := 267) (tgt := 300) hx hb d_law_law_33 (by decide) (by decide) (by decide) (by decide) ?_
        exact lw_case4 cx hX hbl hL hi hI hw hl hNx
      · refine lv_tableIn (off := 280) (tgt := 313) hx hb d_law_law_33 (by decide) (by decide) (by decide) (by decide) ?_
        exact lw_case5 cx hX hbl hL hi hI hw hl hNx
      · refine lv_tableIn (off := 303) (tgt := 336) hx hb d_law_law_33 (by decide) (by decide) (by decide) (by decide) ?_
        exact lw_case6 cx hX hbl hL hi hI hw hl hNx
      · refine lv_tableIn (off := 316) (tgt := 349) hx hb d_law_law_33 (by decide) (by decide) (by decide) (by decide) ?_
        exact lw_case7 cx hX hbl hL hi hI hw hl hNx
      · refine lv_tableIn (off := 340) (tgt := 373) hx hb d_law_law_33 (by decide) (by decide) (by decide) (by decide) ?_
        exact lw_case8 cx hX hbl hL hi hI hw hl hNx
      · refine lv_tableIn (off := 374) (tgt := 407) hx hb d_law_law_33 (by decide) (by decide) (by decide) (by decide) ?_
        exact lw_case9 cx hX hbl hL hi hI hw hl hNx
      · refine lv_tableOut (tgt := 430) hx hb d_law_law_33 (Or.inr (by rw [nI_toInt (by omega)]; omega)) (by decide) ?_
        exact hNx X Y inn ah af la su sr dr H locs ls hI hw hl
theorem gd_arr {args : Array Value} {s : State} {ty : FieldType} (h : (Cond.arrayClass ty).before args s = true) (hRA : ∀ c2, s.vm.findClass ("[" ++ ty.toString) = some c2 → va_RA s c2 ty) : ∃ cA : ClassId, ArrOfT s cA ty ∧ va_RA s cA ty := by
  obtain ⟨c, k, comp, h1, h2, h3⟩ := Cond.arrayClass_spec h
  exact ⟨c, fun n z => ⟨fun k h => (by cases h), k, h2, comp, h3⟩, hRA c h1⟩
set_option maxHeartbeats 4000000 in
set_option maxRecDepth 100000 in
/-- THE LAW, from its entry -/
theorem whole_start {p : Program} {e : Env} {s : State} {m : MethodId} {below : List Frame} {meth : Method} {c : Code} (l : Launch) {b L : Nat} {xs : Nat → Int32} (hL : L ≤ 3072) (C0 : lw_At p s m meth c b L xs) : W p l e room_1 s m #[Value.ref b] below meth c s.heap [] 0 0 (lw_Z below #[Value.ref b] s) (entryFrame m ([Value.ref b] : List Value).toArray 4) := by
  obtain ⟨hx, hb, hr, hml, hown, hts, hX, hbl, hlocks, hgv⟩ := id C0
  have htg : ∀ w ∈ gw, w.before #[Value.ref b] s = true := fun w h => hts w (gw_sub h)
  obtain ⟨c0, iS0, hKn0⟩ := u_known (C := R_X) (T := F_X) (N := 2) (n := 2) htg i_X (htg _ tw_7)
  obtain ⟨c1, iS1, hKn1⟩ := u_known (C := R_A) (T := F_A) (N := 2) (n := 2) htg i_A (htg _ tw_15)
  obtain ⟨c2, iS2, hKn2⟩ := u_known (C := R_G) (T := F_G) (N := 14) (n := 14) htg i_G (htg _ tw_31)
  obtain ⟨c3, iS3, hKn3⟩ := u_known (C := R_P) (T := F_P) (N := 3) (n := 3) htg i_P (htg _ tw_37)
  obtain ⟨c4, iS4, hKn4⟩ := u_known (C := R_M) (T := F_M) (N := 8) (n := 8) htg i_M (htg _ tw_247)
  obtain ⟨t0, hT0, hU0⟩ := gd_arr (ty := .boolean) (htg _ tw_52) (fun _ h => h)
  obtain ⟨t1, hT1, hU1⟩ := gd_arr (ty := .byte) (htg _ tw_53) (fun _ h => h)
  obtain ⟨t2, hT2, hU2⟩ := gd_arr (ty := .short) (htg _ tw_54) (fun _ h => h)
  obtain ⟨t3, hT3, hU3⟩ := gd_arr (ty := .int) (htg _ tw_55) (fun _ h => h)
  obtain ⟨t4, hT4, hU4⟩ := gd_arr (ty := .long) (htg _ tw_29) (fun _ h => h)
  obtain ⟨D, hKc⟩ : ∃ D : va_G, ∀ (k : Nat) (q : vw_C), classes[k]? = some q → u_Kn s q.1 q.2.1 q.2.2 (D.1 k) (D.2 k) := by
    refine ⟨(fun k => if k = 0 then c0 else if k = 1 then c1 else if k = 2 then c2 else if k = 3 then c3 else c4, fun k => if k = 0 then iS0 else if k = 1 then iS1 else if k = 2 then iS2 else if k = 3 then iS3 else iS4), ?_⟩
    intro k q hq
    match k, hq with
    | 0, hq => cases hq; exact hKn0
    | 1, hq => cases hq; exact hKn1
    | 2, hq => cases hq; exact hKn2
    | 3, hq => cases hq; exact hKn3
    | 4, hq => cases hq; exact hKn4
    | k + 5, hq => simp [classes] at hq
  obtain ⟨ct, hct⟩ : ∃ ct : Nat → ClassId, ∀ (k : Nat) (q : ClassId × FieldType), (gd_tys ct)[k]? = some q → ArrOfT s q.1 q.2 ∧ va_RA s q.1 q.2 := by
    refine ⟨fun k => if k = 0 then t0 else if k = 1 then t1 else if k = 2 then t2 else if k = 3 then t3 else t4, ?_⟩
    intro k q hq
    match k, hq with
    | 0, hq => cases hq; exact ⟨hT0, hU0⟩
    | 1, hq => cases hq; exact ⟨hT1, hU1⟩
    | 2, hq => cases hq; exact ⟨hT2, hU2⟩
    | 3, hq => cases hq; exact ⟨hT3, hU3⟩
    | 4, hq => cases hq; exact ⟨hT4, hU4⟩
    | k + 5, hq => simp [gd_tys] at hq
  have hN : gd_N s := ⟨va_Nw.of rfl (hts (.fieldLinkNest R_X 35 R_A "values" "[J" R_X) (List.mem_append_right _ (List.mem_of_getElem? (i := 21) (by decide +kernel)))), va_Nw.of rfl (hts (.fieldLinkNest R_X 39 R_A "floors" "[J" R_X) (List.mem_append_right _ (List.mem_of_getElem? (i := 23) (by decide +kernel)))), va_Nw.of rfl (hts (.fieldLinkNest R_X 65 R_G "there" "[Z" R_X) (List.mem_append_right _ (List.mem_of_getElem? (i := 59) (by decide +kernel)))), va_Nw.of rfl (hts (.fieldLinkNest R_X 76 R_G "in" "[Z" R_X) (List.mem_append_right _ (List.mem_of_getElem? (i := 61) (by decide +kernel)))), va_Nw.of rfl (hts (.fieldLinkNest R_X 79 R_G "sums" "[J" R_X) (List.mem_append_right _ (List.mem_of_getElem? (i := 69) (by decide +kernel)))), va_Nw.of rfl (hts (.fieldLinkNest R_X 72 R_G "size" "I" R_X) (List.mem_append_right _ (List.mem_of_getElem? (i := 73) (by decide +kernel)))), va_Nw.of rfl (hts (.methodLinkNest R_X 9 y_A_init R_X) (List.mem_append_right _ (List.mem_of_getElem? (i := 16) (by decide +kernel)))), va_Fw.of (hts (.declares y_I_value) (List.mem_append_right _ (List.mem_of_getElem? (i := 178) (by decide +kernel)))) (hts (.interfaceMethod R_I R_I "value" "(I)J") (List.mem_append_right _ (List.mem_of_getElem? (i := 177) (by decide +kernel)))) (hts (.publicMethod y_A_value) (List.mem_append_right _ (List.mem_of_getElem? (i := 183) (by decide +kernel)))) (hts (.unhidden R_A "value" "(I)J") (List.mem_append_right _ (List.mem_of_getElem? (i := 181) (by decide +kernel)))) (hts (.castable R_A R_I) (List.mem_append_right _ (List.mem_of_getElem? (i := 179) (by decide +kernel)))), va_Fw.of (hts (.declares y_I_floor) (List.mem_append_right _ (List.mem_of_getElem? (i := 196) (by decide +kernel)))) (hts (.interfaceMethod R_I R_I "floor" "(I)J") (List.mem_append_right _ (List.mem_of_getElem? (i := 195) (by decide +kernel)))) (hts (.publicMethod y_A_floor) (List.mem_append_right _ (List.mem_of_getElem? (i := 200) (by decide +kernel)))) (hts (.unhidden R_A "floor" "(I)J") (List.mem_append_right _ (List.mem_of_getElem? (i := 198) (by decide +kernel)))) (hts (.castable R_A R_I) (List.mem_append_right _ (List.mem_of_getElem? (i := 179) (by decide +kernel))))⟩
  have cx : gd_Cx p s m #[Value.ref b] c R_law code 4 D ct := ⟨hx, hb, hml, hown, htg, ⟨hKc, hct⟩, hN⟩
  have hw : gd_Ws D (fun x : Nat => s.heap.size ≤ x) s [] s.heap [] := ⟨fun k q h => by simp at h, ⟨fun i j p q h => by simp at h, fun k q h => by simp at h⟩, va_S.rf, fun _ h => h⟩
  have hl := lv_entry ([.ref b]) (n := 4) (Nat.le_of_ble_eq_true rfl)
  rw [lg_entry_eq]
  generalize (lg_sl ([.ref b]) ++ List.replicate (4 - (lg_sl ([.ref b])).length) Slot.unset).toArray = ls at hl ⊢
  have hl : lv_has ls 4 [(0, .ref b)] := hl
  refine gd_new (fs := [.null, .null]) i_X t_X t_X_ok cx hw tw_6 tw_7 tw_1 (ci := 0) rfl (fun j hj => by rcases (show j = 0 ∨ j = 1 by omega) with rfl | rfl <;> rfl) (Nat.le_of_ble_eq_true rfl) (Nat.le_of_ble_eq_true rfl) d_law_law_0 (fun d0 H hw => ?_)
  have hw : gd_Ws D (fun x : Nat => s.heap.size ≤ x) s [(d0, .inr (0, [.null, .null]))] H [] := hw
  refine lv_dup hx hb d_law_law_3 rfl ?_
  refine gd_callIV (n := 0) (As := []) (rest := [.ref d0]) cx hw (c_X_init l D ct _ d0) tw_10 tw_1 tw_8 tw_9 rfl (by decide +kernel) ⟨(Nat.le_of_ble_eq_true rfl), (Nat.le_of_ble_eq_true rfl)⟩ ⟨rfl, rfl⟩ [0] rfl rfl (gd_jn (w2 := fun u => wX0 u ct) hw [0] [] [0, 1, 2, 3, 4, 5, 6, 7, 8, 9, 10, 11, 12, 13, 14, 15, 16, 17, 18, 19] rfl rfl rfl (by decide) (fun _ => rfl) rfl) rfl hl.1 rfl (Nat.le_of_ble_eq_true rfl) ⟨(Nat.le_of_ble_eq_true rfl), (Nat.le_of_ble_eq_true rfl)⟩ d_law_law_4 (fun q H locs hq hw1 => ?_)
  have hq : q 19 = d0 := hq
  subst hq
  have hw := hw1
  refine lv_astore_n (lv' := [(1, .ref (q 19)), (0, .ref b)]) hx hb d_law_law_7 rfl hl (by decide) rfl (fun ls hl => ?_)
  refine gd_new (fs := [.null, .null, .int (nI 0), .null, .null, .null, .null, .null]) i_M t_M t_M_ok cx hw tw_246 tw_247 tw_5 (ci := 4) rfl (fun j hj => by rcases (show j = 0 ∨ j = 1 ∨ j = 2 ∨ j = 3 ∨ j = 4 ∨ j = 5 ∨ j = 6 ∨ j = 7 by omega) with rfl | rfl | rfl | rfl | rfl | rfl | rfl | rfl <;> rfl) (Nat.le_of_ble_eq_true rfl) (Nat.le_of_ble_eq_true rfl) d_law_law_8 (fun m0 H hw => ?_)
  have hw : gd_Ws D (fun x : Nat => s.heap.size ≤ x) s (wX0 q ct ++ [(m0, .inr (4, [.null, .null, .int (nI 0), .null, .null, .null, .null, .null]))]) H locs := hw
  refine lv_dup hx hb d_law_law_11 rfl ?_
  refine gd_callIV (n := 0) (As := []) (rest := [.ref m0]) cx hw (c_M_init l D ct _ m0) tw_250 tw_5 tw_248 tw_249 rfl (by decide +kernel) ⟨(Nat.le_of_ble_eq_true rfl), (Nat.le_of_ble_eq_true rfl)⟩ ⟨rfl, rfl⟩ [20] rfl rfl (gd_jn (w2 := fun u => wX0 q ct ++ wM u ct mx_X0 (fun _ => false)) hw [20] [0, 1, 2, 3, 4, 5, 6, 7, 8, 9, 10, 11, 12, 13, 14, 15, 16, 17, 18, 19] [0, 1, 2, 3, 4, 5, 6, 7, 8, 9, 10, 11, 12, 13, 14, 15, 16, 17, 18, 19, 20, 21, 22, 23, 24, 25, 26, 27] rfl rfl rfl (by decide) (fun _ => rfl) rfl) rfl hl.1 rfl (Nat.le_of_ble_eq_true rfl) ⟨(Nat.le_of_ble_eq_true rfl), (Nat.le_of_ble_eq_true rfl)⟩ d_law_law_12 (fun q2 H locs hq2 hw1 => ?_)
  have hq2 : q2 0 = m0 := hq2
  subst hq2
  have hw := hw1
  refine W.widen (k := 28) (n := 23232) (Nat.le_of_ble_eq_true rfl) (Nat.le_of_ble_eq_true rfl) ?_
  refine lv_astore_n (lv' := [(2, .ref (q2 0)), (1, .ref (q 19)), (0, .ref b)]) hx hb d_law_law_15 rfl hl (by decide) rfl (fun ls hl => ?_)
  refine lv_iconst (v := nI 0) hx hb d_law_law_16 (by decide) ?_
  refine lv_istore_n (lv' := [(3, .int (nI 0)), (2, .ref (q2 0)), (1, .ref (q 19)), (0, .ref b)]) hx hb d_law_law_17 rfl hl (by decide) rfl (fun ls hl => ?_)
  exact law_loop hL C0 cx q q2 (L + 7) 0 (by omega) (by omega) mx_X0 mx_X0 (fun _ => false) _ _ _ _ _ _ H locs ls ⟨mx_X0_wf, mx_Rel.rf _, fun _ _ => rfl⟩ hw (lv_sub hl [3, 2, 1, 0] rfl)
-- ===== YOUR PART ENDS =====
set_option maxHeartbeats 4000000 in
theorem lw_walk (l : Launch) (b : Addr) (xs : List Int32) : MetFree l x (headSpec (Jvm.Cond.code x code maxLocals ret :: tables_1) room_1) (lw_P b xs) (fun _ _ _ _ _ => True) lw_Q := by
  refine MetFree.of_bodyS (code := code) (maxLocals := maxLocals) (ret := ret) (by decide) ?_ ?_
  · intro args s m h hn
    obtain ⟨meth, c, h1, h2, h3, h4, h5, h6, -, -⟩ := Cond.code_spec hn (atoms_spec (ws := Jvm.Cond.code x code maxLocals ret :: tables_1) h _ List.mem_cons_self)
    exact ⟨meth, c, h1, h2, h3, h4, h5, h6⟩
  · intro p e s m args below meth c s₁ B hml0 hP _
    obtain ⟨rfl, hx, hbd, hgv⟩ := hP
    obtain ⟨scr, harrAt, hlist, hof, hsmall⟩ := hx
    obtain ⟨hcb, hkn, -, -⟩ := State.arrayAt?_spec harrAt
    have hown : s.vm.findClass R_law = some m.cls := findClass_of_methodNamed B.named
    have hts0 : ∀ c ∈ (Jvm.Cond.code x code maxLocals ret :: tables_1), c.before #[Value.ref b] s = true := atoms_spec (ws := Jvm.Cond.code x code maxLocals ret :: tables_1) B.pre
    have hts : ∀ w ∈ lw_tbl, w.before #[Value.ref b] s = true := k2_hts_sels lw_privs (fun w hw => hts0 w (List.mem_cons_of_mem _ hw)) lw_privs_ok
    have hml : c.maxLocals = 4 := B.maxLocals_eq (hts0 _ List.mem_cons_self)
    have X₀ : Stand p l e room_1 s m #[Value.ref b] below meth c s₁ [] 0 0 := Stand.of_body B
    have hh0 : s₁.heap = s.heap := by rw [B.state]; rfl
    have hsz : scr.slots.size = xs.length := by rw [← Array.length_toList, hlist, List.length_map]
    have hval : ∀ j : Nat, j < xs.length → scr.slots[j]? = some (.int (xs.getD j 0)) := fun j hj => by
      rw [← Array.getElem?_toList, hlist]
      simp [hj]
    have hbl : b < s.heap.size := (Array.getElem?_eq_some_iff.mp hcb).1
    have hX : va_X b xs.length (fun j => xs.getD j 0) s s.heap := ⟨scr, hcb, hof, hkn, hsz, hval⟩
    have K : W p l e room_1 s m #[Value.ref b] below meth c s₁.heap [] 0 0 (lw_Z below #[Value.ref b] s) (entryFrame m ([Value.ref b] : List Value).toArray 4) := by
      rw [hh0]
      exact whole_start l hbd ⟨B.exec, B.bytes, B.returns, hml, hown, hts, hX, hbl, B.notSynchronized, hgv⟩
    obtain ⟨t, a1, o, b1, b2, b3⟩ := K s₁ rfl X₀
    exact ⟨t, o, a1, b1, b2, b3⟩
theorem lw_pre_spec {args : Array Value} {s : State} (h : (Jvm.Cond.and given_1 narrow_1).before args s = true) (hr : rest_1_c.before args s = true) : ∃ (b : Addr) (xs : List Int32), lw_P b xs args s := by
  have hs := flat_of_before _ h
  have hq := flat_of_before _ hr
  have hc : (Cond.count 1).before args s = true := hs _ (by decide +kernel)
  have harr : (Cond.arrayOf (.arg 0) .int).before args s = true := hs _ (by decide +kernel)
  have hle : (Cond.le (.length (.arg 0)) (.int 3072)).before args s = true := hs _ (by decide +kernel)
  have hlen : (Cond.isInt (.length (.arg 0))).before args s = true := hq _ (by decide +kernel)
  have hall : (Cond.all (.arg 0) (.isInt (.elem (.arg 0) (.index 0)))).before args s = true := hq _ (by decide +kernel)
  obtain ⟨b, xs, hb, hx⟩ := State.ints_of_pre rfl harr hlen hall
  have hsm : xs.length < 2 ^ 31 := hx.choose_spec.2.2.2
  have hev : (Term.length (.arg 0)).eval args s none [] s = some (.int xs.length.toInt32) := hx.length_eval hb
  have hv := Cond.le_ints hev (show (Term.int 3072).eval args s none [] s = some (.int 3072) from rfl)
  have hd : xs.length.toInt32 ≤ 3072 := by
    simpa [Cond.before, Cond.holds, hv] using hle
  have hN : xs.length ≤ 3072 := (Int32.ofNat_le_ofNat hsm (by decide)).mp (show Int32.ofNat xs.length ≤ Int32.ofNat 3072 from hd)
  exact ⟨b, xs, Cond.one_arg hc (show args[0]? = some (.ref b) from hb), hx, hN, h⟩
theorem lw_comes (l : Launch) : Comes l x (Jvm.Cond.code x code maxLocals ret :: tables_1) room_1 (fun tb e args s => Calls_1 tb e args s ∧ rest_1 tb e args s ∧ Pre_1 tb e args s)
    (fun _ _ args s o t => lw_Q args s o t) := by
  intro p e ha hc hk s m args below hf hfit hheap happ hpre
  obtain ⟨b, xs, hP⟩ := lw_pre_spec hpre.2.2 hpre.2.1
  obtain ⟨k, o, h1, h2, h3, hQ⟩ := lw_walk l b xs p e ha hc hk s m args below hf ((Spec.applies_iff_loose hf).mp happ).1 hP trivial
  exact ⟨k, o, h1, h2, h3, hQ⟩
theorem lw_frame {s t : State} {o : Outcome} {args : Array Value} (h : Framed s o t [] 600000 7302250) :
    Framed s o t (fieldLocs frame_1_writes args s ++ arrayLocs frame_1_arrays args s ++ staticLocs frame_1_statics s) 600000 7302250 := h
theorem lw_limb (L : Cond) (hL : ∀ (args : Array Value) (s t : State), L.after args s (.returned (some (.int 1))) t = true) :
    ArmFor flags0 classFile x code maxLocals ret World_1 tables_1 room_1 Calls_1 rest_1 Pre_1
      (fun tb e a s o t => postC L tb e a s o t ∧ Framed s o t (fieldLocs frame_1_writes a s ++ arrayLocs frame_1_arrays a s ++ staticLocs frame_1_statics s) 600000 7302250) := by
  intro l _ _ _ p e ha hc hk s m args below hf hfit hheap happ hpre
  obtain ⟨k, o, h1, h2, h3, rfl, hF⟩ := lw_comes l p e ha hc hk s m args below hf hfit hheap happ hpre
  exact ⟨k, _, h1, h2, h3, hL args s _, lw_frame hF⟩
theorem i_vc : Claimed_1_1 ∧ Claimed_1_2 := ⟨lw_limb limb_1_1 (fun args s t => by simp [limb_1_1, Cond.after, Cond.holds, Cond.value]), lw_limb limb_1_2 (fun args s t => Cond.after_iff.mpr (by
  first | (rw [show limb_1_2 = Cond.eq .result (.int 1) from rfl, Cond.eq_ints (x := 1) (y := 1) rfl rfl]; simp; done) | (simp [limb_1_2, Cond.value, Term.eval]; done)))⟩
end
